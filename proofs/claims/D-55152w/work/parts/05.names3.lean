/-! BrushSellersModel -/
set_option maxRecDepth 100000
def RX3 : String := "BrushSellersModel"
def TX3 : u_T := fun k => match k with
  | 0 => ("BrushSellersModel", "now", "[I", true)
  | 1 => ("BrushSellersModel", "tried", "[I", true)
  | 2 => ("BrushSellersModel", "kept", "[I", true)
  | 3 => ("BrushSellersModel", "undos", "I", false)
  | 4 => ("BrushSellersModel", "saved", "[I", true)
  | 5 => ("BrushSellersModel", "isSaved", "Z", false)
  | 6 => ("BrushSellersModel", "line", "[I", true)
  | 7 => ("BrushSellersModel", "lined", "I", false)
  | 8 => ("BrushSellersModel", "text", "[I", true)
  | 9 => ("BrushSellersModel", "length", "I", false)
  | 10 => ("BrushSellersModel", "at", "I", false)
  | 11 => ("BrushSellersModel", "order", "I", false)
  | 12 => ("BrushSellersModel", "told", "[I", true)
  | 13 => ("BrushSellersModel", "reason", "I", false)
  | 14 => ("BrushSellersModel", "detail", "I", false)
  | _ => ("BrushSellersModel", "answer", "I", false)
def tyX3 : Nat → FieldType := fun k => match k with
  | 0 => .array .int
  | 1 => .array .int
  | 2 => .array .int
  | 3 => .int
  | 4 => .array .int
  | 5 => .boolean
  | 6 => .array .int
  | 7 => .int
  | 8 => .array .int
  | 9 => .int
  | 10 => .int
  | 11 => .int
  | 12 => .array .int
  | 13 => .int
  | 14 => .int
  | _ => .int
abbrev wsX30 : List Cond := u_ws RX3 TX3 16
set_option maxRecDepth 100000 in
theorem nmX3 : ∀ a, a < 16 → ∀ b, b < 16 → a ≠ b → (TX3 a).2.1 ≠ (TX3 b).2.1 := by decide +kernel
set_option maxRecDepth 100000 in
theorem tyX3_ok : ∀ k, k < 16 → parseFieldDescriptor (TX3 k).2.2.1 = some (tyX3 k) := by decide +kernel
abbrev cX3_init : ByteArray := prog_12_method_1_code
def yX3_init : MethodName := ⟨RX3, "<init>", "()V"⟩
def dkwX3_init_5 : List UInt8 := [16, 53, 7, 27, 104, 96, 8, 79, 132, 1, 1, 167, 255, 235, 177]
abbrev dktX3_init_5 : List UInt8 := dkwX3_init_5 ++ []
def dkwX3_init_4 : List UInt8 := [27, 96, 16, 40, 79, 132, 1, 1, 167, 255, 237, 3, 60, 27, 16, 20, 162, 0, 21, 42, 180, 0, 9]
abbrev dktX3_init_4 : List UInt8 := dkwX3_init_4 ++ dktX3_init_5
def dkwX3_init_3 : List UInt8 := [16, 50, 79, 42, 180, 0, 9, 8, 16, 120, 79, 3, 60, 27, 6, 162, 0, 20, 42, 180, 0, 9, 16, 14]
abbrev dktX3_init_3 : List UInt8 := dkwX3_init_3 ++ dktX3_init_4
def dkwX3_init_2 : List UInt8 := [181, 0, 22, 42, 16, 60, 188, 10, 181, 0, 25, 42, 6, 188, 10, 181, 0, 28, 42, 180, 0, 9, 7]
abbrev dktX3_init_2 : List UInt8 := dkwX3_init_2 ++ dktX3_init_3
def dkwX3_init_1 : List UInt8 := [17, 12, 232, 188, 10, 181, 0, 16, 42, 17, 1, 157, 188, 10, 181, 0, 19, 42, 16, 60, 188, 10]
abbrev dktX3_init_1 : List UInt8 := dkwX3_init_1 ++ dktX3_init_2
def dkwX3_init_0 : List UInt8 := [42, 183, 0, 3, 42, 17, 1, 157, 188, 10, 181, 0, 9, 42, 17, 1, 157, 188, 10, 181, 0, 13, 42]
abbrev dktX3_init_0 : List UInt8 := dkwX3_init_0 ++ dktX3_init_1
theorem dksX3_init_0 : cX3_init.data.toList.drop 0 = dktX3_init_0 := by decide +kernel
theorem dksX3_init_1 : cX3_init.data.toList.drop 23 = dktX3_init_1 := dk_seg dksX3_init_0 23 rfl rfl
theorem dksX3_init_2 : cX3_init.data.toList.drop 45 = dktX3_init_2 := dk_seg dksX3_init_1 22 rfl rfl
theorem dksX3_init_3 : cX3_init.data.toList.drop 68 = dktX3_init_3 := dk_seg dksX3_init_2 23 rfl rfl
theorem dksX3_init_4 : cX3_init.data.toList.drop 92 = dktX3_init_4 := dk_seg dksX3_init_3 24 rfl rfl
theorem dksX3_init_5 : cX3_init.data.toList.drop 115 = dktX3_init_5 := dk_seg dksX3_init_4 23 rfl rfl
theorem dX3_init_0 : decode cX3_init 0 = .ok (.aload_n 0, 1) := dk_42 (dk_at dksX3_init_0 0 rfl rfl)
theorem dX3_init_1 : decode cX3_init 1 = .ok (.invokespecial 3, 3) := dk_183 0 3 (dk_at dksX3_init_0 1 rfl rfl)
theorem dX3_init_4 : decode cX3_init 4 = .ok (.aload_n 0, 1) := dk_42 (dk_at dksX3_init_0 4 rfl rfl)
theorem dX3_init_5 : decode cX3_init 5 = .ok (.sipush 413, 3) := dk_17 1 157 (dk_at dksX3_init_0 5 rfl rfl)
theorem dX3_init_8 : decode cX3_init 8 = .ok (.newarray .int, 2) := dk_188_10 (dk_at dksX3_init_0 8 rfl rfl)
theorem dX3_init_10 : decode cX3_init 10 = .ok (.putfield 9, 3) := dk_181 0 9 (dk_at dksX3_init_0 10 rfl rfl)
theorem dX3_init_13 : decode cX3_init 13 = .ok (.aload_n 0, 1) := dk_42 (dk_at dksX3_init_0 13 rfl rfl)
theorem dX3_init_14 : decode cX3_init 14 = .ok (.sipush 413, 3) := dk_17 1 157 (dk_at dksX3_init_0 14 rfl rfl)
theorem dX3_init_17 : decode cX3_init 17 = .ok (.newarray .int, 2) := dk_188_10 (dk_at dksX3_init_0 17 rfl rfl)
theorem dX3_init_19 : decode cX3_init 19 = .ok (.putfield 13, 3) := dk_181 0 13 (dk_at dksX3_init_0 19 rfl rfl)
theorem dX3_init_22 : decode cX3_init 22 = .ok (.aload_n 0, 1) := dk_42 (dk_at dksX3_init_0 22 rfl rfl)
theorem dX3_init_23 : decode cX3_init 23 = .ok (.sipush 3304, 3) := dk_17 12 232 (dk_at dksX3_init_1 0 rfl rfl)
theorem dX3_init_26 : decode cX3_init 26 = .ok (.newarray .int, 2) := dk_188_10 (dk_at dksX3_init_1 3 rfl rfl)
theorem dX3_init_28 : decode cX3_init 28 = .ok (.putfield 16, 3) := dk_181 0 16 (dk_at dksX3_init_1 5 rfl rfl)
theorem dX3_init_31 : decode cX3_init 31 = .ok (.aload_n 0, 1) := dk_42 (dk_at dksX3_init_1 8 rfl rfl)
theorem dX3_init_32 : decode cX3_init 32 = .ok (.sipush 413, 3) := dk_17 1 157 (dk_at dksX3_init_1 9 rfl rfl)
theorem dX3_init_35 : decode cX3_init 35 = .ok (.newarray .int, 2) := dk_188_10 (dk_at dksX3_init_1 12 rfl rfl)
theorem dX3_init_37 : decode cX3_init 37 = .ok (.putfield 19, 3) := dk_181 0 19 (dk_at dksX3_init_1 14 rfl rfl)
theorem dX3_init_40 : decode cX3_init 40 = .ok (.aload_n 0, 1) := dk_42 (dk_at dksX3_init_1 17 rfl rfl)
theorem dX3_init_41 : decode cX3_init 41 = .ok (.bipush 60, 2) := dk_16 60 (dk_at dksX3_init_1 18 rfl rfl)
theorem dX3_init_43 : decode cX3_init 43 = .ok (.newarray .int, 2) := dk_188_10 (dk_at dksX3_init_1 20 rfl rfl)
theorem dX3_init_45 : decode cX3_init 45 = .ok (.putfield 22, 3) := dk_181 0 22 (dk_at dksX3_init_2 0 rfl rfl)
theorem dX3_init_48 : decode cX3_init 48 = .ok (.aload_n 0, 1) := dk_42 (dk_at dksX3_init_2 3 rfl rfl)
theorem dX3_init_49 : decode cX3_init 49 = .ok (.bipush 60, 2) := dk_16 60 (dk_at dksX3_init_2 4 rfl rfl)
theorem dX3_init_51 : decode cX3_init 51 = .ok (.newarray .int, 2) := dk_188_10 (dk_at dksX3_init_2 6 rfl rfl)
theorem dX3_init_53 : decode cX3_init 53 = .ok (.putfield 25, 3) := dk_181 0 25 (dk_at dksX3_init_2 8 rfl rfl)
theorem dX3_init_56 : decode cX3_init 56 = .ok (.aload_n 0, 1) := dk_42 (dk_at dksX3_init_2 11 rfl rfl)
theorem dX3_init_57 : decode cX3_init 57 = .ok (.iconst 3, 1) := dk_6 (dk_at dksX3_init_2 12 rfl rfl)
theorem dX3_init_58 : decode cX3_init 58 = .ok (.newarray .int, 2) := dk_188_10 (dk_at dksX3_init_2 13 rfl rfl)
theorem dX3_init_60 : decode cX3_init 60 = .ok (.putfield 28, 3) := dk_181 0 28 (dk_at dksX3_init_2 15 rfl rfl)
theorem dX3_init_63 : decode cX3_init 63 = .ok (.aload_n 0, 1) := dk_42 (dk_at dksX3_init_2 18 rfl rfl)
theorem dX3_init_64 : decode cX3_init 64 = .ok (.getfield 9, 3) := dk_180 0 9 (dk_at dksX3_init_2 19 rfl rfl)
theorem dX3_init_67 : decode cX3_init 67 = .ok (.iconst 4, 1) := dk_7 (dk_at dksX3_init_2 22 rfl rfl)
theorem dX3_init_68 : decode cX3_init 68 = .ok (.bipush 50, 2) := dk_16 50 (dk_at dksX3_init_3 0 rfl rfl)
theorem dX3_init_70 : decode cX3_init 70 = .ok (.iastore, 1) := dk_79 (dk_at dksX3_init_3 2 rfl rfl)
theorem dX3_init_71 : decode cX3_init 71 = .ok (.aload_n 0, 1) := dk_42 (dk_at dksX3_init_3 3 rfl rfl)
theorem dX3_init_72 : decode cX3_init 72 = .ok (.getfield 9, 3) := dk_180 0 9 (dk_at dksX3_init_3 4 rfl rfl)
theorem dX3_init_75 : decode cX3_init 75 = .ok (.iconst 5, 1) := dk_8 (dk_at dksX3_init_3 7 rfl rfl)
theorem dX3_init_76 : decode cX3_init 76 = .ok (.bipush 120, 2) := dk_16 120 (dk_at dksX3_init_3 8 rfl rfl)
theorem dX3_init_78 : decode cX3_init 78 = .ok (.iastore, 1) := dk_79 (dk_at dksX3_init_3 10 rfl rfl)
theorem dX3_init_79 : decode cX3_init 79 = .ok (.iconst 0, 1) := dk_3 (dk_at dksX3_init_3 11 rfl rfl)
theorem dX3_init_80 : decode cX3_init 80 = .ok (.istore_n 1, 1) := dk_60 (dk_at dksX3_init_3 12 rfl rfl)
theorem dX3_init_81 : decode cX3_init 81 = .ok (.iload_n 1, 1) := dk_27 (dk_at dksX3_init_3 13 rfl rfl)
theorem dX3_init_82 : decode cX3_init 82 = .ok (.iconst 3, 1) := dk_6 (dk_at dksX3_init_3 14 rfl rfl)
theorem dX3_init_83 : decode cX3_init 83 = .ok (.if_icmp .ge 20, 3) := dk_162 0 20 (dk_at dksX3_init_3 15 rfl rfl)
theorem dX3_init_86 : decode cX3_init 86 = .ok (.aload_n 0, 1) := dk_42 (dk_at dksX3_init_3 18 rfl rfl)
theorem dX3_init_87 : decode cX3_init 87 = .ok (.getfield 9, 3) := dk_180 0 9 (dk_at dksX3_init_3 19 rfl rfl)
theorem dX3_init_90 : decode cX3_init 90 = .ok (.bipush 14, 2) := dk_16 14 (dk_at dksX3_init_3 22 rfl rfl)
theorem dX3_init_92 : decode cX3_init 92 = .ok (.iload_n 1, 1) := dk_27 (dk_at dksX3_init_4 0 rfl rfl)
theorem dX3_init_93 : decode cX3_init 93 = .ok (.iadd, 1) := dk_96 (dk_at dksX3_init_4 1 rfl rfl)
theorem dX3_init_94 : decode cX3_init 94 = .ok (.bipush 40, 2) := dk_16 40 (dk_at dksX3_init_4 2 rfl rfl)
theorem dX3_init_96 : decode cX3_init 96 = .ok (.iastore, 1) := dk_79 (dk_at dksX3_init_4 4 rfl rfl)
theorem dX3_init_97 : decode cX3_init 97 = .ok (.iinc 1 1, 3) := dk_132 1 1 (dk_at dksX3_init_4 5 rfl rfl)
theorem dX3_init_100 : decode cX3_init 100 = .ok (.goto (-19), 3) := dk_167 255 237 (dk_at dksX3_init_4 8 rfl rfl)
theorem dX3_init_103 : decode cX3_init 103 = .ok (.iconst 0, 1) := dk_3 (dk_at dksX3_init_4 11 rfl rfl)
theorem dX3_init_104 : decode cX3_init 104 = .ok (.istore_n 1, 1) := dk_60 (dk_at dksX3_init_4 12 rfl rfl)
theorem dX3_init_105 : decode cX3_init 105 = .ok (.iload_n 1, 1) := dk_27 (dk_at dksX3_init_4 13 rfl rfl)
theorem dX3_init_106 : decode cX3_init 106 = .ok (.bipush 20, 2) := dk_16 20 (dk_at dksX3_init_4 14 rfl rfl)
theorem dX3_init_108 : decode cX3_init 108 = .ok (.if_icmp .ge 21, 3) := dk_162 0 21 (dk_at dksX3_init_4 16 rfl rfl)
theorem dX3_init_111 : decode cX3_init 111 = .ok (.aload_n 0, 1) := dk_42 (dk_at dksX3_init_4 19 rfl rfl)
theorem dX3_init_112 : decode cX3_init 112 = .ok (.getfield 9, 3) := dk_180 0 9 (dk_at dksX3_init_4 20 rfl rfl)
theorem dX3_init_115 : decode cX3_init 115 = .ok (.bipush 53, 2) := dk_16 53 (dk_at dksX3_init_5 0 rfl rfl)
theorem dX3_init_117 : decode cX3_init 117 = .ok (.iconst 4, 1) := dk_7 (dk_at dksX3_init_5 2 rfl rfl)
theorem dX3_init_118 : decode cX3_init 118 = .ok (.iload_n 1, 1) := dk_27 (dk_at dksX3_init_5 3 rfl rfl)
theorem dX3_init_119 : decode cX3_init 119 = .ok (.imul, 1) := dk_104 (dk_at dksX3_init_5 4 rfl rfl)
theorem dX3_init_120 : decode cX3_init 120 = .ok (.iadd, 1) := dk_96 (dk_at dksX3_init_5 5 rfl rfl)
theorem dX3_init_121 : decode cX3_init 121 = .ok (.iconst 5, 1) := dk_8 (dk_at dksX3_init_5 6 rfl rfl)
theorem dX3_init_122 : decode cX3_init 122 = .ok (.iastore, 1) := dk_79 (dk_at dksX3_init_5 7 rfl rfl)
theorem dX3_init_123 : decode cX3_init 123 = .ok (.iinc 1 1, 3) := dk_132 1 1 (dk_at dksX3_init_5 8 rfl rfl)
theorem dX3_init_126 : decode cX3_init 126 = .ok (.goto (-21), 3) := dk_167 255 235 (dk_at dksX3_init_5 11 rfl rfl)
theorem dX3_init_129 : decode cX3_init 129 = .ok (.return_, 1) := dk_177 (dk_at dksX3_init_5 14 rfl rfl)
abbrev cX3_seller : ByteArray := prog_12_method_19_code
def yX3_seller : MethodName := ⟨RX3, "seller", "(I)I"⟩
def dkwX3_seller_3 : List UInt8 := [167, 255, 232, 42, 180, 0, 9, 16, 17, 16, 9, 28, 104, 96, 27, 79, 42, 28, 182, 0, 44, 172]
abbrev dktX3_seller_3 : List UInt8 := dkwX3_seller_3 ++ []
def dkwX3_seller_2 : List UInt8 := [29, 16, 9, 162, 0, 24, 42, 180, 0, 9, 16, 17, 16, 9, 28, 104, 96, 29, 96, 3, 79, 132, 3, 1]
abbrev dktX3_seller_2 : List UInt8 := dkwX3_seller_2 ++ dktX3_seller_3
def dkwX3_seller_1 : List UInt8 := [28, 7, 160, 0, 10, 42, 4, 7, 182, 0, 67, 172, 42, 180, 0, 9, 5, 92, 46, 4, 96, 79, 3, 62]
abbrev dktX3_seller_1 : List UInt8 := dkwX3_seller_1 ++ dktX3_seller_2
def dkwX3_seller_0 : List UInt8 := [42, 182, 0, 64, 27, 3, 16, 9, 184, 0, 48, 154, 0, 6, 16, 244, 172, 42, 180, 0, 9, 5, 46, 61]
abbrev dktX3_seller_0 : List UInt8 := dkwX3_seller_0 ++ dktX3_seller_1
theorem dksX3_seller_0 : cX3_seller.data.toList.drop 0 = dktX3_seller_0 := by decide +kernel
theorem dksX3_seller_1 : cX3_seller.data.toList.drop 24 = dktX3_seller_1 := dk_seg dksX3_seller_0 24 rfl rfl
theorem dksX3_seller_2 : cX3_seller.data.toList.drop 48 = dktX3_seller_2 := dk_seg dksX3_seller_1 24 rfl rfl
theorem dksX3_seller_3 : cX3_seller.data.toList.drop 72 = dktX3_seller_3 := dk_seg dksX3_seller_2 24 rfl rfl
theorem dX3_seller_0 : decode cX3_seller 0 = .ok (.aload_n 0, 1) := dk_42 (dk_at dksX3_seller_0 0 rfl rfl)
theorem dX3_seller_1 : decode cX3_seller 1 = .ok (.invokevirtual 64, 3) := dk_182 0 64 (dk_at dksX3_seller_0 1 rfl rfl)
theorem dX3_seller_4 : decode cX3_seller 4 = .ok (.iload_n 1, 1) := dk_27 (dk_at dksX3_seller_0 4 rfl rfl)
theorem dX3_seller_5 : decode cX3_seller 5 = .ok (.iconst 0, 1) := dk_3 (dk_at dksX3_seller_0 5 rfl rfl)
theorem dX3_seller_6 : decode cX3_seller 6 = .ok (.bipush 9, 2) := dk_16 9 (dk_at dksX3_seller_0 6 rfl rfl)
theorem dX3_seller_8 : decode cX3_seller 8 = .ok (.invokestatic 48, 3) := dk_184 0 48 (dk_at dksX3_seller_0 8 rfl rfl)
theorem dX3_seller_11 : decode cX3_seller 11 = .ok (.ifCond .ne 6, 3) := dk_154 0 6 (dk_at dksX3_seller_0 11 rfl rfl)
theorem dX3_seller_14 : decode cX3_seller 14 = .ok (.bipush (-12), 2) := dk_16 244 (dk_at dksX3_seller_0 14 rfl rfl)
theorem dX3_seller_16 : decode cX3_seller 16 = .ok (.ireturn, 1) := dk_172 (dk_at dksX3_seller_0 16 rfl rfl)
theorem dX3_seller_17 : decode cX3_seller 17 = .ok (.aload_n 0, 1) := dk_42 (dk_at dksX3_seller_0 17 rfl rfl)
theorem dX3_seller_18 : decode cX3_seller 18 = .ok (.getfield 9, 3) := dk_180 0 9 (dk_at dksX3_seller_0 18 rfl rfl)
theorem dX3_seller_21 : decode cX3_seller 21 = .ok (.iconst 2, 1) := dk_5 (dk_at dksX3_seller_0 21 rfl rfl)
theorem dX3_seller_22 : decode cX3_seller 22 = .ok (.iaload, 1) := dk_46 (dk_at dksX3_seller_0 22 rfl rfl)
theorem dX3_seller_23 : decode cX3_seller 23 = .ok (.istore_n 2, 1) := dk_61 (dk_at dksX3_seller_0 23 rfl rfl)
theorem dX3_seller_24 : decode cX3_seller 24 = .ok (.iload_n 2, 1) := dk_28 (dk_at dksX3_seller_1 0 rfl rfl)
theorem dX3_seller_25 : decode cX3_seller 25 = .ok (.iconst 4, 1) := dk_7 (dk_at dksX3_seller_1 1 rfl rfl)
theorem dX3_seller_26 : decode cX3_seller 26 = .ok (.if_icmp .ne 10, 3) := dk_160 0 10 (dk_at dksX3_seller_1 2 rfl rfl)
theorem dX3_seller_29 : decode cX3_seller 29 = .ok (.aload_n 0, 1) := dk_42 (dk_at dksX3_seller_1 5 rfl rfl)
theorem dX3_seller_30 : decode cX3_seller 30 = .ok (.iconst 1, 1) := dk_4 (dk_at dksX3_seller_1 6 rfl rfl)
theorem dX3_seller_31 : decode cX3_seller 31 = .ok (.iconst 4, 1) := dk_7 (dk_at dksX3_seller_1 7 rfl rfl)
theorem dX3_seller_32 : decode cX3_seller 32 = .ok (.invokevirtual 67, 3) := dk_182 0 67 (dk_at dksX3_seller_1 8 rfl rfl)
theorem dX3_seller_35 : decode cX3_seller 35 = .ok (.ireturn, 1) := dk_172 (dk_at dksX3_seller_1 11 rfl rfl)
theorem dX3_seller_36 : decode cX3_seller 36 = .ok (.aload_n 0, 1) := dk_42 (dk_at dksX3_seller_1 12 rfl rfl)
theorem dX3_seller_37 : decode cX3_seller 37 = .ok (.getfield 9, 3) := dk_180 0 9 (dk_at dksX3_seller_1 13 rfl rfl)
theorem dX3_seller_40 : decode cX3_seller 40 = .ok (.iconst 2, 1) := dk_5 (dk_at dksX3_seller_1 16 rfl rfl)
theorem dX3_seller_41 : decode cX3_seller 41 = .ok (.dup2, 1) := dk_92 (dk_at dksX3_seller_1 17 rfl rfl)
theorem dX3_seller_42 : decode cX3_seller 42 = .ok (.iaload, 1) := dk_46 (dk_at dksX3_seller_1 18 rfl rfl)
theorem dX3_seller_43 : decode cX3_seller 43 = .ok (.iconst 1, 1) := dk_4 (dk_at dksX3_seller_1 19 rfl rfl)
theorem dX3_seller_44 : decode cX3_seller 44 = .ok (.iadd, 1) := dk_96 (dk_at dksX3_seller_1 20 rfl rfl)
theorem dX3_seller_45 : decode cX3_seller 45 = .ok (.iastore, 1) := dk_79 (dk_at dksX3_seller_1 21 rfl rfl)
theorem dX3_seller_46 : decode cX3_seller 46 = .ok (.iconst 0, 1) := dk_3 (dk_at dksX3_seller_1 22 rfl rfl)
theorem dX3_seller_47 : decode cX3_seller 47 = .ok (.istore_n 3, 1) := dk_62 (dk_at dksX3_seller_1 23 rfl rfl)
theorem dX3_seller_48 : decode cX3_seller 48 = .ok (.iload_n 3, 1) := dk_29 (dk_at dksX3_seller_2 0 rfl rfl)
theorem dX3_seller_49 : decode cX3_seller 49 = .ok (.bipush 9, 2) := dk_16 9 (dk_at dksX3_seller_2 1 rfl rfl)
theorem dX3_seller_51 : decode cX3_seller 51 = .ok (.if_icmp .ge 24, 3) := dk_162 0 24 (dk_at dksX3_seller_2 3 rfl rfl)
theorem dX3_seller_54 : decode cX3_seller 54 = .ok (.aload_n 0, 1) := dk_42 (dk_at dksX3_seller_2 6 rfl rfl)
theorem dX3_seller_55 : decode cX3_seller 55 = .ok (.getfield 9, 3) := dk_180 0 9 (dk_at dksX3_seller_2 7 rfl rfl)
theorem dX3_seller_58 : decode cX3_seller 58 = .ok (.bipush 17, 2) := dk_16 17 (dk_at dksX3_seller_2 10 rfl rfl)
theorem dX3_seller_60 : decode cX3_seller 60 = .ok (.bipush 9, 2) := dk_16 9 (dk_at dksX3_seller_2 12 rfl rfl)
theorem dX3_seller_62 : decode cX3_seller 62 = .ok (.iload_n 2, 1) := dk_28 (dk_at dksX3_seller_2 14 rfl rfl)
theorem dX3_seller_63 : decode cX3_seller 63 = .ok (.imul, 1) := dk_104 (dk_at dksX3_seller_2 15 rfl rfl)
theorem dX3_seller_64 : decode cX3_seller 64 = .ok (.iadd, 1) := dk_96 (dk_at dksX3_seller_2 16 rfl rfl)
theorem dX3_seller_65 : decode cX3_seller 65 = .ok (.iload_n 3, 1) := dk_29 (dk_at dksX3_seller_2 17 rfl rfl)
theorem dX3_seller_66 : decode cX3_seller 66 = .ok (.iadd, 1) := dk_96 (dk_at dksX3_seller_2 18 rfl rfl)
theorem dX3_seller_67 : decode cX3_seller 67 = .ok (.iconst 0, 1) := dk_3 (dk_at dksX3_seller_2 19 rfl rfl)
theorem dX3_seller_68 : decode cX3_seller 68 = .ok (.iastore, 1) := dk_79 (dk_at dksX3_seller_2 20 rfl rfl)
theorem dX3_seller_69 : decode cX3_seller 69 = .ok (.iinc 3 1, 3) := dk_132 3 1 (dk_at dksX3_seller_2 21 rfl rfl)
theorem dX3_seller_72 : decode cX3_seller 72 = .ok (.goto (-24), 3) := dk_167 255 232 (dk_at dksX3_seller_3 0 rfl rfl)
theorem dX3_seller_75 : decode cX3_seller 75 = .ok (.aload_n 0, 1) := dk_42 (dk_at dksX3_seller_3 3 rfl rfl)
theorem dX3_seller_76 : decode cX3_seller 76 = .ok (.getfield 9, 3) := dk_180 0 9 (dk_at dksX3_seller_3 4 rfl rfl)
theorem dX3_seller_79 : decode cX3_seller 79 = .ok (.bipush 17, 2) := dk_16 17 (dk_at dksX3_seller_3 7 rfl rfl)
theorem dX3_seller_81 : decode cX3_seller 81 = .ok (.bipush 9, 2) := dk_16 9 (dk_at dksX3_seller_3 9 rfl rfl)
theorem dX3_seller_83 : decode cX3_seller 83 = .ok (.iload_n 2, 1) := dk_28 (dk_at dksX3_seller_3 11 rfl rfl)
theorem dX3_seller_84 : decode cX3_seller 84 = .ok (.imul, 1) := dk_104 (dk_at dksX3_seller_3 12 rfl rfl)
theorem dX3_seller_85 : decode cX3_seller 85 = .ok (.iadd, 1) := dk_96 (dk_at dksX3_seller_3 13 rfl rfl)
theorem dX3_seller_86 : decode cX3_seller 86 = .ok (.iload_n 1, 1) := dk_27 (dk_at dksX3_seller_3 14 rfl rfl)
theorem dX3_seller_87 : decode cX3_seller 87 = .ok (.iastore, 1) := dk_79 (dk_at dksX3_seller_3 15 rfl rfl)
theorem dX3_seller_88 : decode cX3_seller 88 = .ok (.aload_n 0, 1) := dk_42 (dk_at dksX3_seller_3 16 rfl rfl)
theorem dX3_seller_89 : decode cX3_seller 89 = .ok (.iload_n 2, 1) := dk_28 (dk_at dksX3_seller_3 17 rfl rfl)
theorem dX3_seller_90 : decode cX3_seller 90 = .ok (.invokevirtual 44, 3) := dk_182 0 44 (dk_at dksX3_seller_3 18 rfl rfl)
theorem dX3_seller_93 : decode cX3_seller 93 = .ok (.ireturn, 1) := dk_172 (dk_at dksX3_seller_3 21 rfl rfl)
abbrev cX3_tries : ByteArray := prog_12_method_3_code
def yX3_tries : MethodName := ⟨RX3, "tries", "()V"⟩
def dkwX3_tries_1 : List UInt8 := [167, 255, 234, 177]
abbrev dktX3_tries_1 : List UInt8 := dkwX3_tries_1 ++ []
def dkwX3_tries_0 : List UInt8 := [3, 60, 27, 17, 1, 157, 162, 0, 21, 42, 180, 0, 13, 27, 42, 180, 0, 9, 27, 46, 79, 132, 1, 1]
abbrev dktX3_tries_0 : List UInt8 := dkwX3_tries_0 ++ dktX3_tries_1
theorem dksX3_tries_0 : cX3_tries.data.toList.drop 0 = dktX3_tries_0 := by decide +kernel
theorem dksX3_tries_1 : cX3_tries.data.toList.drop 24 = dktX3_tries_1 := dk_seg dksX3_tries_0 24 rfl rfl
theorem dX3_tries_0 : decode cX3_tries 0 = .ok (.iconst 0, 1) := dk_3 (dk_at dksX3_tries_0 0 rfl rfl)
theorem dX3_tries_1 : decode cX3_tries 1 = .ok (.istore_n 1, 1) := dk_60 (dk_at dksX3_tries_0 1 rfl rfl)
theorem dX3_tries_2 : decode cX3_tries 2 = .ok (.iload_n 1, 1) := dk_27 (dk_at dksX3_tries_0 2 rfl rfl)
theorem dX3_tries_3 : decode cX3_tries 3 = .ok (.sipush 413, 3) := dk_17 1 157 (dk_at dksX3_tries_0 3 rfl rfl)
theorem dX3_tries_6 : decode cX3_tries 6 = .ok (.if_icmp .ge 21, 3) := dk_162 0 21 (dk_at dksX3_tries_0 6 rfl rfl)
theorem dX3_tries_9 : decode cX3_tries 9 = .ok (.aload_n 0, 1) := dk_42 (dk_at dksX3_tries_0 9 rfl rfl)
theorem dX3_tries_10 : decode cX3_tries 10 = .ok (.getfield 13, 3) := dk_180 0 13 (dk_at dksX3_tries_0 10 rfl rfl)
theorem dX3_tries_13 : decode cX3_tries 13 = .ok (.iload_n 1, 1) := dk_27 (dk_at dksX3_tries_0 13 rfl rfl)
theorem dX3_tries_14 : decode cX3_tries 14 = .ok (.aload_n 0, 1) := dk_42 (dk_at dksX3_tries_0 14 rfl rfl)
theorem dX3_tries_15 : decode cX3_tries 15 = .ok (.getfield 9, 3) := dk_180 0 9 (dk_at dksX3_tries_0 15 rfl rfl)
theorem dX3_tries_18 : decode cX3_tries 18 = .ok (.iload_n 1, 1) := dk_27 (dk_at dksX3_tries_0 18 rfl rfl)
theorem dX3_tries_19 : decode cX3_tries 19 = .ok (.iaload, 1) := dk_46 (dk_at dksX3_tries_0 19 rfl rfl)
theorem dX3_tries_20 : decode cX3_tries 20 = .ok (.iastore, 1) := dk_79 (dk_at dksX3_tries_0 20 rfl rfl)
theorem dX3_tries_21 : decode cX3_tries 21 = .ok (.iinc 1 1, 3) := dk_132 1 1 (dk_at dksX3_tries_0 21 rfl rfl)
theorem dX3_tries_24 : decode cX3_tries 24 = .ok (.goto (-22), 3) := dk_167 255 234 (dk_at dksX3_tries_1 0 rfl rfl)
theorem dX3_tries_27 : decode cX3_tries 27 = .ok (.return_, 1) := dk_177 (dk_at dksX3_tries_1 3 rfl rfl)
abbrev cX3_in : ByteArray := prog_12_method_2_code
def yX3_in : MethodName := ⟨RX3, "in", "(III)Z"⟩
def dkwX3_in_0 : List UInt8 := [26, 27, 161, 0, 12, 26, 28, 163, 0, 7, 4, 167, 0, 4, 3, 172]
abbrev dktX3_in_0 : List UInt8 := dkwX3_in_0 ++ []
theorem dksX3_in_0 : cX3_in.data.toList.drop 0 = dktX3_in_0 := by decide +kernel
theorem dX3_in_0 : decode cX3_in 0 = .ok (.iload_n 0, 1) := dk_26 (dk_at dksX3_in_0 0 rfl rfl)
theorem dX3_in_1 : decode cX3_in 1 = .ok (.iload_n 1, 1) := dk_27 (dk_at dksX3_in_0 1 rfl rfl)
theorem dX3_in_2 : decode cX3_in 2 = .ok (.if_icmp .lt 12, 3) := dk_161 0 12 (dk_at dksX3_in_0 2 rfl rfl)
theorem dX3_in_5 : decode cX3_in 5 = .ok (.iload_n 0, 1) := dk_26 (dk_at dksX3_in_0 5 rfl rfl)
theorem dX3_in_6 : decode cX3_in 6 = .ok (.iload_n 2, 1) := dk_28 (dk_at dksX3_in_0 6 rfl rfl)
theorem dX3_in_7 : decode cX3_in 7 = .ok (.if_icmp .gt 7, 3) := dk_163 0 7 (dk_at dksX3_in_0 7 rfl rfl)
theorem dX3_in_10 : decode cX3_in 10 = .ok (.iconst 1, 1) := dk_4 (dk_at dksX3_in_0 10 rfl rfl)
theorem dX3_in_11 : decode cX3_in 11 = .ok (.goto 4, 3) := dk_167 0 4 (dk_at dksX3_in_0 11 rfl rfl)
theorem dX3_in_14 : decode cX3_in 14 = .ok (.iconst 0, 1) := dk_3 (dk_at dksX3_in_0 14 rfl rfl)
theorem dX3_in_15 : decode cX3_in 15 = .ok (.ireturn, 1) := dk_172 (dk_at dksX3_in_0 15 rfl rfl)
abbrev cX3_refuses : ByteArray := prog_12_method_6_code
def yX3_refuses : MethodName := ⟨RX3, "refuses", "(II)I"⟩
def dkwX3_refuses_0 : List UInt8 := [42, 27, 181, 0, 35, 42, 28, 181, 0, 38, 16, 242, 172]
abbrev dktX3_refuses_0 : List UInt8 := dkwX3_refuses_0 ++ []
theorem dksX3_refuses_0 : cX3_refuses.data.toList.drop 0 = dktX3_refuses_0 := by decide +kernel
theorem dX3_refuses_0 : decode cX3_refuses 0 = .ok (.aload_n 0, 1) := dk_42 (dk_at dksX3_refuses_0 0 rfl rfl)
theorem dX3_refuses_1 : decode cX3_refuses 1 = .ok (.iload_n 1, 1) := dk_27 (dk_at dksX3_refuses_0 1 rfl rfl)
theorem dX3_refuses_2 : decode cX3_refuses 2 = .ok (.putfield 35, 3) := dk_181 0 35 (dk_at dksX3_refuses_0 2 rfl rfl)
theorem dX3_refuses_5 : decode cX3_refuses 5 = .ok (.aload_n 0, 1) := dk_42 (dk_at dksX3_refuses_0 5 rfl rfl)
theorem dX3_refuses_6 : decode cX3_refuses 6 = .ok (.iload_n 2, 1) := dk_28 (dk_at dksX3_refuses_0 6 rfl rfl)
theorem dX3_refuses_7 : decode cX3_refuses 7 = .ok (.putfield 38, 3) := dk_181 0 38 (dk_at dksX3_refuses_0 7 rfl rfl)
theorem dX3_refuses_10 : decode cX3_refuses 10 = .ok (.bipush (-14), 2) := dk_16 242 (dk_at dksX3_refuses_0 10 rfl rfl)
theorem dX3_refuses_12 : decode cX3_refuses 12 = .ok (.ireturn, 1) := dk_172 (dk_at dksX3_refuses_0 12 rfl rfl)
abbrev cX3_keeps : ByteArray := prog_12_method_5_code
def yX3_keeps : MethodName := ⟨RX3, "keeps", "(I)I"⟩
def dkwX3_keeps_4 : List UInt8 := [181, 0, 31, 27, 172]
abbrev dktX3_keeps_4 : List UInt8 := dkwX3_keeps_4 ++ []
def dkwX3_keeps_3 : List UInt8 := [28, 96, 42, 180, 0, 13, 28, 46, 79, 132, 2, 1, 167, 255, 225, 42, 89, 180, 0, 31, 4, 96]
abbrev dktX3_keeps_3 : List UInt8 := dkwX3_keeps_3 ++ dktX3_keeps_4
def dkwX3_keeps_2 : List UInt8 := [181, 0, 31, 3, 61, 28, 17, 1, 157, 162, 0, 30, 42, 180, 0, 16, 17, 1, 157, 42, 180, 0, 31, 104]
abbrev dktX3_keeps_2 : List UInt8 := dkwX3_keeps_2 ++ dktX3_keeps_3
def dkwX3_keeps_1 : List UInt8 := [180, 0, 16, 17, 1, 157, 28, 96, 46, 79, 132, 2, 1, 167, 255, 230, 42, 89, 180, 0, 31, 4, 100]
abbrev dktX3_keeps_1 : List UInt8 := dkwX3_keeps_1 ++ dktX3_keeps_2
def dkwX3_keeps_0 : List UInt8 := [42, 180, 0, 31, 16, 8, 160, 0, 44, 3, 61, 28, 17, 11, 75, 162, 0, 25, 42, 180, 0, 16, 28, 42]
abbrev dktX3_keeps_0 : List UInt8 := dkwX3_keeps_0 ++ dktX3_keeps_1
theorem dksX3_keeps_0 : cX3_keeps.data.toList.drop 0 = dktX3_keeps_0 := by decide +kernel
theorem dksX3_keeps_1 : cX3_keeps.data.toList.drop 24 = dktX3_keeps_1 := dk_seg dksX3_keeps_0 24 rfl rfl
theorem dksX3_keeps_2 : cX3_keeps.data.toList.drop 47 = dktX3_keeps_2 := dk_seg dksX3_keeps_1 23 rfl rfl
theorem dksX3_keeps_3 : cX3_keeps.data.toList.drop 71 = dktX3_keeps_3 := dk_seg dksX3_keeps_2 24 rfl rfl
theorem dksX3_keeps_4 : cX3_keeps.data.toList.drop 93 = dktX3_keeps_4 := dk_seg dksX3_keeps_3 22 rfl rfl
theorem dX3_keeps_0 : decode cX3_keeps 0 = .ok (.aload_n 0, 1) := dk_42 (dk_at dksX3_keeps_0 0 rfl rfl)
theorem dX3_keeps_1 : decode cX3_keeps 1 = .ok (.getfield 31, 3) := dk_180 0 31 (dk_at dksX3_keeps_0 1 rfl rfl)
theorem dX3_keeps_4 : decode cX3_keeps 4 = .ok (.bipush 8, 2) := dk_16 8 (dk_at dksX3_keeps_0 4 rfl rfl)
theorem dX3_keeps_6 : decode cX3_keeps 6 = .ok (.if_icmp .ne 44, 3) := dk_160 0 44 (dk_at dksX3_keeps_0 6 rfl rfl)
theorem dX3_keeps_9 : decode cX3_keeps 9 = .ok (.iconst 0, 1) := dk_3 (dk_at dksX3_keeps_0 9 rfl rfl)
theorem dX3_keeps_10 : decode cX3_keeps 10 = .ok (.istore_n 2, 1) := dk_61 (dk_at dksX3_keeps_0 10 rfl rfl)
theorem dX3_keeps_11 : decode cX3_keeps 11 = .ok (.iload_n 2, 1) := dk_28 (dk_at dksX3_keeps_0 11 rfl rfl)
theorem dX3_keeps_12 : decode cX3_keeps 12 = .ok (.sipush 2891, 3) := dk_17 11 75 (dk_at dksX3_keeps_0 12 rfl rfl)
theorem dX3_keeps_15 : decode cX3_keeps 15 = .ok (.if_icmp .ge 25, 3) := dk_162 0 25 (dk_at dksX3_keeps_0 15 rfl rfl)
theorem dX3_keeps_18 : decode cX3_keeps 18 = .ok (.aload_n 0, 1) := dk_42 (dk_at dksX3_keeps_0 18 rfl rfl)
theorem dX3_keeps_19 : decode cX3_keeps 19 = .ok (.getfield 16, 3) := dk_180 0 16 (dk_at dksX3_keeps_0 19 rfl rfl)
theorem dX3_keeps_22 : decode cX3_keeps 22 = .ok (.iload_n 2, 1) := dk_28 (dk_at dksX3_keeps_0 22 rfl rfl)
theorem dX3_keeps_23 : decode cX3_keeps 23 = .ok (.aload_n 0, 1) := dk_42 (dk_at dksX3_keeps_0 23 rfl rfl)
theorem dX3_keeps_24 : decode cX3_keeps 24 = .ok (.getfield 16, 3) := dk_180 0 16 (dk_at dksX3_keeps_1 0 rfl rfl)
theorem dX3_keeps_27 : decode cX3_keeps 27 = .ok (.sipush 413, 3) := dk_17 1 157 (dk_at dksX3_keeps_1 3 rfl rfl)
theorem dX3_keeps_30 : decode cX3_keeps 30 = .ok (.iload_n 2, 1) := dk_28 (dk_at dksX3_keeps_1 6 rfl rfl)
theorem dX3_keeps_31 : decode cX3_keeps 31 = .ok (.iadd, 1) := dk_96 (dk_at dksX3_keeps_1 7 rfl rfl)
theorem dX3_keeps_32 : decode cX3_keeps 32 = .ok (.iaload, 1) := dk_46 (dk_at dksX3_keeps_1 8 rfl rfl)
theorem dX3_keeps_33 : decode cX3_keeps 33 = .ok (.iastore, 1) := dk_79 (dk_at dksX3_keeps_1 9 rfl rfl)
theorem dX3_keeps_34 : decode cX3_keeps 34 = .ok (.iinc 2 1, 3) := dk_132 2 1 (dk_at dksX3_keeps_1 10 rfl rfl)
theorem dX3_keeps_37 : decode cX3_keeps 37 = .ok (.goto (-26), 3) := dk_167 255 230 (dk_at dksX3_keeps_1 13 rfl rfl)
theorem dX3_keeps_40 : decode cX3_keeps 40 = .ok (.aload_n 0, 1) := dk_42 (dk_at dksX3_keeps_1 16 rfl rfl)
theorem dX3_keeps_41 : decode cX3_keeps 41 = .ok (.dup, 1) := dk_89 (dk_at dksX3_keeps_1 17 rfl rfl)
theorem dX3_keeps_42 : decode cX3_keeps 42 = .ok (.getfield 31, 3) := dk_180 0 31 (dk_at dksX3_keeps_1 18 rfl rfl)
theorem dX3_keeps_45 : decode cX3_keeps 45 = .ok (.iconst 1, 1) := dk_4 (dk_at dksX3_keeps_1 21 rfl rfl)
theorem dX3_keeps_46 : decode cX3_keeps 46 = .ok (.isub, 1) := dk_100 (dk_at dksX3_keeps_1 22 rfl rfl)
theorem dX3_keeps_47 : decode cX3_keeps 47 = .ok (.putfield 31, 3) := dk_181 0 31 (dk_at dksX3_keeps_2 0 rfl rfl)
theorem dX3_keeps_50 : decode cX3_keeps 50 = .ok (.iconst 0, 1) := dk_3 (dk_at dksX3_keeps_2 3 rfl rfl)
theorem dX3_keeps_51 : decode cX3_keeps 51 = .ok (.istore_n 2, 1) := dk_61 (dk_at dksX3_keeps_2 4 rfl rfl)
theorem dX3_keeps_52 : decode cX3_keeps 52 = .ok (.iload_n 2, 1) := dk_28 (dk_at dksX3_keeps_2 5 rfl rfl)
theorem dX3_keeps_53 : decode cX3_keeps 53 = .ok (.sipush 413, 3) := dk_17 1 157 (dk_at dksX3_keeps_2 6 rfl rfl)
theorem dX3_keeps_56 : decode cX3_keeps 56 = .ok (.if_icmp .ge 30, 3) := dk_162 0 30 (dk_at dksX3_keeps_2 9 rfl rfl)
theorem dX3_keeps_59 : decode cX3_keeps 59 = .ok (.aload_n 0, 1) := dk_42 (dk_at dksX3_keeps_2 12 rfl rfl)
theorem dX3_keeps_60 : decode cX3_keeps 60 = .ok (.getfield 16, 3) := dk_180 0 16 (dk_at dksX3_keeps_2 13 rfl rfl)
theorem dX3_keeps_63 : decode cX3_keeps 63 = .ok (.sipush 413, 3) := dk_17 1 157 (dk_at dksX3_keeps_2 16 rfl rfl)
theorem dX3_keeps_66 : decode cX3_keeps 66 = .ok (.aload_n 0, 1) := dk_42 (dk_at dksX3_keeps_2 19 rfl rfl)
theorem dX3_keeps_67 : decode cX3_keeps 67 = .ok (.getfield 31, 3) := dk_180 0 31 (dk_at dksX3_keeps_2 20 rfl rfl)
theorem dX3_keeps_70 : decode cX3_keeps 70 = .ok (.imul, 1) := dk_104 (dk_at dksX3_keeps_2 23 rfl rfl)
theorem dX3_keeps_71 : decode cX3_keeps 71 = .ok (.iload_n 2, 1) := dk_28 (dk_at dksX3_keeps_3 0 rfl rfl)
theorem dX3_keeps_72 : decode cX3_keeps 72 = .ok (.iadd, 1) := dk_96 (dk_at dksX3_keeps_3 1 rfl rfl)
theorem dX3_keeps_73 : decode cX3_keeps 73 = .ok (.aload_n 0, 1) := dk_42 (dk_at dksX3_keeps_3 2 rfl rfl)
theorem dX3_keeps_74 : decode cX3_keeps 74 = .ok (.getfield 13, 3) := dk_180 0 13 (dk_at dksX3_keeps_3 3 rfl rfl)
theorem dX3_keeps_77 : decode cX3_keeps 77 = .ok (.iload_n 2, 1) := dk_28 (dk_at dksX3_keeps_3 6 rfl rfl)
theorem dX3_keeps_78 : decode cX3_keeps 78 = .ok (.iaload, 1) := dk_46 (dk_at dksX3_keeps_3 7 rfl rfl)
theorem dX3_keeps_79 : decode cX3_keeps 79 = .ok (.iastore, 1) := dk_79 (dk_at dksX3_keeps_3 8 rfl rfl)
theorem dX3_keeps_80 : decode cX3_keeps 80 = .ok (.iinc 2 1, 3) := dk_132 2 1 (dk_at dksX3_keeps_3 9 rfl rfl)
theorem dX3_keeps_83 : decode cX3_keeps 83 = .ok (.goto (-31), 3) := dk_167 255 225 (dk_at dksX3_keeps_3 12 rfl rfl)
theorem dX3_keeps_86 : decode cX3_keeps 86 = .ok (.aload_n 0, 1) := dk_42 (dk_at dksX3_keeps_3 15 rfl rfl)
theorem dX3_keeps_87 : decode cX3_keeps 87 = .ok (.dup, 1) := dk_89 (dk_at dksX3_keeps_3 16 rfl rfl)
theorem dX3_keeps_88 : decode cX3_keeps 88 = .ok (.getfield 31, 3) := dk_180 0 31 (dk_at dksX3_keeps_3 17 rfl rfl)
theorem dX3_keeps_91 : decode cX3_keeps 91 = .ok (.iconst 1, 1) := dk_4 (dk_at dksX3_keeps_3 20 rfl rfl)
theorem dX3_keeps_92 : decode cX3_keeps 92 = .ok (.iadd, 1) := dk_96 (dk_at dksX3_keeps_3 21 rfl rfl)
theorem dX3_keeps_93 : decode cX3_keeps 93 = .ok (.putfield 31, 3) := dk_181 0 31 (dk_at dksX3_keeps_4 0 rfl rfl)
theorem dX3_keeps_96 : decode cX3_keeps 96 = .ok (.iload_n 1, 1) := dk_27 (dk_at dksX3_keeps_4 3 rfl rfl)
theorem dX3_keeps_97 : decode cX3_keeps 97 = .ok (.ireturn, 1) := dk_172 (dk_at dksX3_keeps_4 4 rfl rfl)
abbrev cX3_dog : ByteArray := prog_12_method_21_code
def yX3_dog : MethodName := ⟨RX3, "dog", "(II)I"⟩
def dkwX3_dog_2 : List UInt8 := [180, 0, 9, 16, 53, 7, 27, 104, 96, 4, 96, 28, 4, 96, 79, 42, 42, 182, 0, 77, 182, 0, 44, 172]
abbrev dktX3_dog_2 : List UInt8 := dkwX3_dog_2 ++ []
def dkwX3_dog_1 : List UInt8 := [16, 244, 172, 42, 27, 182, 0, 70, 155, 0, 15, 42, 16, 15, 42, 27, 182, 0, 70, 182, 0, 67, 172, 42]
abbrev dktX3_dog_1 : List UInt8 := dkwX3_dog_1 ++ dktX3_dog_2
def dkwX3_dog_0 : List UInt8 := [42, 182, 0, 64, 27, 184, 0, 73, 154, 0, 6, 16, 245, 172, 28, 3, 16, 9, 184, 0, 48, 154, 0, 6]
abbrev dktX3_dog_0 : List UInt8 := dkwX3_dog_0 ++ dktX3_dog_1
theorem dksX3_dog_0 : cX3_dog.data.toList.drop 0 = dktX3_dog_0 := by decide +kernel
theorem dksX3_dog_1 : cX3_dog.data.toList.drop 24 = dktX3_dog_1 := dk_seg dksX3_dog_0 24 rfl rfl
theorem dksX3_dog_2 : cX3_dog.data.toList.drop 48 = dktX3_dog_2 := dk_seg dksX3_dog_1 24 rfl rfl
theorem dX3_dog_0 : decode cX3_dog 0 = .ok (.aload_n 0, 1) := dk_42 (dk_at dksX3_dog_0 0 rfl rfl)
theorem dX3_dog_1 : decode cX3_dog 1 = .ok (.invokevirtual 64, 3) := dk_182 0 64 (dk_at dksX3_dog_0 1 rfl rfl)
theorem dX3_dog_4 : decode cX3_dog 4 = .ok (.iload_n 1, 1) := dk_27 (dk_at dksX3_dog_0 4 rfl rfl)
theorem dX3_dog_5 : decode cX3_dog 5 = .ok (.invokestatic 73, 3) := dk_184 0 73 (dk_at dksX3_dog_0 5 rfl rfl)
theorem dX3_dog_8 : decode cX3_dog 8 = .ok (.ifCond .ne 6, 3) := dk_154 0 6 (dk_at dksX3_dog_0 8 rfl rfl)
theorem dX3_dog_11 : decode cX3_dog 11 = .ok (.bipush (-11), 2) := dk_16 245 (dk_at dksX3_dog_0 11 rfl rfl)
theorem dX3_dog_13 : decode cX3_dog 13 = .ok (.ireturn, 1) := dk_172 (dk_at dksX3_dog_0 13 rfl rfl)
theorem dX3_dog_14 : decode cX3_dog 14 = .ok (.iload_n 2, 1) := dk_28 (dk_at dksX3_dog_0 14 rfl rfl)
theorem dX3_dog_15 : decode cX3_dog 15 = .ok (.iconst 0, 1) := dk_3 (dk_at dksX3_dog_0 15 rfl rfl)
theorem dX3_dog_16 : decode cX3_dog 16 = .ok (.bipush 9, 2) := dk_16 9 (dk_at dksX3_dog_0 16 rfl rfl)
theorem dX3_dog_18 : decode cX3_dog 18 = .ok (.invokestatic 48, 3) := dk_184 0 48 (dk_at dksX3_dog_0 18 rfl rfl)
theorem dX3_dog_21 : decode cX3_dog 21 = .ok (.ifCond .ne 6, 3) := dk_154 0 6 (dk_at dksX3_dog_0 21 rfl rfl)
theorem dX3_dog_24 : decode cX3_dog 24 = .ok (.bipush (-12), 2) := dk_16 244 (dk_at dksX3_dog_1 0 rfl rfl)
theorem dX3_dog_26 : decode cX3_dog 26 = .ok (.ireturn, 1) := dk_172 (dk_at dksX3_dog_1 2 rfl rfl)
theorem dX3_dog_27 : decode cX3_dog 27 = .ok (.aload_n 0, 1) := dk_42 (dk_at dksX3_dog_1 3 rfl rfl)
theorem dX3_dog_28 : decode cX3_dog 28 = .ok (.iload_n 1, 1) := dk_27 (dk_at dksX3_dog_1 4 rfl rfl)
theorem dX3_dog_29 : decode cX3_dog 29 = .ok (.invokevirtual 70, 3) := dk_182 0 70 (dk_at dksX3_dog_1 5 rfl rfl)
theorem dX3_dog_32 : decode cX3_dog 32 = .ok (.ifCond .lt 15, 3) := dk_155 0 15 (dk_at dksX3_dog_1 8 rfl rfl)
theorem dX3_dog_35 : decode cX3_dog 35 = .ok (.aload_n 0, 1) := dk_42 (dk_at dksX3_dog_1 11 rfl rfl)
theorem dX3_dog_36 : decode cX3_dog 36 = .ok (.bipush 15, 2) := dk_16 15 (dk_at dksX3_dog_1 12 rfl rfl)
theorem dX3_dog_38 : decode cX3_dog 38 = .ok (.aload_n 0, 1) := dk_42 (dk_at dksX3_dog_1 14 rfl rfl)
theorem dX3_dog_39 : decode cX3_dog 39 = .ok (.iload_n 1, 1) := dk_27 (dk_at dksX3_dog_1 15 rfl rfl)
theorem dX3_dog_40 : decode cX3_dog 40 = .ok (.invokevirtual 70, 3) := dk_182 0 70 (dk_at dksX3_dog_1 16 rfl rfl)
theorem dX3_dog_43 : decode cX3_dog 43 = .ok (.invokevirtual 67, 3) := dk_182 0 67 (dk_at dksX3_dog_1 19 rfl rfl)
theorem dX3_dog_46 : decode cX3_dog 46 = .ok (.ireturn, 1) := dk_172 (dk_at dksX3_dog_1 22 rfl rfl)
theorem dX3_dog_47 : decode cX3_dog 47 = .ok (.aload_n 0, 1) := dk_42 (dk_at dksX3_dog_1 23 rfl rfl)
theorem dX3_dog_48 : decode cX3_dog 48 = .ok (.getfield 9, 3) := dk_180 0 9 (dk_at dksX3_dog_2 0 rfl rfl)
theorem dX3_dog_51 : decode cX3_dog 51 = .ok (.bipush 53, 2) := dk_16 53 (dk_at dksX3_dog_2 3 rfl rfl)
theorem dX3_dog_53 : decode cX3_dog 53 = .ok (.iconst 4, 1) := dk_7 (dk_at dksX3_dog_2 5 rfl rfl)
theorem dX3_dog_54 : decode cX3_dog 54 = .ok (.iload_n 1, 1) := dk_27 (dk_at dksX3_dog_2 6 rfl rfl)
theorem dX3_dog_55 : decode cX3_dog 55 = .ok (.imul, 1) := dk_104 (dk_at dksX3_dog_2 7 rfl rfl)
theorem dX3_dog_56 : decode cX3_dog 56 = .ok (.iadd, 1) := dk_96 (dk_at dksX3_dog_2 8 rfl rfl)
theorem dX3_dog_57 : decode cX3_dog 57 = .ok (.iconst 1, 1) := dk_4 (dk_at dksX3_dog_2 9 rfl rfl)
theorem dX3_dog_58 : decode cX3_dog 58 = .ok (.iadd, 1) := dk_96 (dk_at dksX3_dog_2 10 rfl rfl)
theorem dX3_dog_59 : decode cX3_dog 59 = .ok (.iload_n 2, 1) := dk_28 (dk_at dksX3_dog_2 11 rfl rfl)
theorem dX3_dog_60 : decode cX3_dog 60 = .ok (.iconst 1, 1) := dk_4 (dk_at dksX3_dog_2 12 rfl rfl)
theorem dX3_dog_61 : decode cX3_dog 61 = .ok (.iadd, 1) := dk_96 (dk_at dksX3_dog_2 13 rfl rfl)
theorem dX3_dog_62 : decode cX3_dog 62 = .ok (.iastore, 1) := dk_79 (dk_at dksX3_dog_2 14 rfl rfl)
theorem dX3_dog_63 : decode cX3_dog 63 = .ok (.aload_n 0, 1) := dk_42 (dk_at dksX3_dog_2 15 rfl rfl)
theorem dX3_dog_64 : decode cX3_dog 64 = .ok (.aload_n 0, 1) := dk_42 (dk_at dksX3_dog_2 16 rfl rfl)
theorem dX3_dog_65 : decode cX3_dog 65 = .ok (.invokevirtual 77, 3) := dk_182 0 77 (dk_at dksX3_dog_2 17 rfl rfl)
theorem dX3_dog_68 : decode cX3_dog 68 = .ok (.invokevirtual 44, 3) := dk_182 0 44 (dk_at dksX3_dog_2 20 rfl rfl)
theorem dX3_dog_71 : decode cX3_dog 71 = .ok (.ireturn, 1) := dk_172 (dk_at dksX3_dog_2 23 rfl rfl)
abbrev cX3_isHouse : ByteArray := prog_12_method_10_code
def yX3_isHouse : MethodName := ⟨RX3, "isHouse", "(I)Z"⟩
def dkwX3_isHouse_0 : List UInt8 := [26, 3, 16, 19, 184, 0, 48, 172]
abbrev dktX3_isHouse_0 : List UInt8 := dkwX3_isHouse_0 ++ []
theorem dksX3_isHouse_0 : cX3_isHouse.data.toList.drop 0 = dktX3_isHouse_0 := by decide +kernel
theorem dX3_isHouse_0 : decode cX3_isHouse 0 = .ok (.iload_n 0, 1) := dk_26 (dk_at dksX3_isHouse_0 0 rfl rfl)
theorem dX3_isHouse_1 : decode cX3_isHouse 1 = .ok (.iconst 0, 1) := dk_3 (dk_at dksX3_isHouse_0 1 rfl rfl)
theorem dX3_isHouse_2 : decode cX3_isHouse 2 = .ok (.bipush 19, 2) := dk_16 19 (dk_at dksX3_isHouse_0 2 rfl rfl)
theorem dX3_isHouse_4 : decode cX3_isHouse 4 = .ok (.invokestatic 48, 3) := dk_184 0 48 (dk_at dksX3_isHouse_0 4 rfl rfl)
theorem dX3_isHouse_7 : decode cX3_isHouse 7 = .ok (.ireturn, 1) := dk_172 (dk_at dksX3_isHouse_0 7 rfl rfl)
abbrev cX3_mood : ByteArray := prog_12_method_16_code
def yX3_mood : MethodName := ⟨RX3, "mood", "(I)I"⟩
def dkwX3_mood_0 : List UInt8 := [42, 180, 0, 9, 16, 53, 7, 27, 104, 96, 4, 96, 46, 4, 100, 172]
abbrev dktX3_mood_0 : List UInt8 := dkwX3_mood_0 ++ []
theorem dksX3_mood_0 : cX3_mood.data.toList.drop 0 = dktX3_mood_0 := by decide +kernel
theorem dX3_mood_0 : decode cX3_mood 0 = .ok (.aload_n 0, 1) := dk_42 (dk_at dksX3_mood_0 0 rfl rfl)
theorem dX3_mood_1 : decode cX3_mood 1 = .ok (.getfield 9, 3) := dk_180 0 9 (dk_at dksX3_mood_0 1 rfl rfl)
theorem dX3_mood_4 : decode cX3_mood 4 = .ok (.bipush 53, 2) := dk_16 53 (dk_at dksX3_mood_0 4 rfl rfl)
theorem dX3_mood_6 : decode cX3_mood 6 = .ok (.iconst 4, 1) := dk_7 (dk_at dksX3_mood_0 6 rfl rfl)
theorem dX3_mood_7 : decode cX3_mood 7 = .ok (.iload_n 1, 1) := dk_27 (dk_at dksX3_mood_0 7 rfl rfl)
theorem dX3_mood_8 : decode cX3_mood 8 = .ok (.imul, 1) := dk_104 (dk_at dksX3_mood_0 8 rfl rfl)
theorem dX3_mood_9 : decode cX3_mood 9 = .ok (.iadd, 1) := dk_96 (dk_at dksX3_mood_0 9 rfl rfl)
theorem dX3_mood_10 : decode cX3_mood 10 = .ok (.iconst 1, 1) := dk_4 (dk_at dksX3_mood_0 10 rfl rfl)
theorem dX3_mood_11 : decode cX3_mood 11 = .ok (.iadd, 1) := dk_96 (dk_at dksX3_mood_0 11 rfl rfl)
theorem dX3_mood_12 : decode cX3_mood 12 = .ok (.iaload, 1) := dk_46 (dk_at dksX3_mood_0 12 rfl rfl)
theorem dX3_mood_13 : decode cX3_mood 13 = .ok (.iconst 1, 1) := dk_4 (dk_at dksX3_mood_0 13 rfl rfl)
theorem dX3_mood_14 : decode cX3_mood 14 = .ok (.isub, 1) := dk_100 (dk_at dksX3_mood_0 14 rfl rfl)
theorem dX3_mood_15 : decode cX3_mood 15 = .ok (.ireturn, 1) := dk_172 (dk_at dksX3_mood_0 15 rfl rfl)
abbrev cX3_dogs : ByteArray := prog_12_method_20_code
def yX3_dogs : MethodName := ⟨RX3, "dogs", "()I"⟩
def dkwX3_dogs_1 : List UInt8 := [167, 255, 236, 27, 172]
abbrev dktX3_dogs_1 : List UInt8 := dkwX3_dogs_1 ++ []
def dkwX3_dogs_0 : List UInt8 := [3, 60, 3, 61, 28, 16, 20, 162, 0, 20, 42, 28, 182, 0, 70, 155, 0, 6, 132, 1, 1, 132, 2, 1]
abbrev dktX3_dogs_0 : List UInt8 := dkwX3_dogs_0 ++ dktX3_dogs_1
theorem dksX3_dogs_0 : cX3_dogs.data.toList.drop 0 = dktX3_dogs_0 := by decide +kernel
theorem dksX3_dogs_1 : cX3_dogs.data.toList.drop 24 = dktX3_dogs_1 := dk_seg dksX3_dogs_0 24 rfl rfl
theorem dX3_dogs_0 : decode cX3_dogs 0 = .ok (.iconst 0, 1) := dk_3 (dk_at dksX3_dogs_0 0 rfl rfl)
theorem dX3_dogs_1 : decode cX3_dogs 1 = .ok (.istore_n 1, 1) := dk_60 (dk_at dksX3_dogs_0 1 rfl rfl)
theorem dX3_dogs_2 : decode cX3_dogs 2 = .ok (.iconst 0, 1) := dk_3 (dk_at dksX3_dogs_0 2 rfl rfl)
theorem dX3_dogs_3 : decode cX3_dogs 3 = .ok (.istore_n 2, 1) := dk_61 (dk_at dksX3_dogs_0 3 rfl rfl)
theorem dX3_dogs_4 : decode cX3_dogs 4 = .ok (.iload_n 2, 1) := dk_28 (dk_at dksX3_dogs_0 4 rfl rfl)
theorem dX3_dogs_5 : decode cX3_dogs 5 = .ok (.bipush 20, 2) := dk_16 20 (dk_at dksX3_dogs_0 5 rfl rfl)
theorem dX3_dogs_7 : decode cX3_dogs 7 = .ok (.if_icmp .ge 20, 3) := dk_162 0 20 (dk_at dksX3_dogs_0 7 rfl rfl)
theorem dX3_dogs_10 : decode cX3_dogs 10 = .ok (.aload_n 0, 1) := dk_42 (dk_at dksX3_dogs_0 10 rfl rfl)
theorem dX3_dogs_11 : decode cX3_dogs 11 = .ok (.iload_n 2, 1) := dk_28 (dk_at dksX3_dogs_0 11 rfl rfl)
theorem dX3_dogs_12 : decode cX3_dogs 12 = .ok (.invokevirtual 70, 3) := dk_182 0 70 (dk_at dksX3_dogs_0 12 rfl rfl)
theorem dX3_dogs_15 : decode cX3_dogs 15 = .ok (.ifCond .lt 6, 3) := dk_155 0 6 (dk_at dksX3_dogs_0 15 rfl rfl)
theorem dX3_dogs_18 : decode cX3_dogs 18 = .ok (.iinc 1 1, 3) := dk_132 1 1 (dk_at dksX3_dogs_0 18 rfl rfl)
theorem dX3_dogs_21 : decode cX3_dogs 21 = .ok (.iinc 2 1, 3) := dk_132 2 1 (dk_at dksX3_dogs_0 21 rfl rfl)
theorem dX3_dogs_24 : decode cX3_dogs 24 = .ok (.goto (-20), 3) := dk_167 255 236 (dk_at dksX3_dogs_1 0 rfl rfl)
theorem dX3_dogs_27 : decode cX3_dogs 27 = .ok (.iload_n 1, 1) := dk_27 (dk_at dksX3_dogs_1 3 rfl rfl)
theorem dX3_dogs_28 : decode cX3_dogs 28 = .ok (.ireturn, 1) := dk_172 (dk_at dksX3_dogs_1 4 rfl rfl)
abbrev cX3_make : ByteArray := prog_12_method_23_code
def yX3_make : MethodName := ⟨RX3, "make", "(II)I"⟩
def dkwX3_make_4 : List UInt8 := [8, 92, 46, 28, 96, 79, 42, 42, 180, 0, 9, 29, 46, 182, 0, 44, 172]
abbrev dktX3_make_4 : List UInt8 := dkwX3_make_4 ++ []
def dkwX3_make_3 : List UInt8 := [28, 182, 0, 84, 156, 0, 6, 16, 242, 172, 42, 180, 0, 9, 29, 92, 46, 28, 96, 79, 42, 180, 0, 9]
abbrev dktX3_make_3 : List UInt8 := dkwX3_make_3 ++ dktX3_make_4
def dkwX3_make_2 : List UInt8 := [16, 16, 42, 180, 0, 9, 29, 46, 182, 0, 67, 172, 42, 27, 4, 160, 0, 9, 5, 28, 104, 167, 0, 4]
abbrev dktX3_make_2 : List UInt8 := dkwX3_make_2 ++ dktX3_make_3
def dkwX3_make_1 : List UInt8 := [16, 244, 172, 16, 14, 27, 96, 62, 42, 180, 0, 9, 29, 46, 28, 96, 17, 0, 200, 164, 0, 16, 42]
abbrev dktX3_make_1 : List UInt8 := dkwX3_make_1 ++ dktX3_make_2
def dkwX3_make_0 : List UInt8 := [42, 182, 0, 64, 27, 184, 0, 81, 154, 0, 6, 16, 245, 172, 28, 4, 16, 50, 184, 0, 48, 154, 0, 6]
abbrev dktX3_make_0 : List UInt8 := dkwX3_make_0 ++ dktX3_make_1
theorem dksX3_make_0 : cX3_make.data.toList.drop 0 = dktX3_make_0 := by decide +kernel
theorem dksX3_make_1 : cX3_make.data.toList.drop 24 = dktX3_make_1 := dk_seg dksX3_make_0 24 rfl rfl
theorem dksX3_make_2 : cX3_make.data.toList.drop 47 = dktX3_make_2 := dk_seg dksX3_make_1 23 rfl rfl
theorem dksX3_make_3 : cX3_make.data.toList.drop 71 = dktX3_make_3 := dk_seg dksX3_make_2 24 rfl rfl
theorem dksX3_make_4 : cX3_make.data.toList.drop 95 = dktX3_make_4 := dk_seg dksX3_make_3 24 rfl rfl
theorem dX3_make_0 : decode cX3_make 0 = .ok (.aload_n 0, 1) := dk_42 (dk_at dksX3_make_0 0 rfl rfl)
theorem dX3_make_1 : decode cX3_make 1 = .ok (.invokevirtual 64, 3) := dk_182 0 64 (dk_at dksX3_make_0 1 rfl rfl)
theorem dX3_make_4 : decode cX3_make 4 = .ok (.iload_n 1, 1) := dk_27 (dk_at dksX3_make_0 4 rfl rfl)
theorem dX3_make_5 : decode cX3_make 5 = .ok (.invokestatic 81, 3) := dk_184 0 81 (dk_at dksX3_make_0 5 rfl rfl)
theorem dX3_make_8 : decode cX3_make 8 = .ok (.ifCond .ne 6, 3) := dk_154 0 6 (dk_at dksX3_make_0 8 rfl rfl)
theorem dX3_make_11 : decode cX3_make 11 = .ok (.bipush (-11), 2) := dk_16 245 (dk_at dksX3_make_0 11 rfl rfl)
theorem dX3_make_13 : decode cX3_make 13 = .ok (.ireturn, 1) := dk_172 (dk_at dksX3_make_0 13 rfl rfl)
theorem dX3_make_14 : decode cX3_make 14 = .ok (.iload_n 2, 1) := dk_28 (dk_at dksX3_make_0 14 rfl rfl)
theorem dX3_make_15 : decode cX3_make 15 = .ok (.iconst 1, 1) := dk_4 (dk_at dksX3_make_0 15 rfl rfl)
theorem dX3_make_16 : decode cX3_make 16 = .ok (.bipush 50, 2) := dk_16 50 (dk_at dksX3_make_0 16 rfl rfl)
theorem dX3_make_18 : decode cX3_make 18 = .ok (.invokestatic 48, 3) := dk_184 0 48 (dk_at dksX3_make_0 18 rfl rfl)
theorem dX3_make_21 : decode cX3_make 21 = .ok (.ifCond .ne 6, 3) := dk_154 0 6 (dk_at dksX3_make_0 21 rfl rfl)
theorem dX3_make_24 : decode cX3_make 24 = .ok (.bipush (-12), 2) := dk_16 244 (dk_at dksX3_make_1 0 rfl rfl)
theorem dX3_make_26 : decode cX3_make 26 = .ok (.ireturn, 1) := dk_172 (dk_at dksX3_make_1 2 rfl rfl)
theorem dX3_make_27 : decode cX3_make 27 = .ok (.bipush 14, 2) := dk_16 14 (dk_at dksX3_make_1 3 rfl rfl)
theorem dX3_make_29 : decode cX3_make 29 = .ok (.iload_n 1, 1) := dk_27 (dk_at dksX3_make_1 5 rfl rfl)
theorem dX3_make_30 : decode cX3_make 30 = .ok (.iadd, 1) := dk_96 (dk_at dksX3_make_1 6 rfl rfl)
theorem dX3_make_31 : decode cX3_make 31 = .ok (.istore_n 3, 1) := dk_62 (dk_at dksX3_make_1 7 rfl rfl)
theorem dX3_make_32 : decode cX3_make 32 = .ok (.aload_n 0, 1) := dk_42 (dk_at dksX3_make_1 8 rfl rfl)
theorem dX3_make_33 : decode cX3_make 33 = .ok (.getfield 9, 3) := dk_180 0 9 (dk_at dksX3_make_1 9 rfl rfl)
theorem dX3_make_36 : decode cX3_make 36 = .ok (.iload_n 3, 1) := dk_29 (dk_at dksX3_make_1 12 rfl rfl)
theorem dX3_make_37 : decode cX3_make 37 = .ok (.iaload, 1) := dk_46 (dk_at dksX3_make_1 13 rfl rfl)
theorem dX3_make_38 : decode cX3_make 38 = .ok (.iload_n 2, 1) := dk_28 (dk_at dksX3_make_1 14 rfl rfl)
theorem dX3_make_39 : decode cX3_make 39 = .ok (.iadd, 1) := dk_96 (dk_at dksX3_make_1 15 rfl rfl)
theorem dX3_make_40 : decode cX3_make 40 = .ok (.sipush 200, 3) := dk_17 0 200 (dk_at dksX3_make_1 16 rfl rfl)
theorem dX3_make_43 : decode cX3_make 43 = .ok (.if_icmp .le 16, 3) := dk_164 0 16 (dk_at dksX3_make_1 19 rfl rfl)
theorem dX3_make_46 : decode cX3_make 46 = .ok (.aload_n 0, 1) := dk_42 (dk_at dksX3_make_1 22 rfl rfl)
theorem dX3_make_47 : decode cX3_make 47 = .ok (.bipush 16, 2) := dk_16 16 (dk_at dksX3_make_2 0 rfl rfl)
theorem dX3_make_49 : decode cX3_make 49 = .ok (.aload_n 0, 1) := dk_42 (dk_at dksX3_make_2 2 rfl rfl)
theorem dX3_make_50 : decode cX3_make 50 = .ok (.getfield 9, 3) := dk_180 0 9 (dk_at dksX3_make_2 3 rfl rfl)
theorem dX3_make_53 : decode cX3_make 53 = .ok (.iload_n 3, 1) := dk_29 (dk_at dksX3_make_2 6 rfl rfl)
theorem dX3_make_54 : decode cX3_make 54 = .ok (.iaload, 1) := dk_46 (dk_at dksX3_make_2 7 rfl rfl)
theorem dX3_make_55 : decode cX3_make 55 = .ok (.invokevirtual 67, 3) := dk_182 0 67 (dk_at dksX3_make_2 8 rfl rfl)
theorem dX3_make_58 : decode cX3_make 58 = .ok (.ireturn, 1) := dk_172 (dk_at dksX3_make_2 11 rfl rfl)
theorem dX3_make_59 : decode cX3_make 59 = .ok (.aload_n 0, 1) := dk_42 (dk_at dksX3_make_2 12 rfl rfl)
theorem dX3_make_60 : decode cX3_make 60 = .ok (.iload_n 1, 1) := dk_27 (dk_at dksX3_make_2 13 rfl rfl)
theorem dX3_make_61 : decode cX3_make 61 = .ok (.iconst 1, 1) := dk_4 (dk_at dksX3_make_2 14 rfl rfl)
theorem dX3_make_62 : decode cX3_make 62 = .ok (.if_icmp .ne 9, 3) := dk_160 0 9 (dk_at dksX3_make_2 15 rfl rfl)
theorem dX3_make_65 : decode cX3_make 65 = .ok (.iconst 2, 1) := dk_5 (dk_at dksX3_make_2 18 rfl rfl)
theorem dX3_make_66 : decode cX3_make 66 = .ok (.iload_n 2, 1) := dk_28 (dk_at dksX3_make_2 19 rfl rfl)
theorem dX3_make_67 : decode cX3_make 67 = .ok (.imul, 1) := dk_104 (dk_at dksX3_make_2 20 rfl rfl)
theorem dX3_make_68 : decode cX3_make 68 = .ok (.goto 4, 3) := dk_167 0 4 (dk_at dksX3_make_2 21 rfl rfl)
theorem dX3_make_71 : decode cX3_make 71 = .ok (.iload_n 2, 1) := dk_28 (dk_at dksX3_make_3 0 rfl rfl)
theorem dX3_make_72 : decode cX3_make 72 = .ok (.invokevirtual 84, 3) := dk_182 0 84 (dk_at dksX3_make_3 1 rfl rfl)
theorem dX3_make_75 : decode cX3_make 75 = .ok (.ifCond .ge 6, 3) := dk_156 0 6 (dk_at dksX3_make_3 4 rfl rfl)
theorem dX3_make_78 : decode cX3_make 78 = .ok (.bipush (-14), 2) := dk_16 242 (dk_at dksX3_make_3 7 rfl rfl)
theorem dX3_make_80 : decode cX3_make 80 = .ok (.ireturn, 1) := dk_172 (dk_at dksX3_make_3 9 rfl rfl)
theorem dX3_make_81 : decode cX3_make 81 = .ok (.aload_n 0, 1) := dk_42 (dk_at dksX3_make_3 10 rfl rfl)
theorem dX3_make_82 : decode cX3_make 82 = .ok (.getfield 9, 3) := dk_180 0 9 (dk_at dksX3_make_3 11 rfl rfl)
theorem dX3_make_85 : decode cX3_make 85 = .ok (.iload_n 3, 1) := dk_29 (dk_at dksX3_make_3 14 rfl rfl)
theorem dX3_make_86 : decode cX3_make 86 = .ok (.dup2, 1) := dk_92 (dk_at dksX3_make_3 15 rfl rfl)
theorem dX3_make_87 : decode cX3_make 87 = .ok (.iaload, 1) := dk_46 (dk_at dksX3_make_3 16 rfl rfl)
theorem dX3_make_88 : decode cX3_make 88 = .ok (.iload_n 2, 1) := dk_28 (dk_at dksX3_make_3 17 rfl rfl)
theorem dX3_make_89 : decode cX3_make 89 = .ok (.iadd, 1) := dk_96 (dk_at dksX3_make_3 18 rfl rfl)
theorem dX3_make_90 : decode cX3_make 90 = .ok (.iastore, 1) := dk_79 (dk_at dksX3_make_3 19 rfl rfl)
theorem dX3_make_91 : decode cX3_make 91 = .ok (.aload_n 0, 1) := dk_42 (dk_at dksX3_make_3 20 rfl rfl)
theorem dX3_make_92 : decode cX3_make 92 = .ok (.getfield 9, 3) := dk_180 0 9 (dk_at dksX3_make_3 21 rfl rfl)
theorem dX3_make_95 : decode cX3_make 95 = .ok (.iconst 5, 1) := dk_8 (dk_at dksX3_make_4 0 rfl rfl)
theorem dX3_make_96 : decode cX3_make 96 = .ok (.dup2, 1) := dk_92 (dk_at dksX3_make_4 1 rfl rfl)
theorem dX3_make_97 : decode cX3_make 97 = .ok (.iaload, 1) := dk_46 (dk_at dksX3_make_4 2 rfl rfl)
theorem dX3_make_98 : decode cX3_make 98 = .ok (.iload_n 2, 1) := dk_28 (dk_at dksX3_make_4 3 rfl rfl)
theorem dX3_make_99 : decode cX3_make 99 = .ok (.iadd, 1) := dk_96 (dk_at dksX3_make_4 4 rfl rfl)
theorem dX3_make_100 : decode cX3_make 100 = .ok (.iastore, 1) := dk_79 (dk_at dksX3_make_4 5 rfl rfl)
theorem dX3_make_101 : decode cX3_make 101 = .ok (.aload_n 0, 1) := dk_42 (dk_at dksX3_make_4 6 rfl rfl)
theorem dX3_make_102 : decode cX3_make 102 = .ok (.aload_n 0, 1) := dk_42 (dk_at dksX3_make_4 7 rfl rfl)
theorem dX3_make_103 : decode cX3_make 103 = .ok (.getfield 9, 3) := dk_180 0 9 (dk_at dksX3_make_4 8 rfl rfl)
theorem dX3_make_106 : decode cX3_make 106 = .ok (.iload_n 3, 1) := dk_29 (dk_at dksX3_make_4 11 rfl rfl)
theorem dX3_make_107 : decode cX3_make 107 = .ok (.iaload, 1) := dk_46 (dk_at dksX3_make_4 12 rfl rfl)
theorem dX3_make_108 : decode cX3_make 108 = .ok (.invokevirtual 44, 3) := dk_182 0 44 (dk_at dksX3_make_4 13 rfl rfl)
theorem dX3_make_111 : decode cX3_make 111 = .ok (.ireturn, 1) := dk_172 (dk_at dksX3_make_4 16 rfl rfl)
abbrev cX3_isBristle : ByteArray := prog_12_method_11_code
def yX3_isBristle : MethodName := ⟨RX3, "isBristle", "(I)Z"⟩
def dkwX3_isBristle_0 : List UInt8 := [26, 3, 5, 184, 0, 48, 172]
abbrev dktX3_isBristle_0 : List UInt8 := dkwX3_isBristle_0 ++ []
theorem dksX3_isBristle_0 : cX3_isBristle.data.toList.drop 0 = dktX3_isBristle_0 := by decide +kernel
theorem dX3_isBristle_0 : decode cX3_isBristle 0 = .ok (.iload_n 0, 1) := dk_26 (dk_at dksX3_isBristle_0 0 rfl rfl)
theorem dX3_isBristle_1 : decode cX3_isBristle 1 = .ok (.iconst 0, 1) := dk_3 (dk_at dksX3_isBristle_0 1 rfl rfl)
theorem dX3_isBristle_2 : decode cX3_isBristle 2 = .ok (.iconst 2, 1) := dk_5 (dk_at dksX3_isBristle_0 2 rfl rfl)
theorem dX3_isBristle_3 : decode cX3_isBristle 3 = .ok (.invokestatic 48, 3) := dk_184 0 48 (dk_at dksX3_isBristle_0 3 rfl rfl)
theorem dX3_isBristle_6 : decode cX3_isBristle 6 = .ok (.ireturn, 1) := dk_172 (dk_at dksX3_isBristle_0 6 rfl rfl)
abbrev cX3_spends : ByteArray := prog_12_method_22_code
def yX3_spends : MethodName := ⟨RX3, "spends", "(I)I"⟩
def dkwX3_spends_1 : List UInt8 := [172, 42, 180, 0, 9, 7, 92, 46, 27, 100, 79, 42, 180, 0, 9, 16, 11, 92, 46, 27, 96, 79, 3, 172]
abbrev dktX3_spends_1 : List UInt8 := dkwX3_spends_1 ++ []
def dkwX3_spends_0 : List UInt8 := [42, 180, 0, 9, 7, 46, 27, 162, 0, 18, 42, 16, 8, 27, 42, 180, 0, 9, 7, 46, 100, 182, 0, 67]
abbrev dktX3_spends_0 : List UInt8 := dkwX3_spends_0 ++ dktX3_spends_1
theorem dksX3_spends_0 : cX3_spends.data.toList.drop 0 = dktX3_spends_0 := by decide +kernel
theorem dksX3_spends_1 : cX3_spends.data.toList.drop 24 = dktX3_spends_1 := dk_seg dksX3_spends_0 24 rfl rfl
theorem dX3_spends_0 : decode cX3_spends 0 = .ok (.aload_n 0, 1) := dk_42 (dk_at dksX3_spends_0 0 rfl rfl)
theorem dX3_spends_1 : decode cX3_spends 1 = .ok (.getfield 9, 3) := dk_180 0 9 (dk_at dksX3_spends_0 1 rfl rfl)
theorem dX3_spends_4 : decode cX3_spends 4 = .ok (.iconst 4, 1) := dk_7 (dk_at dksX3_spends_0 4 rfl rfl)
theorem dX3_spends_5 : decode cX3_spends 5 = .ok (.iaload, 1) := dk_46 (dk_at dksX3_spends_0 5 rfl rfl)
theorem dX3_spends_6 : decode cX3_spends 6 = .ok (.iload_n 1, 1) := dk_27 (dk_at dksX3_spends_0 6 rfl rfl)
theorem dX3_spends_7 : decode cX3_spends 7 = .ok (.if_icmp .ge 18, 3) := dk_162 0 18 (dk_at dksX3_spends_0 7 rfl rfl)
theorem dX3_spends_10 : decode cX3_spends 10 = .ok (.aload_n 0, 1) := dk_42 (dk_at dksX3_spends_0 10 rfl rfl)
theorem dX3_spends_11 : decode cX3_spends 11 = .ok (.bipush 8, 2) := dk_16 8 (dk_at dksX3_spends_0 11 rfl rfl)
theorem dX3_spends_13 : decode cX3_spends 13 = .ok (.iload_n 1, 1) := dk_27 (dk_at dksX3_spends_0 13 rfl rfl)
theorem dX3_spends_14 : decode cX3_spends 14 = .ok (.aload_n 0, 1) := dk_42 (dk_at dksX3_spends_0 14 rfl rfl)
theorem dX3_spends_15 : decode cX3_spends 15 = .ok (.getfield 9, 3) := dk_180 0 9 (dk_at dksX3_spends_0 15 rfl rfl)
theorem dX3_spends_18 : decode cX3_spends 18 = .ok (.iconst 4, 1) := dk_7 (dk_at dksX3_spends_0 18 rfl rfl)
theorem dX3_spends_19 : decode cX3_spends 19 = .ok (.iaload, 1) := dk_46 (dk_at dksX3_spends_0 19 rfl rfl)
theorem dX3_spends_20 : decode cX3_spends 20 = .ok (.isub, 1) := dk_100 (dk_at dksX3_spends_0 20 rfl rfl)
theorem dX3_spends_21 : decode cX3_spends 21 = .ok (.invokevirtual 67, 3) := dk_182 0 67 (dk_at dksX3_spends_0 21 rfl rfl)
theorem dX3_spends_24 : decode cX3_spends 24 = .ok (.ireturn, 1) := dk_172 (dk_at dksX3_spends_1 0 rfl rfl)
theorem dX3_spends_25 : decode cX3_spends 25 = .ok (.aload_n 0, 1) := dk_42 (dk_at dksX3_spends_1 1 rfl rfl)
theorem dX3_spends_26 : decode cX3_spends 26 = .ok (.getfield 9, 3) := dk_180 0 9 (dk_at dksX3_spends_1 2 rfl rfl)
theorem dX3_spends_29 : decode cX3_spends 29 = .ok (.iconst 4, 1) := dk_7 (dk_at dksX3_spends_1 5 rfl rfl)
theorem dX3_spends_30 : decode cX3_spends 30 = .ok (.dup2, 1) := dk_92 (dk_at dksX3_spends_1 6 rfl rfl)
theorem dX3_spends_31 : decode cX3_spends 31 = .ok (.iaload, 1) := dk_46 (dk_at dksX3_spends_1 7 rfl rfl)
theorem dX3_spends_32 : decode cX3_spends 32 = .ok (.iload_n 1, 1) := dk_27 (dk_at dksX3_spends_1 8 rfl rfl)
theorem dX3_spends_33 : decode cX3_spends 33 = .ok (.isub, 1) := dk_100 (dk_at dksX3_spends_1 9 rfl rfl)
theorem dX3_spends_34 : decode cX3_spends 34 = .ok (.iastore, 1) := dk_79 (dk_at dksX3_spends_1 10 rfl rfl)
theorem dX3_spends_35 : decode cX3_spends 35 = .ok (.aload_n 0, 1) := dk_42 (dk_at dksX3_spends_1 11 rfl rfl)
theorem dX3_spends_36 : decode cX3_spends 36 = .ok (.getfield 9, 3) := dk_180 0 9 (dk_at dksX3_spends_1 12 rfl rfl)
theorem dX3_spends_39 : decode cX3_spends 39 = .ok (.bipush 11, 2) := dk_16 11 (dk_at dksX3_spends_1 15 rfl rfl)
theorem dX3_spends_41 : decode cX3_spends 41 = .ok (.dup2, 1) := dk_92 (dk_at dksX3_spends_1 17 rfl rfl)
theorem dX3_spends_42 : decode cX3_spends 42 = .ok (.iaload, 1) := dk_46 (dk_at dksX3_spends_1 18 rfl rfl)
theorem dX3_spends_43 : decode cX3_spends 43 = .ok (.iload_n 1, 1) := dk_27 (dk_at dksX3_spends_1 19 rfl rfl)
theorem dX3_spends_44 : decode cX3_spends 44 = .ok (.iadd, 1) := dk_96 (dk_at dksX3_spends_1 20 rfl rfl)
theorem dX3_spends_45 : decode cX3_spends 45 = .ok (.iastore, 1) := dk_79 (dk_at dksX3_spends_1 21 rfl rfl)
theorem dX3_spends_46 : decode cX3_spends 46 = .ok (.iconst 0, 1) := dk_3 (dk_at dksX3_spends_1 22 rfl rfl)
theorem dX3_spends_47 : decode cX3_spends 47 = .ok (.ireturn, 1) := dk_172 (dk_at dksX3_spends_1 23 rfl rfl)
abbrev cX3_take : ByteArray := prog_12_method_25_code
def yX3_take : MethodName := ⟨RX3, "take", "(III)I"⟩
def dkwX3_take_0 : List UInt8 := [42, 182, 0, 64, 42, 42, 27, 28, 29, 182, 0, 100, 182, 0, 104, 172]
abbrev dktX3_take_0 : List UInt8 := dkwX3_take_0 ++ []
theorem dksX3_take_0 : cX3_take.data.toList.drop 0 = dktX3_take_0 := by decide +kernel
theorem dX3_take_0 : decode cX3_take 0 = .ok (.aload_n 0, 1) := dk_42 (dk_at dksX3_take_0 0 rfl rfl)
theorem dX3_take_1 : decode cX3_take 1 = .ok (.invokevirtual 64, 3) := dk_182 0 64 (dk_at dksX3_take_0 1 rfl rfl)
theorem dX3_take_4 : decode cX3_take 4 = .ok (.aload_n 0, 1) := dk_42 (dk_at dksX3_take_0 4 rfl rfl)
theorem dX3_take_5 : decode cX3_take 5 = .ok (.aload_n 0, 1) := dk_42 (dk_at dksX3_take_0 5 rfl rfl)
theorem dX3_take_6 : decode cX3_take 6 = .ok (.iload_n 1, 1) := dk_27 (dk_at dksX3_take_0 6 rfl rfl)
theorem dX3_take_7 : decode cX3_take 7 = .ok (.iload_n 2, 1) := dk_28 (dk_at dksX3_take_0 7 rfl rfl)
theorem dX3_take_8 : decode cX3_take 8 = .ok (.iload_n 3, 1) := dk_29 (dk_at dksX3_take_0 8 rfl rfl)
theorem dX3_take_9 : decode cX3_take 9 = .ok (.invokevirtual 100, 3) := dk_182 0 100 (dk_at dksX3_take_0 9 rfl rfl)
theorem dX3_take_12 : decode cX3_take 12 = .ok (.invokevirtual 104, 3) := dk_182 0 104 (dk_at dksX3_take_0 12 rfl rfl)
theorem dX3_take_15 : decode cX3_take 15 = .ok (.ireturn, 1) := dk_172 (dk_at dksX3_take_0 15 rfl rfl)
abbrev cX3_takes : ByteArray := prog_12_method_24_code
def yX3_takes : MethodName := ⟨RX3, "takes", "(III)I"⟩
def dkwX3_takes_8 : List UInt8 := [42, 21, 5, 29, 96, 182, 0, 97, 172]
abbrev dktX3_takes_8 : List UInt8 := dkwX3_takes_8 ++ []
def dkwX3_takes_7 : List UInt8 := [182, 0, 67, 172, 42, 180, 0, 9, 21, 4, 92, 46, 29, 100, 79, 42, 27, 6, 28, 96, 29, 182, 0, 93]
abbrev dktX3_takes_7 : List UInt8 := dkwX3_takes_7 ++ dktX3_takes_8
def dkwX3_takes_6 : List UInt8 := [180, 0, 9, 21, 4, 46, 29, 100, 17, 0, 200, 164, 0, 17, 42, 16, 16, 42, 180, 0, 9, 21, 4, 46]
abbrev dktX3_takes_6 : List UInt8 := dkwX3_takes_6 ++ dktX3_takes_7
def dkwX3_takes_5 : List UInt8 := [100, 182, 0, 67, 172, 21, 5, 29, 116, 162, 0, 12, 42, 16, 7, 21, 5, 182, 0, 67, 172, 42]
abbrev dktX3_takes_5 : List UInt8 := dkwX3_takes_5 ++ dktX3_takes_6
def dkwX3_takes_4 : List UInt8 := [21, 4, 46, 100, 182, 0, 67, 172, 21, 5, 29, 96, 16, 12, 164, 0, 60, 42, 16, 6, 16, 12, 21, 5]
abbrev dktX3_takes_4 : List UInt8 := dkwX3_takes_4 ++ dktX3_takes_5
def dkwX3_takes_3 : List UInt8 := [54, 5, 29, 158, 0, 50, 42, 180, 0, 9, 21, 4, 46, 29, 162, 0, 18, 42, 8, 29, 42, 180, 0, 9]
abbrev dktX3_takes_3 : List UInt8 := dkwX3_takes_3 ++ dktX3_takes_4
def dkwX3_takes_2 : List UInt8 := [42, 27, 4, 182, 0, 90, 182, 0, 67, 172, 16, 14, 28, 96, 54, 4, 42, 27, 6, 28, 96, 182, 0, 90]
abbrev dktX3_takes_2 : List UInt8 := dkwX3_takes_2 ++ dktX3_takes_3
def dkwX3_takes_1 : List UInt8 := [16, 244, 16, 12, 184, 0, 48, 154, 0, 6, 16, 244, 172, 42, 27, 4, 182, 0, 90, 153, 0, 15, 42, 7]
abbrev dktX3_takes_1 : List UInt8 := dkwX3_takes_1 ++ dktX3_takes_2
def dkwX3_takes_0 : List UInt8 := [42, 27, 182, 0, 87, 153, 0, 10, 28, 184, 0, 81, 154, 0, 6, 16, 245, 172, 29, 153, 0, 14, 29]
abbrev dktX3_takes_0 : List UInt8 := dkwX3_takes_0 ++ dktX3_takes_1
theorem dksX3_takes_0 : cX3_takes.data.toList.drop 0 = dktX3_takes_0 := by decide +kernel
theorem dksX3_takes_1 : cX3_takes.data.toList.drop 23 = dktX3_takes_1 := dk_seg dksX3_takes_0 23 rfl rfl
theorem dksX3_takes_2 : cX3_takes.data.toList.drop 47 = dktX3_takes_2 := dk_seg dksX3_takes_1 24 rfl rfl
theorem dksX3_takes_3 : cX3_takes.data.toList.drop 71 = dktX3_takes_3 := dk_seg dksX3_takes_2 24 rfl rfl
theorem dksX3_takes_4 : cX3_takes.data.toList.drop 95 = dktX3_takes_4 := dk_seg dksX3_takes_3 24 rfl rfl
theorem dksX3_takes_5 : cX3_takes.data.toList.drop 119 = dktX3_takes_5 := dk_seg dksX3_takes_4 24 rfl rfl
theorem dksX3_takes_6 : cX3_takes.data.toList.drop 141 = dktX3_takes_6 := dk_seg dksX3_takes_5 22 rfl rfl
theorem dksX3_takes_7 : cX3_takes.data.toList.drop 165 = dktX3_takes_7 := dk_seg dksX3_takes_6 24 rfl rfl
theorem dksX3_takes_8 : cX3_takes.data.toList.drop 189 = dktX3_takes_8 := dk_seg dksX3_takes_7 24 rfl rfl
theorem dX3_takes_0 : decode cX3_takes 0 = .ok (.aload_n 0, 1) := dk_42 (dk_at dksX3_takes_0 0 rfl rfl)
theorem dX3_takes_1 : decode cX3_takes 1 = .ok (.iload_n 1, 1) := dk_27 (dk_at dksX3_takes_0 1 rfl rfl)
theorem dX3_takes_2 : decode cX3_takes 2 = .ok (.invokevirtual 87, 3) := dk_182 0 87 (dk_at dksX3_takes_0 2 rfl rfl)
theorem dX3_takes_5 : decode cX3_takes 5 = .ok (.ifCond .eq 10, 3) := dk_153 0 10 (dk_at dksX3_takes_0 5 rfl rfl)
theorem dX3_takes_8 : decode cX3_takes 8 = .ok (.iload_n 2, 1) := dk_28 (dk_at dksX3_takes_0 8 rfl rfl)
theorem dX3_takes_9 : decode cX3_takes 9 = .ok (.invokestatic 81, 3) := dk_184 0 81 (dk_at dksX3_takes_0 9 rfl rfl)
theorem dX3_takes_12 : decode cX3_takes 12 = .ok (.ifCond .ne 6, 3) := dk_154 0 6 (dk_at dksX3_takes_0 12 rfl rfl)
theorem dX3_takes_15 : decode cX3_takes 15 = .ok (.bipush (-11), 2) := dk_16 245 (dk_at dksX3_takes_0 15 rfl rfl)
theorem dX3_takes_17 : decode cX3_takes 17 = .ok (.ireturn, 1) := dk_172 (dk_at dksX3_takes_0 17 rfl rfl)
theorem dX3_takes_18 : decode cX3_takes 18 = .ok (.iload_n 3, 1) := dk_29 (dk_at dksX3_takes_0 18 rfl rfl)
theorem dX3_takes_19 : decode cX3_takes 19 = .ok (.ifCond .eq 14, 3) := dk_153 0 14 (dk_at dksX3_takes_0 19 rfl rfl)
theorem dX3_takes_22 : decode cX3_takes 22 = .ok (.iload_n 3, 1) := dk_29 (dk_at dksX3_takes_0 22 rfl rfl)
theorem dX3_takes_23 : decode cX3_takes 23 = .ok (.bipush (-12), 2) := dk_16 244 (dk_at dksX3_takes_1 0 rfl rfl)
theorem dX3_takes_25 : decode cX3_takes 25 = .ok (.bipush 12, 2) := dk_16 12 (dk_at dksX3_takes_1 2 rfl rfl)
theorem dX3_takes_27 : decode cX3_takes 27 = .ok (.invokestatic 48, 3) := dk_184 0 48 (dk_at dksX3_takes_1 4 rfl rfl)
theorem dX3_takes_30 : decode cX3_takes 30 = .ok (.ifCond .ne 6, 3) := dk_154 0 6 (dk_at dksX3_takes_1 7 rfl rfl)
theorem dX3_takes_33 : decode cX3_takes 33 = .ok (.bipush (-12), 2) := dk_16 244 (dk_at dksX3_takes_1 10 rfl rfl)
theorem dX3_takes_35 : decode cX3_takes 35 = .ok (.ireturn, 1) := dk_172 (dk_at dksX3_takes_1 12 rfl rfl)
theorem dX3_takes_36 : decode cX3_takes 36 = .ok (.aload_n 0, 1) := dk_42 (dk_at dksX3_takes_1 13 rfl rfl)
theorem dX3_takes_37 : decode cX3_takes 37 = .ok (.iload_n 1, 1) := dk_27 (dk_at dksX3_takes_1 14 rfl rfl)
theorem dX3_takes_38 : decode cX3_takes 38 = .ok (.iconst 1, 1) := dk_4 (dk_at dksX3_takes_1 15 rfl rfl)
theorem dX3_takes_39 : decode cX3_takes 39 = .ok (.invokevirtual 90, 3) := dk_182 0 90 (dk_at dksX3_takes_1 16 rfl rfl)
theorem dX3_takes_42 : decode cX3_takes 42 = .ok (.ifCond .eq 15, 3) := dk_153 0 15 (dk_at dksX3_takes_1 19 rfl rfl)
theorem dX3_takes_45 : decode cX3_takes 45 = .ok (.aload_n 0, 1) := dk_42 (dk_at dksX3_takes_1 22 rfl rfl)
theorem dX3_takes_46 : decode cX3_takes 46 = .ok (.iconst 4, 1) := dk_7 (dk_at dksX3_takes_1 23 rfl rfl)
theorem dX3_takes_47 : decode cX3_takes 47 = .ok (.aload_n 0, 1) := dk_42 (dk_at dksX3_takes_2 0 rfl rfl)
theorem dX3_takes_48 : decode cX3_takes 48 = .ok (.iload_n 1, 1) := dk_27 (dk_at dksX3_takes_2 1 rfl rfl)
theorem dX3_takes_49 : decode cX3_takes 49 = .ok (.iconst 1, 1) := dk_4 (dk_at dksX3_takes_2 2 rfl rfl)
theorem dX3_takes_50 : decode cX3_takes 50 = .ok (.invokevirtual 90, 3) := dk_182 0 90 (dk_at dksX3_takes_2 3 rfl rfl)
theorem dX3_takes_53 : decode cX3_takes 53 = .ok (.invokevirtual 67, 3) := dk_182 0 67 (dk_at dksX3_takes_2 6 rfl rfl)
theorem dX3_takes_56 : decode cX3_takes 56 = .ok (.ireturn, 1) := dk_172 (dk_at dksX3_takes_2 9 rfl rfl)
theorem dX3_takes_57 : decode cX3_takes 57 = .ok (.bipush 14, 2) := dk_16 14 (dk_at dksX3_takes_2 10 rfl rfl)
theorem dX3_takes_59 : decode cX3_takes 59 = .ok (.iload_n 2, 1) := dk_28 (dk_at dksX3_takes_2 12 rfl rfl)
theorem dX3_takes_60 : decode cX3_takes 60 = .ok (.iadd, 1) := dk_96 (dk_at dksX3_takes_2 13 rfl rfl)
theorem dX3_takes_61 : decode cX3_takes 61 = .ok (.istore 4, 2) := dk_54 4 (dk_at dksX3_takes_2 14 rfl rfl)
theorem dX3_takes_63 : decode cX3_takes 63 = .ok (.aload_n 0, 1) := dk_42 (dk_at dksX3_takes_2 16 rfl rfl)
theorem dX3_takes_64 : decode cX3_takes 64 = .ok (.iload_n 1, 1) := dk_27 (dk_at dksX3_takes_2 17 rfl rfl)
theorem dX3_takes_65 : decode cX3_takes 65 = .ok (.iconst 3, 1) := dk_6 (dk_at dksX3_takes_2 18 rfl rfl)
theorem dX3_takes_66 : decode cX3_takes 66 = .ok (.iload_n 2, 1) := dk_28 (dk_at dksX3_takes_2 19 rfl rfl)
theorem dX3_takes_67 : decode cX3_takes 67 = .ok (.iadd, 1) := dk_96 (dk_at dksX3_takes_2 20 rfl rfl)
theorem dX3_takes_68 : decode cX3_takes 68 = .ok (.invokevirtual 90, 3) := dk_182 0 90 (dk_at dksX3_takes_2 21 rfl rfl)
theorem dX3_takes_71 : decode cX3_takes 71 = .ok (.istore 5, 2) := dk_54 5 (dk_at dksX3_takes_3 0 rfl rfl)
theorem dX3_takes_73 : decode cX3_takes 73 = .ok (.iload_n 3, 1) := dk_29 (dk_at dksX3_takes_3 2 rfl rfl)
theorem dX3_takes_74 : decode cX3_takes 74 = .ok (.ifCond .le 50, 3) := dk_158 0 50 (dk_at dksX3_takes_3 3 rfl rfl)
theorem dX3_takes_77 : decode cX3_takes 77 = .ok (.aload_n 0, 1) := dk_42 (dk_at dksX3_takes_3 6 rfl rfl)
theorem dX3_takes_78 : decode cX3_takes 78 = .ok (.getfield 9, 3) := dk_180 0 9 (dk_at dksX3_takes_3 7 rfl rfl)
theorem dX3_takes_81 : decode cX3_takes 81 = .ok (.iload 4, 2) := dk_21 4 (dk_at dksX3_takes_3 10 rfl rfl)
theorem dX3_takes_83 : decode cX3_takes 83 = .ok (.iaload, 1) := dk_46 (dk_at dksX3_takes_3 12 rfl rfl)
theorem dX3_takes_84 : decode cX3_takes 84 = .ok (.iload_n 3, 1) := dk_29 (dk_at dksX3_takes_3 13 rfl rfl)
theorem dX3_takes_85 : decode cX3_takes 85 = .ok (.if_icmp .ge 18, 3) := dk_162 0 18 (dk_at dksX3_takes_3 14 rfl rfl)
theorem dX3_takes_88 : decode cX3_takes 88 = .ok (.aload_n 0, 1) := dk_42 (dk_at dksX3_takes_3 17 rfl rfl)
theorem dX3_takes_89 : decode cX3_takes 89 = .ok (.iconst 5, 1) := dk_8 (dk_at dksX3_takes_3 18 rfl rfl)
theorem dX3_takes_90 : decode cX3_takes 90 = .ok (.iload_n 3, 1) := dk_29 (dk_at dksX3_takes_3 19 rfl rfl)
theorem dX3_takes_91 : decode cX3_takes 91 = .ok (.aload_n 0, 1) := dk_42 (dk_at dksX3_takes_3 20 rfl rfl)
theorem dX3_takes_92 : decode cX3_takes 92 = .ok (.getfield 9, 3) := dk_180 0 9 (dk_at dksX3_takes_3 21 rfl rfl)
theorem dX3_takes_95 : decode cX3_takes 95 = .ok (.iload 4, 2) := dk_21 4 (dk_at dksX3_takes_4 0 rfl rfl)
theorem dX3_takes_97 : decode cX3_takes 97 = .ok (.iaload, 1) := dk_46 (dk_at dksX3_takes_4 2 rfl rfl)
theorem dX3_takes_98 : decode cX3_takes 98 = .ok (.isub, 1) := dk_100 (dk_at dksX3_takes_4 3 rfl rfl)
theorem dX3_takes_99 : decode cX3_takes 99 = .ok (.invokevirtual 67, 3) := dk_182 0 67 (dk_at dksX3_takes_4 4 rfl rfl)
theorem dX3_takes_102 : decode cX3_takes 102 = .ok (.ireturn, 1) := dk_172 (dk_at dksX3_takes_4 7 rfl rfl)
theorem dX3_takes_103 : decode cX3_takes 103 = .ok (.iload 5, 2) := dk_21 5 (dk_at dksX3_takes_4 8 rfl rfl)
theorem dX3_takes_105 : decode cX3_takes 105 = .ok (.iload_n 3, 1) := dk_29 (dk_at dksX3_takes_4 10 rfl rfl)
theorem dX3_takes_106 : decode cX3_takes 106 = .ok (.iadd, 1) := dk_96 (dk_at dksX3_takes_4 11 rfl rfl)
theorem dX3_takes_107 : decode cX3_takes 107 = .ok (.bipush 12, 2) := dk_16 12 (dk_at dksX3_takes_4 12 rfl rfl)
theorem dX3_takes_109 : decode cX3_takes 109 = .ok (.if_icmp .le 60, 3) := dk_164 0 60 (dk_at dksX3_takes_4 14 rfl rfl)
theorem dX3_takes_112 : decode cX3_takes 112 = .ok (.aload_n 0, 1) := dk_42 (dk_at dksX3_takes_4 17 rfl rfl)
theorem dX3_takes_113 : decode cX3_takes 113 = .ok (.bipush 6, 2) := dk_16 6 (dk_at dksX3_takes_4 18 rfl rfl)
theorem dX3_takes_115 : decode cX3_takes 115 = .ok (.bipush 12, 2) := dk_16 12 (dk_at dksX3_takes_4 20 rfl rfl)
theorem dX3_takes_117 : decode cX3_takes 117 = .ok (.iload 5, 2) := dk_21 5 (dk_at dksX3_takes_4 22 rfl rfl)
theorem dX3_takes_119 : decode cX3_takes 119 = .ok (.isub, 1) := dk_100 (dk_at dksX3_takes_5 0 rfl rfl)
theorem dX3_takes_120 : decode cX3_takes 120 = .ok (.invokevirtual 67, 3) := dk_182 0 67 (dk_at dksX3_takes_5 1 rfl rfl)
theorem dX3_takes_123 : decode cX3_takes 123 = .ok (.ireturn, 1) := dk_172 (dk_at dksX3_takes_5 4 rfl rfl)
theorem dX3_takes_124 : decode cX3_takes 124 = .ok (.iload 5, 2) := dk_21 5 (dk_at dksX3_takes_5 5 rfl rfl)
theorem dX3_takes_126 : decode cX3_takes 126 = .ok (.iload_n 3, 1) := dk_29 (dk_at dksX3_takes_5 7 rfl rfl)
theorem dX3_takes_127 : decode cX3_takes 127 = .ok (.ineg, 1) := dk_116 (dk_at dksX3_takes_5 8 rfl rfl)
theorem dX3_takes_128 : decode cX3_takes 128 = .ok (.if_icmp .ge 12, 3) := dk_162 0 12 (dk_at dksX3_takes_5 9 rfl rfl)
theorem dX3_takes_131 : decode cX3_takes 131 = .ok (.aload_n 0, 1) := dk_42 (dk_at dksX3_takes_5 12 rfl rfl)
theorem dX3_takes_132 : decode cX3_takes 132 = .ok (.bipush 7, 2) := dk_16 7 (dk_at dksX3_takes_5 13 rfl rfl)
theorem dX3_takes_134 : decode cX3_takes 134 = .ok (.iload 5, 2) := dk_21 5 (dk_at dksX3_takes_5 15 rfl rfl)
theorem dX3_takes_136 : decode cX3_takes 136 = .ok (.invokevirtual 67, 3) := dk_182 0 67 (dk_at dksX3_takes_5 17 rfl rfl)
theorem dX3_takes_139 : decode cX3_takes 139 = .ok (.ireturn, 1) := dk_172 (dk_at dksX3_takes_5 20 rfl rfl)
theorem dX3_takes_140 : decode cX3_takes 140 = .ok (.aload_n 0, 1) := dk_42 (dk_at dksX3_takes_5 21 rfl rfl)
theorem dX3_takes_141 : decode cX3_takes 141 = .ok (.getfield 9, 3) := dk_180 0 9 (dk_at dksX3_takes_6 0 rfl rfl)
theorem dX3_takes_144 : decode cX3_takes 144 = .ok (.iload 4, 2) := dk_21 4 (dk_at dksX3_takes_6 3 rfl rfl)
theorem dX3_takes_146 : decode cX3_takes 146 = .ok (.iaload, 1) := dk_46 (dk_at dksX3_takes_6 5 rfl rfl)
theorem dX3_takes_147 : decode cX3_takes 147 = .ok (.iload_n 3, 1) := dk_29 (dk_at dksX3_takes_6 6 rfl rfl)
theorem dX3_takes_148 : decode cX3_takes 148 = .ok (.isub, 1) := dk_100 (dk_at dksX3_takes_6 7 rfl rfl)
theorem dX3_takes_149 : decode cX3_takes 149 = .ok (.sipush 200, 3) := dk_17 0 200 (dk_at dksX3_takes_6 8 rfl rfl)
theorem dX3_takes_152 : decode cX3_takes 152 = .ok (.if_icmp .le 17, 3) := dk_164 0 17 (dk_at dksX3_takes_6 11 rfl rfl)
theorem dX3_takes_155 : decode cX3_takes 155 = .ok (.aload_n 0, 1) := dk_42 (dk_at dksX3_takes_6 14 rfl rfl)
theorem dX3_takes_156 : decode cX3_takes 156 = .ok (.bipush 16, 2) := dk_16 16 (dk_at dksX3_takes_6 15 rfl rfl)
theorem dX3_takes_158 : decode cX3_takes 158 = .ok (.aload_n 0, 1) := dk_42 (dk_at dksX3_takes_6 17 rfl rfl)
theorem dX3_takes_159 : decode cX3_takes 159 = .ok (.getfield 9, 3) := dk_180 0 9 (dk_at dksX3_takes_6 18 rfl rfl)
theorem dX3_takes_162 : decode cX3_takes 162 = .ok (.iload 4, 2) := dk_21 4 (dk_at dksX3_takes_6 21 rfl rfl)
theorem dX3_takes_164 : decode cX3_takes 164 = .ok (.iaload, 1) := dk_46 (dk_at dksX3_takes_6 23 rfl rfl)
theorem dX3_takes_165 : decode cX3_takes 165 = .ok (.invokevirtual 67, 3) := dk_182 0 67 (dk_at dksX3_takes_7 0 rfl rfl)
theorem dX3_takes_168 : decode cX3_takes 168 = .ok (.ireturn, 1) := dk_172 (dk_at dksX3_takes_7 3 rfl rfl)
theorem dX3_takes_169 : decode cX3_takes 169 = .ok (.aload_n 0, 1) := dk_42 (dk_at dksX3_takes_7 4 rfl rfl)
theorem dX3_takes_170 : decode cX3_takes 170 = .ok (.getfield 9, 3) := dk_180 0 9 (dk_at dksX3_takes_7 5 rfl rfl)
theorem dX3_takes_173 : decode cX3_takes 173 = .ok (.iload 4, 2) := dk_21 4 (dk_at dksX3_takes_7 8 rfl rfl)
theorem dX3_takes_175 : decode cX3_takes 175 = .ok (.dup2, 1) := dk_92 (dk_at dksX3_takes_7 10 rfl rfl)
theorem dX3_takes_176 : decode cX3_takes 176 = .ok (.iaload, 1) := dk_46 (dk_at dksX3_takes_7 11 rfl rfl)
theorem dX3_takes_177 : decode cX3_takes 177 = .ok (.iload_n 3, 1) := dk_29 (dk_at dksX3_takes_7 12 rfl rfl)
theorem dX3_takes_178 : decode cX3_takes 178 = .ok (.isub, 1) := dk_100 (dk_at dksX3_takes_7 13 rfl rfl)
theorem dX3_takes_179 : decode cX3_takes 179 = .ok (.iastore, 1) := dk_79 (dk_at dksX3_takes_7 14 rfl rfl)
theorem dX3_takes_180 : decode cX3_takes 180 = .ok (.aload_n 0, 1) := dk_42 (dk_at dksX3_takes_7 15 rfl rfl)
theorem dX3_takes_181 : decode cX3_takes 181 = .ok (.iload_n 1, 1) := dk_27 (dk_at dksX3_takes_7 16 rfl rfl)
theorem dX3_takes_182 : decode cX3_takes 182 = .ok (.iconst 3, 1) := dk_6 (dk_at dksX3_takes_7 17 rfl rfl)
theorem dX3_takes_183 : decode cX3_takes 183 = .ok (.iload_n 2, 1) := dk_28 (dk_at dksX3_takes_7 18 rfl rfl)
theorem dX3_takes_184 : decode cX3_takes 184 = .ok (.iadd, 1) := dk_96 (dk_at dksX3_takes_7 19 rfl rfl)
theorem dX3_takes_185 : decode cX3_takes 185 = .ok (.iload_n 3, 1) := dk_29 (dk_at dksX3_takes_7 20 rfl rfl)
theorem dX3_takes_186 : decode cX3_takes 186 = .ok (.invokevirtual 93, 3) := dk_182 0 93 (dk_at dksX3_takes_7 21 rfl rfl)
theorem dX3_takes_189 : decode cX3_takes 189 = .ok (.aload_n 0, 1) := dk_42 (dk_at dksX3_takes_8 0 rfl rfl)
theorem dX3_takes_190 : decode cX3_takes 190 = .ok (.iload 5, 2) := dk_21 5 (dk_at dksX3_takes_8 1 rfl rfl)
theorem dX3_takes_192 : decode cX3_takes 192 = .ok (.iload_n 3, 1) := dk_29 (dk_at dksX3_takes_8 3 rfl rfl)
theorem dX3_takes_193 : decode cX3_takes 193 = .ok (.iadd, 1) := dk_96 (dk_at dksX3_takes_8 4 rfl rfl)
theorem dX3_takes_194 : decode cX3_takes 194 = .ok (.invokevirtual 97, 3) := dk_182 0 97 (dk_at dksX3_takes_8 5 rfl rfl)
theorem dX3_takes_197 : decode cX3_takes 197 = .ok (.ireturn, 1) := dk_172 (dk_at dksX3_takes_8 8 rfl rfl)
abbrev cX3_isSeller : ByteArray := prog_12_method_9_code
def yX3_isSeller : MethodName := ⟨RX3, "isSeller", "(I)Z"⟩
def dkwX3_isSeller_0 : List UInt8 := [27, 3, 42, 180, 0, 9, 5, 46, 4, 100, 184, 0, 48, 172]
abbrev dktX3_isSeller_0 : List UInt8 := dkwX3_isSeller_0 ++ []
theorem dksX3_isSeller_0 : cX3_isSeller.data.toList.drop 0 = dktX3_isSeller_0 := by decide +kernel
theorem dX3_isSeller_0 : decode cX3_isSeller 0 = .ok (.iload_n 1, 1) := dk_27 (dk_at dksX3_isSeller_0 0 rfl rfl)
theorem dX3_isSeller_1 : decode cX3_isSeller 1 = .ok (.iconst 0, 1) := dk_3 (dk_at dksX3_isSeller_0 1 rfl rfl)
theorem dX3_isSeller_2 : decode cX3_isSeller 2 = .ok (.aload_n 0, 1) := dk_42 (dk_at dksX3_isSeller_0 2 rfl rfl)
theorem dX3_isSeller_3 : decode cX3_isSeller 3 = .ok (.getfield 9, 3) := dk_180 0 9 (dk_at dksX3_isSeller_0 3 rfl rfl)
theorem dX3_isSeller_6 : decode cX3_isSeller 6 = .ok (.iconst 2, 1) := dk_5 (dk_at dksX3_isSeller_0 6 rfl rfl)
theorem dX3_isSeller_7 : decode cX3_isSeller 7 = .ok (.iaload, 1) := dk_46 (dk_at dksX3_isSeller_0 7 rfl rfl)
theorem dX3_isSeller_8 : decode cX3_isSeller 8 = .ok (.iconst 1, 1) := dk_4 (dk_at dksX3_isSeller_0 8 rfl rfl)
theorem dX3_isSeller_9 : decode cX3_isSeller 9 = .ok (.isub, 1) := dk_100 (dk_at dksX3_isSeller_0 9 rfl rfl)
theorem dX3_isSeller_10 : decode cX3_isSeller 10 = .ok (.invokestatic 48, 3) := dk_184 0 48 (dk_at dksX3_isSeller_0 10 rfl rfl)
theorem dX3_isSeller_13 : decode cX3_isSeller 13 = .ok (.ireturn, 1) := dk_172 (dk_at dksX3_isSeller_0 13 rfl rfl)
abbrev cX3_of : ByteArray := prog_12_method_12_code
def yX3_of : MethodName := ⟨RX3, "of", "(II)I"⟩
def dkwX3_of_0 : List UInt8 := [42, 180, 0, 9, 16, 17, 16, 9, 27, 104, 96, 28, 96, 46, 172]
abbrev dktX3_of_0 : List UInt8 := dkwX3_of_0 ++ []
theorem dksX3_of_0 : cX3_of.data.toList.drop 0 = dktX3_of_0 := by decide +kernel
theorem dX3_of_0 : decode cX3_of 0 = .ok (.aload_n 0, 1) := dk_42 (dk_at dksX3_of_0 0 rfl rfl)
theorem dX3_of_1 : decode cX3_of 1 = .ok (.getfield 9, 3) := dk_180 0 9 (dk_at dksX3_of_0 1 rfl rfl)
theorem dX3_of_4 : decode cX3_of 4 = .ok (.bipush 17, 2) := dk_16 17 (dk_at dksX3_of_0 4 rfl rfl)
theorem dX3_of_6 : decode cX3_of 6 = .ok (.bipush 9, 2) := dk_16 9 (dk_at dksX3_of_0 6 rfl rfl)
theorem dX3_of_8 : decode cX3_of 8 = .ok (.iload_n 1, 1) := dk_27 (dk_at dksX3_of_0 8 rfl rfl)
theorem dX3_of_9 : decode cX3_of 9 = .ok (.imul, 1) := dk_104 (dk_at dksX3_of_0 9 rfl rfl)
theorem dX3_of_10 : decode cX3_of 10 = .ok (.iadd, 1) := dk_96 (dk_at dksX3_of_0 10 rfl rfl)
theorem dX3_of_11 : decode cX3_of 11 = .ok (.iload_n 2, 1) := dk_28 (dk_at dksX3_of_0 11 rfl rfl)
theorem dX3_of_12 : decode cX3_of 12 = .ok (.iadd, 1) := dk_96 (dk_at dksX3_of_0 12 rfl rfl)
theorem dX3_of_13 : decode cX3_of 13 = .ok (.iaload, 1) := dk_46 (dk_at dksX3_of_0 13 rfl rfl)
theorem dX3_of_14 : decode cX3_of 14 = .ok (.ireturn, 1) := dk_172 (dk_at dksX3_of_0 14 rfl rfl)
abbrev cX3_adds : ByteArray := prog_12_method_13_code
def yX3_adds : MethodName := ⟨RX3, "adds", "(III)V"⟩
def dkwX3_adds_0 : List UInt8 := [42, 180, 0, 9, 16, 17, 16, 9, 27, 104, 96, 28, 96, 92, 46, 29, 96, 79, 177]
abbrev dktX3_adds_0 : List UInt8 := dkwX3_adds_0 ++ []
theorem dksX3_adds_0 : cX3_adds.data.toList.drop 0 = dktX3_adds_0 := by decide +kernel
theorem dX3_adds_0 : decode cX3_adds 0 = .ok (.aload_n 0, 1) := dk_42 (dk_at dksX3_adds_0 0 rfl rfl)
theorem dX3_adds_1 : decode cX3_adds 1 = .ok (.getfield 9, 3) := dk_180 0 9 (dk_at dksX3_adds_0 1 rfl rfl)
theorem dX3_adds_4 : decode cX3_adds 4 = .ok (.bipush 17, 2) := dk_16 17 (dk_at dksX3_adds_0 4 rfl rfl)
theorem dX3_adds_6 : decode cX3_adds 6 = .ok (.bipush 9, 2) := dk_16 9 (dk_at dksX3_adds_0 6 rfl rfl)
theorem dX3_adds_8 : decode cX3_adds 8 = .ok (.iload_n 1, 1) := dk_27 (dk_at dksX3_adds_0 8 rfl rfl)
theorem dX3_adds_9 : decode cX3_adds 9 = .ok (.imul, 1) := dk_104 (dk_at dksX3_adds_0 9 rfl rfl)
theorem dX3_adds_10 : decode cX3_adds 10 = .ok (.iadd, 1) := dk_96 (dk_at dksX3_adds_0 10 rfl rfl)
theorem dX3_adds_11 : decode cX3_adds 11 = .ok (.iload_n 2, 1) := dk_28 (dk_at dksX3_adds_0 11 rfl rfl)
theorem dX3_adds_12 : decode cX3_adds 12 = .ok (.iadd, 1) := dk_96 (dk_at dksX3_adds_0 12 rfl rfl)
theorem dX3_adds_13 : decode cX3_adds 13 = .ok (.dup2, 1) := dk_92 (dk_at dksX3_adds_0 13 rfl rfl)
theorem dX3_adds_14 : decode cX3_adds 14 = .ok (.iaload, 1) := dk_46 (dk_at dksX3_adds_0 14 rfl rfl)
theorem dX3_adds_15 : decode cX3_adds 15 = .ok (.iload_n 3, 1) := dk_29 (dk_at dksX3_adds_0 15 rfl rfl)
theorem dX3_adds_16 : decode cX3_adds 16 = .ok (.iadd, 1) := dk_96 (dk_at dksX3_adds_0 16 rfl rfl)
theorem dX3_adds_17 : decode cX3_adds 17 = .ok (.iastore, 1) := dk_79 (dk_at dksX3_adds_0 17 rfl rfl)
theorem dX3_adds_18 : decode cX3_adds 18 = .ok (.return_, 1) := dk_177 (dk_at dksX3_adds_0 18 rfl rfl)
abbrev cX3_does : ByteArray := prog_12_method_7_code
def yX3_does : MethodName := ⟨RX3, "does", "(I)I"⟩
def dkwX3_does_0 : List UInt8 := [42, 27, 181, 0, 41, 3, 172]
abbrev dktX3_does_0 : List UInt8 := dkwX3_does_0 ++ []
theorem dksX3_does_0 : cX3_does.data.toList.drop 0 = dktX3_does_0 := by decide +kernel
theorem dX3_does_0 : decode cX3_does 0 = .ok (.aload_n 0, 1) := dk_42 (dk_at dksX3_does_0 0 rfl rfl)
theorem dX3_does_1 : decode cX3_does 1 = .ok (.iload_n 1, 1) := dk_27 (dk_at dksX3_does_0 1 rfl rfl)
theorem dX3_does_2 : decode cX3_does 2 = .ok (.putfield 41, 3) := dk_181 0 41 (dk_at dksX3_does_0 2 rfl rfl)
theorem dX3_does_5 : decode cX3_does 5 = .ok (.iconst 0, 1) := dk_3 (dk_at dksX3_does_0 5 rfl rfl)
theorem dX3_does_6 : decode cX3_does 6 = .ok (.ireturn, 1) := dk_172 (dk_at dksX3_does_0 6 rfl rfl)
abbrev cX3_ends : ByteArray := prog_12_method_8_code
def yX3_ends : MethodName := ⟨RX3, "ends", "(I)I"⟩
def dkwX3_ends_0 : List UInt8 := [27, 154, 0, 14, 42, 42, 180, 0, 41, 182, 0, 44, 167, 0, 4, 27, 172]
abbrev dktX3_ends_0 : List UInt8 := dkwX3_ends_0 ++ []
theorem dksX3_ends_0 : cX3_ends.data.toList.drop 0 = dktX3_ends_0 := by decide +kernel
theorem dX3_ends_0 : decode cX3_ends 0 = .ok (.iload_n 1, 1) := dk_27 (dk_at dksX3_ends_0 0 rfl rfl)
theorem dX3_ends_1 : decode cX3_ends 1 = .ok (.ifCond .ne 14, 3) := dk_154 0 14 (dk_at dksX3_ends_0 1 rfl rfl)
theorem dX3_ends_4 : decode cX3_ends 4 = .ok (.aload_n 0, 1) := dk_42 (dk_at dksX3_ends_0 4 rfl rfl)
theorem dX3_ends_5 : decode cX3_ends 5 = .ok (.aload_n 0, 1) := dk_42 (dk_at dksX3_ends_0 5 rfl rfl)
theorem dX3_ends_6 : decode cX3_ends 6 = .ok (.getfield 41, 3) := dk_180 0 41 (dk_at dksX3_ends_0 6 rfl rfl)
theorem dX3_ends_9 : decode cX3_ends 9 = .ok (.invokevirtual 44, 3) := dk_182 0 44 (dk_at dksX3_ends_0 9 rfl rfl)
theorem dX3_ends_12 : decode cX3_ends 12 = .ok (.goto 4, 3) := dk_167 0 4 (dk_at dksX3_ends_0 12 rfl rfl)
theorem dX3_ends_15 : decode cX3_ends 15 = .ok (.iload_n 1, 1) := dk_27 (dk_at dksX3_ends_0 15 rfl rfl)
theorem dX3_ends_16 : decode cX3_ends 16 = .ok (.ireturn, 1) := dk_172 (dk_at dksX3_ends_0 16 rfl rfl)
abbrev cX3_sellerOf : ByteArray := prog_12_method_26_code
def yX3_sellerOf : MethodName := ⟨RX3, "sellerOf", "(II)I"⟩
def dkwX3_sellerOf_1 : List UInt8 := [182, 0, 90, 167, 0, 5, 16, 244, 172]
abbrev dktX3_sellerOf_1 : List UInt8 := dkwX3_sellerOf_1 ++ []
def dkwX3_sellerOf_0 : List UInt8 := [42, 27, 182, 0, 87, 154, 0, 6, 16, 245, 172, 28, 3, 16, 8, 184, 0, 48, 153, 0, 12, 42, 27, 28]
abbrev dktX3_sellerOf_0 : List UInt8 := dkwX3_sellerOf_0 ++ dktX3_sellerOf_1
theorem dksX3_sellerOf_0 : cX3_sellerOf.data.toList.drop 0 = dktX3_sellerOf_0 := by decide +kernel
theorem dksX3_sellerOf_1 : cX3_sellerOf.data.toList.drop 24 = dktX3_sellerOf_1 := dk_seg dksX3_sellerOf_0 24 rfl rfl
theorem dX3_sellerOf_0 : decode cX3_sellerOf 0 = .ok (.aload_n 0, 1) := dk_42 (dk_at dksX3_sellerOf_0 0 rfl rfl)
theorem dX3_sellerOf_1 : decode cX3_sellerOf 1 = .ok (.iload_n 1, 1) := dk_27 (dk_at dksX3_sellerOf_0 1 rfl rfl)
theorem dX3_sellerOf_2 : decode cX3_sellerOf 2 = .ok (.invokevirtual 87, 3) := dk_182 0 87 (dk_at dksX3_sellerOf_0 2 rfl rfl)
theorem dX3_sellerOf_5 : decode cX3_sellerOf 5 = .ok (.ifCond .ne 6, 3) := dk_154 0 6 (dk_at dksX3_sellerOf_0 5 rfl rfl)
theorem dX3_sellerOf_8 : decode cX3_sellerOf 8 = .ok (.bipush (-11), 2) := dk_16 245 (dk_at dksX3_sellerOf_0 8 rfl rfl)
theorem dX3_sellerOf_10 : decode cX3_sellerOf 10 = .ok (.ireturn, 1) := dk_172 (dk_at dksX3_sellerOf_0 10 rfl rfl)
theorem dX3_sellerOf_11 : decode cX3_sellerOf 11 = .ok (.iload_n 2, 1) := dk_28 (dk_at dksX3_sellerOf_0 11 rfl rfl)
theorem dX3_sellerOf_12 : decode cX3_sellerOf 12 = .ok (.iconst 0, 1) := dk_3 (dk_at dksX3_sellerOf_0 12 rfl rfl)
theorem dX3_sellerOf_13 : decode cX3_sellerOf 13 = .ok (.bipush 8, 2) := dk_16 8 (dk_at dksX3_sellerOf_0 13 rfl rfl)
theorem dX3_sellerOf_15 : decode cX3_sellerOf 15 = .ok (.invokestatic 48, 3) := dk_184 0 48 (dk_at dksX3_sellerOf_0 15 rfl rfl)
theorem dX3_sellerOf_18 : decode cX3_sellerOf 18 = .ok (.ifCond .eq 12, 3) := dk_153 0 12 (dk_at dksX3_sellerOf_0 18 rfl rfl)
theorem dX3_sellerOf_21 : decode cX3_sellerOf 21 = .ok (.aload_n 0, 1) := dk_42 (dk_at dksX3_sellerOf_0 21 rfl rfl)
theorem dX3_sellerOf_22 : decode cX3_sellerOf 22 = .ok (.iload_n 1, 1) := dk_27 (dk_at dksX3_sellerOf_0 22 rfl rfl)
theorem dX3_sellerOf_23 : decode cX3_sellerOf 23 = .ok (.iload_n 2, 1) := dk_28 (dk_at dksX3_sellerOf_0 23 rfl rfl)
theorem dX3_sellerOf_24 : decode cX3_sellerOf 24 = .ok (.invokevirtual 90, 3) := dk_182 0 90 (dk_at dksX3_sellerOf_1 0 rfl rfl)
theorem dX3_sellerOf_27 : decode cX3_sellerOf 27 = .ok (.goto 5, 3) := dk_167 0 5 (dk_at dksX3_sellerOf_1 3 rfl rfl)
theorem dX3_sellerOf_30 : decode cX3_sellerOf 30 = .ok (.bipush (-12), 2) := dk_16 244 (dk_at dksX3_sellerOf_1 6 rfl rfl)
theorem dX3_sellerOf_32 : decode cX3_sellerOf 32 = .ok (.ireturn, 1) := dk_172 (dk_at dksX3_sellerOf_1 8 rfl rfl)
abbrev cX3_houseOf : ByteArray := prog_12_method_27_code
def yX3_houseOf : MethodName := ⟨RX3, "houseOf", "(II)I"⟩
def dkwX3_houseOf_4 : List UInt8 := [172]
abbrev dktX3_houseOf_4 : List UInt8 := dkwX3_houseOf_4 ++ []
def dkwX3_houseOf_3 : List UInt8 := [42, 27, 182, 0, 70, 172, 42, 180, 0, 9, 16, 53, 7, 27, 104, 96, 28, 96, 4, 100, 46, 172, 16, 244]
abbrev dktX3_houseOf_3 : List UInt8 := dkwX3_houseOf_3 ++ dktX3_houseOf_4
def dkwX3_houseOf_2 : List UInt8 := [27, 184, 0, 107, 172, 42, 27, 182, 0, 52, 172, 42, 27, 182, 0, 70, 156, 0, 8, 16, 241, 167, 0, 8]
abbrev dktX3_houseOf_2 : List UInt8 := dkwX3_houseOf_2 ++ dktX3_houseOf_3
def dkwX3_houseOf_1 : List UInt8 := [170, 0, 0, 0, 79, 0, 0, 0, 0, 0, 0, 0, 4, 0, 0, 0, 33, 0, 0, 0, 38, 0, 0, 0, 44, 0, 0, 0, 63, 0, 0, 0, 63]
abbrev dktX3_houseOf_1 : List UInt8 := dkwX3_houseOf_1 ++ dktX3_houseOf_2
def dkwX3_houseOf_0 : List UInt8 := [27, 184, 0, 73, 154, 0, 6, 16, 245, 172, 28]
abbrev dktX3_houseOf_0 : List UInt8 := dkwX3_houseOf_0 ++ dktX3_houseOf_1
theorem dksX3_houseOf_0 : cX3_houseOf.data.toList.drop 0 = dktX3_houseOf_0 := by decide +kernel
theorem dksX3_houseOf_1 : cX3_houseOf.data.toList.drop 11 = dktX3_houseOf_1 := dk_seg dksX3_houseOf_0 11 rfl rfl
theorem dksX3_houseOf_2 : cX3_houseOf.data.toList.drop 44 = dktX3_houseOf_2 := dk_seg dksX3_houseOf_1 33 rfl rfl
theorem dksX3_houseOf_3 : cX3_houseOf.data.toList.drop 68 = dktX3_houseOf_3 := dk_seg dksX3_houseOf_2 24 rfl rfl
theorem dksX3_houseOf_4 : cX3_houseOf.data.toList.drop 92 = dktX3_houseOf_4 := dk_seg dksX3_houseOf_3 24 rfl rfl
theorem dX3_houseOf_0 : decode cX3_houseOf 0 = .ok (.iload_n 1, 1) := dk_27 (dk_at dksX3_houseOf_0 0 rfl rfl)
theorem dX3_houseOf_1 : decode cX3_houseOf 1 = .ok (.invokestatic 73, 3) := dk_184 0 73 (dk_at dksX3_houseOf_0 1 rfl rfl)
theorem dX3_houseOf_4 : decode cX3_houseOf 4 = .ok (.ifCond .ne 6, 3) := dk_154 0 6 (dk_at dksX3_houseOf_0 4 rfl rfl)
theorem dX3_houseOf_7 : decode cX3_houseOf 7 = .ok (.bipush (-11), 2) := dk_16 245 (dk_at dksX3_houseOf_0 7 rfl rfl)
theorem dX3_houseOf_9 : decode cX3_houseOf 9 = .ok (.ireturn, 1) := dk_172 (dk_at dksX3_houseOf_0 9 rfl rfl)
theorem dX3_houseOf_10 : decode cX3_houseOf 10 = .ok (.iload_n 2, 1) := dk_28 (dk_at dksX3_houseOf_0 10 rfl rfl)
theorem dX3_houseOf_11 : decode cX3_houseOf 11 = .ok (.tableswitch 79 0 4 #[33, 38, 44, 63, 63], 33) := by decide +kernel
theorem dX3_houseOf_44 : decode cX3_houseOf 44 = .ok (.iload_n 1, 1) := dk_27 (dk_at dksX3_houseOf_2 0 rfl rfl)
theorem dX3_houseOf_45 : decode cX3_houseOf 45 = .ok (.invokestatic 107, 3) := dk_184 0 107 (dk_at dksX3_houseOf_2 1 rfl rfl)
theorem dX3_houseOf_48 : decode cX3_houseOf 48 = .ok (.ireturn, 1) := dk_172 (dk_at dksX3_houseOf_2 4 rfl rfl)
theorem dX3_houseOf_49 : decode cX3_houseOf 49 = .ok (.aload_n 0, 1) := dk_42 (dk_at dksX3_houseOf_2 5 rfl rfl)
theorem dX3_houseOf_50 : decode cX3_houseOf 50 = .ok (.iload_n 1, 1) := dk_27 (dk_at dksX3_houseOf_2 6 rfl rfl)
theorem dX3_houseOf_51 : decode cX3_houseOf 51 = .ok (.invokevirtual 52, 3) := dk_182 0 52 (dk_at dksX3_houseOf_2 7 rfl rfl)
theorem dX3_houseOf_54 : decode cX3_houseOf 54 = .ok (.ireturn, 1) := dk_172 (dk_at dksX3_houseOf_2 10 rfl rfl)
theorem dX3_houseOf_55 : decode cX3_houseOf 55 = .ok (.aload_n 0, 1) := dk_42 (dk_at dksX3_houseOf_2 11 rfl rfl)
theorem dX3_houseOf_56 : decode cX3_houseOf 56 = .ok (.iload_n 1, 1) := dk_27 (dk_at dksX3_houseOf_2 12 rfl rfl)
theorem dX3_houseOf_57 : decode cX3_houseOf 57 = .ok (.invokevirtual 70, 3) := dk_182 0 70 (dk_at dksX3_houseOf_2 13 rfl rfl)
theorem dX3_houseOf_60 : decode cX3_houseOf 60 = .ok (.ifCond .ge 8, 3) := dk_156 0 8 (dk_at dksX3_houseOf_2 16 rfl rfl)
theorem dX3_houseOf_63 : decode cX3_houseOf 63 = .ok (.bipush (-15), 2) := dk_16 241 (dk_at dksX3_houseOf_2 19 rfl rfl)
theorem dX3_houseOf_65 : decode cX3_houseOf 65 = .ok (.goto 8, 3) := dk_167 0 8 (dk_at dksX3_houseOf_2 21 rfl rfl)
theorem dX3_houseOf_68 : decode cX3_houseOf 68 = .ok (.aload_n 0, 1) := dk_42 (dk_at dksX3_houseOf_3 0 rfl rfl)
theorem dX3_houseOf_69 : decode cX3_houseOf 69 = .ok (.iload_n 1, 1) := dk_27 (dk_at dksX3_houseOf_3 1 rfl rfl)
theorem dX3_houseOf_70 : decode cX3_houseOf 70 = .ok (.invokevirtual 70, 3) := dk_182 0 70 (dk_at dksX3_houseOf_3 2 rfl rfl)
theorem dX3_houseOf_73 : decode cX3_houseOf 73 = .ok (.ireturn, 1) := dk_172 (dk_at dksX3_houseOf_3 5 rfl rfl)
theorem dX3_houseOf_74 : decode cX3_houseOf 74 = .ok (.aload_n 0, 1) := dk_42 (dk_at dksX3_houseOf_3 6 rfl rfl)
theorem dX3_houseOf_75 : decode cX3_houseOf 75 = .ok (.getfield 9, 3) := dk_180 0 9 (dk_at dksX3_houseOf_3 7 rfl rfl)
theorem dX3_houseOf_78 : decode cX3_houseOf 78 = .ok (.bipush 53, 2) := dk_16 53 (dk_at dksX3_houseOf_3 10 rfl rfl)
theorem dX3_houseOf_80 : decode cX3_houseOf 80 = .ok (.iconst 4, 1) := dk_7 (dk_at dksX3_houseOf_3 12 rfl rfl)
theorem dX3_houseOf_81 : decode cX3_houseOf 81 = .ok (.iload_n 1, 1) := dk_27 (dk_at dksX3_houseOf_3 13 rfl rfl)
theorem dX3_houseOf_82 : decode cX3_houseOf 82 = .ok (.imul, 1) := dk_104 (dk_at dksX3_houseOf_3 14 rfl rfl)
theorem dX3_houseOf_83 : decode cX3_houseOf 83 = .ok (.iadd, 1) := dk_96 (dk_at dksX3_houseOf_3 15 rfl rfl)
theorem dX3_houseOf_84 : decode cX3_houseOf 84 = .ok (.iload_n 2, 1) := dk_28 (dk_at dksX3_houseOf_3 16 rfl rfl)
theorem dX3_houseOf_85 : decode cX3_houseOf 85 = .ok (.iadd, 1) := dk_96 (dk_at dksX3_houseOf_3 17 rfl rfl)
theorem dX3_houseOf_86 : decode cX3_houseOf 86 = .ok (.iconst 1, 1) := dk_4 (dk_at dksX3_houseOf_3 18 rfl rfl)
theorem dX3_houseOf_87 : decode cX3_houseOf 87 = .ok (.isub, 1) := dk_100 (dk_at dksX3_houseOf_3 19 rfl rfl)
theorem dX3_houseOf_88 : decode cX3_houseOf 88 = .ok (.iaload, 1) := dk_46 (dk_at dksX3_houseOf_3 20 rfl rfl)
theorem dX3_houseOf_89 : decode cX3_houseOf 89 = .ok (.ireturn, 1) := dk_172 (dk_at dksX3_houseOf_3 21 rfl rfl)
theorem dX3_houseOf_90 : decode cX3_houseOf 90 = .ok (.bipush (-12), 2) := dk_16 244 (dk_at dksX3_houseOf_3 22 rfl rfl)
theorem dX3_houseOf_92 : decode cX3_houseOf 92 = .ok (.ireturn, 1) := dk_172 (dk_at dksX3_houseOf_4 0 rfl rfl)
abbrev cX3_steps : ByteArray := prog_12_method_17_code
def yX3_steps : MethodName := ⟨RX3, "steps", "(I)I"⟩
def dkwX3_steps_0 : List UInt8 := [4, 6, 26, 104, 8, 112, 96, 172]
abbrev dktX3_steps_0 : List UInt8 := dkwX3_steps_0 ++ []
theorem dksX3_steps_0 : cX3_steps.data.toList.drop 0 = dktX3_steps_0 := by decide +kernel
theorem dX3_steps_0 : decode cX3_steps 0 = .ok (.iconst 1, 1) := dk_4 (dk_at dksX3_steps_0 0 rfl rfl)
theorem dX3_steps_1 : decode cX3_steps 1 = .ok (.iconst 3, 1) := dk_6 (dk_at dksX3_steps_0 1 rfl rfl)
theorem dX3_steps_2 : decode cX3_steps 2 = .ok (.iload_n 0, 1) := dk_26 (dk_at dksX3_steps_0 2 rfl rfl)
theorem dX3_steps_3 : decode cX3_steps 3 = .ok (.imul, 1) := dk_104 (dk_at dksX3_steps_0 3 rfl rfl)
theorem dX3_steps_4 : decode cX3_steps 4 = .ok (.iconst 5, 1) := dk_8 (dk_at dksX3_steps_0 4 rfl rfl)
theorem dX3_steps_5 : decode cX3_steps 5 = .ok (.irem, 1) := dk_112 (dk_at dksX3_steps_0 5 rfl rfl)
theorem dX3_steps_6 : decode cX3_steps 6 = .ok (.iadd, 1) := dk_96 (dk_at dksX3_steps_0 6 rfl rfl)
theorem dX3_steps_7 : decode cX3_steps 7 = .ok (.ireturn, 1) := dk_172 (dk_at dksX3_steps_0 7 rfl rfl)
abbrev cX3_temper : ByteArray := prog_12_method_14_code
def yX3_temper : MethodName := ⟨RX3, "temper", "(I)I"⟩
def dkwX3_temper_0 : List UInt8 := [42, 180, 0, 9, 16, 53, 7, 27, 104, 96, 46, 172]
abbrev dktX3_temper_0 : List UInt8 := dkwX3_temper_0 ++ []
theorem dksX3_temper_0 : cX3_temper.data.toList.drop 0 = dktX3_temper_0 := by decide +kernel
theorem dX3_temper_0 : decode cX3_temper 0 = .ok (.aload_n 0, 1) := dk_42 (dk_at dksX3_temper_0 0 rfl rfl)
theorem dX3_temper_1 : decode cX3_temper 1 = .ok (.getfield 9, 3) := dk_180 0 9 (dk_at dksX3_temper_0 1 rfl rfl)
theorem dX3_temper_4 : decode cX3_temper 4 = .ok (.bipush 53, 2) := dk_16 53 (dk_at dksX3_temper_0 4 rfl rfl)
theorem dX3_temper_6 : decode cX3_temper 6 = .ok (.iconst 4, 1) := dk_7 (dk_at dksX3_temper_0 6 rfl rfl)
theorem dX3_temper_7 : decode cX3_temper 7 = .ok (.iload_n 1, 1) := dk_27 (dk_at dksX3_temper_0 7 rfl rfl)
theorem dX3_temper_8 : decode cX3_temper 8 = .ok (.imul, 1) := dk_104 (dk_at dksX3_temper_0 8 rfl rfl)
theorem dX3_temper_9 : decode cX3_temper 9 = .ok (.iadd, 1) := dk_96 (dk_at dksX3_temper_0 9 rfl rfl)
theorem dX3_temper_10 : decode cX3_temper 10 = .ok (.iaload, 1) := dk_46 (dk_at dksX3_temper_0 10 rfl rfl)
theorem dX3_temper_11 : decode cX3_temper 11 = .ok (.ireturn, 1) := dk_172 (dk_at dksX3_temper_0 11 rfl rfl)
abbrev cX3_depot : ByteArray := prog_12_method_28_code
def yX3_depot : MethodName := ⟨RX3, "depot", "(I)I"⟩
def dkwX3_depot_0 : List UInt8 := [27, 184, 0, 81, 153, 0, 15, 42, 180, 0, 9, 16, 14, 27, 96, 46, 167, 0, 5, 16, 245, 172]
abbrev dktX3_depot_0 : List UInt8 := dkwX3_depot_0 ++ []
theorem dksX3_depot_0 : cX3_depot.data.toList.drop 0 = dktX3_depot_0 := by decide +kernel
theorem dX3_depot_0 : decode cX3_depot 0 = .ok (.iload_n 1, 1) := dk_27 (dk_at dksX3_depot_0 0 rfl rfl)
theorem dX3_depot_1 : decode cX3_depot 1 = .ok (.invokestatic 81, 3) := dk_184 0 81 (dk_at dksX3_depot_0 1 rfl rfl)
theorem dX3_depot_4 : decode cX3_depot 4 = .ok (.ifCond .eq 15, 3) := dk_153 0 15 (dk_at dksX3_depot_0 4 rfl rfl)
theorem dX3_depot_7 : decode cX3_depot 7 = .ok (.aload_n 0, 1) := dk_42 (dk_at dksX3_depot_0 7 rfl rfl)
theorem dX3_depot_8 : decode cX3_depot 8 = .ok (.getfield 9, 3) := dk_180 0 9 (dk_at dksX3_depot_0 8 rfl rfl)
theorem dX3_depot_11 : decode cX3_depot 11 = .ok (.bipush 14, 2) := dk_16 14 (dk_at dksX3_depot_0 11 rfl rfl)
theorem dX3_depot_13 : decode cX3_depot 13 = .ok (.iload_n 1, 1) := dk_27 (dk_at dksX3_depot_0 13 rfl rfl)
theorem dX3_depot_14 : decode cX3_depot 14 = .ok (.iadd, 1) := dk_96 (dk_at dksX3_depot_0 14 rfl rfl)
theorem dX3_depot_15 : decode cX3_depot 15 = .ok (.iaload, 1) := dk_46 (dk_at dksX3_depot_0 15 rfl rfl)
theorem dX3_depot_16 : decode cX3_depot 16 = .ok (.goto 5, 3) := dk_167 0 5 (dk_at dksX3_depot_0 16 rfl rfl)
theorem dX3_depot_19 : decode cX3_depot 19 = .ok (.bipush (-11), 2) := dk_16 245 (dk_at dksX3_depot_0 19 rfl rfl)
theorem dX3_depot_21 : decode cX3_depot 21 = .ok (.ireturn, 1) := dk_172 (dk_at dksX3_depot_0 21 rfl rfl)
abbrev cX3_go : ByteArray := prog_12_method_30_code
def yX3_go : MethodName := ⟨RX3, "go", "(II)I"⟩
def dkwX3_go_0 : List UInt8 := [42, 182, 0, 64, 42, 42, 27, 28, 182, 0, 116, 182, 0, 104, 172]
abbrev dktX3_go_0 : List UInt8 := dkwX3_go_0 ++ []
theorem dksX3_go_0 : cX3_go.data.toList.drop 0 = dktX3_go_0 := by decide +kernel
theorem dX3_go_0 : decode cX3_go 0 = .ok (.aload_n 0, 1) := dk_42 (dk_at dksX3_go_0 0 rfl rfl)
theorem dX3_go_1 : decode cX3_go 1 = .ok (.invokevirtual 64, 3) := dk_182 0 64 (dk_at dksX3_go_0 1 rfl rfl)
theorem dX3_go_4 : decode cX3_go 4 = .ok (.aload_n 0, 1) := dk_42 (dk_at dksX3_go_0 4 rfl rfl)
theorem dX3_go_5 : decode cX3_go 5 = .ok (.aload_n 0, 1) := dk_42 (dk_at dksX3_go_0 5 rfl rfl)
theorem dX3_go_6 : decode cX3_go 6 = .ok (.iload_n 1, 1) := dk_27 (dk_at dksX3_go_0 6 rfl rfl)
theorem dX3_go_7 : decode cX3_go 7 = .ok (.iload_n 2, 1) := dk_28 (dk_at dksX3_go_0 7 rfl rfl)
theorem dX3_go_8 : decode cX3_go 8 = .ok (.invokevirtual 116, 3) := dk_182 0 116 (dk_at dksX3_go_0 8 rfl rfl)
theorem dX3_go_11 : decode cX3_go 11 = .ok (.invokevirtual 104, 3) := dk_182 0 104 (dk_at dksX3_go_0 11 rfl rfl)
theorem dX3_go_14 : decode cX3_go 14 = .ok (.ireturn, 1) := dk_172 (dk_at dksX3_go_0 14 rfl rfl)
abbrev cX3_goes : ByteArray := prog_12_method_29_code
def yX3_goes : MethodName := ⟨RX3, "goes", "(II)I"⟩
def dkwX3_goes_5 : List UInt8 := [42, 42, 27, 5, 182, 0, 90, 182, 0, 97, 172]
abbrev dktX3_goes_5 : List UInt8 := dkwX3_goes_5 ++ []
def dkwX3_goes_4 : List UInt8 := [180, 0, 9, 4, 92, 46, 29, 96, 79, 42, 180, 0, 9, 16, 17, 16, 9, 27, 104, 96, 4, 96, 28, 79]
abbrev dktX3_goes_4 : List UInt8 := dkwX3_goes_4 ++ dktX3_goes_5
def dkwX3_goes_3 : List UInt8 := [42, 182, 0, 113, 182, 0, 67, 172, 42, 27, 5, 29, 182, 0, 93, 42, 27, 16, 8, 29, 182, 0, 93, 42]
abbrev dktX3_goes_3 : List UInt8 := dkwX3_goes_3 ++ dktX3_goes_4
def dkwX3_goes_2 : List UInt8 := [27, 5, 182, 0, 90, 29, 96, 16, 100, 100, 182, 0, 67, 172, 29, 42, 182, 0, 113, 164, 0, 13, 42, 6]
abbrev dktX3_goes_2 : List UInt8 := dkwX3_goes_2 ++ dktX3_goes_3
def dkwX3_goes_1 : List UInt8 := [182, 0, 90, 100, 184, 0, 110, 62, 42, 27, 5, 182, 0, 90, 29, 96, 16, 100, 164, 0, 20, 42, 5, 42]
abbrev dktX3_goes_1 : List UInt8 := dkwX3_goes_1 ++ dktX3_goes_2
def dkwX3_goes_0 : List UInt8 := [42, 27, 182, 0, 87, 153, 0, 10, 28, 184, 0, 73, 154, 0, 6, 16, 245, 172, 28, 42, 27, 4]
abbrev dktX3_goes_0 : List UInt8 := dkwX3_goes_0 ++ dktX3_goes_1
theorem dksX3_goes_0 : cX3_goes.data.toList.drop 0 = dktX3_goes_0 := by decide +kernel
theorem dksX3_goes_1 : cX3_goes.data.toList.drop 22 = dktX3_goes_1 := dk_seg dksX3_goes_0 22 rfl rfl
theorem dksX3_goes_2 : cX3_goes.data.toList.drop 46 = dktX3_goes_2 := dk_seg dksX3_goes_1 24 rfl rfl
theorem dksX3_goes_3 : cX3_goes.data.toList.drop 70 = dktX3_goes_3 := dk_seg dksX3_goes_2 24 rfl rfl
theorem dksX3_goes_4 : cX3_goes.data.toList.drop 94 = dktX3_goes_4 := dk_seg dksX3_goes_3 24 rfl rfl
theorem dksX3_goes_5 : cX3_goes.data.toList.drop 118 = dktX3_goes_5 := dk_seg dksX3_goes_4 24 rfl rfl
theorem dX3_goes_0 : decode cX3_goes 0 = .ok (.aload_n 0, 1) := dk_42 (dk_at dksX3_goes_0 0 rfl rfl)
theorem dX3_goes_1 : decode cX3_goes 1 = .ok (.iload_n 1, 1) := dk_27 (dk_at dksX3_goes_0 1 rfl rfl)
theorem dX3_goes_2 : decode cX3_goes 2 = .ok (.invokevirtual 87, 3) := dk_182 0 87 (dk_at dksX3_goes_0 2 rfl rfl)
theorem dX3_goes_5 : decode cX3_goes 5 = .ok (.ifCond .eq 10, 3) := dk_153 0 10 (dk_at dksX3_goes_0 5 rfl rfl)
theorem dX3_goes_8 : decode cX3_goes 8 = .ok (.iload_n 2, 1) := dk_28 (dk_at dksX3_goes_0 8 rfl rfl)
theorem dX3_goes_9 : decode cX3_goes 9 = .ok (.invokestatic 73, 3) := dk_184 0 73 (dk_at dksX3_goes_0 9 rfl rfl)
theorem dX3_goes_12 : decode cX3_goes 12 = .ok (.ifCond .ne 6, 3) := dk_154 0 6 (dk_at dksX3_goes_0 12 rfl rfl)
theorem dX3_goes_15 : decode cX3_goes 15 = .ok (.bipush (-11), 2) := dk_16 245 (dk_at dksX3_goes_0 15 rfl rfl)
theorem dX3_goes_17 : decode cX3_goes 17 = .ok (.ireturn, 1) := dk_172 (dk_at dksX3_goes_0 17 rfl rfl)
theorem dX3_goes_18 : decode cX3_goes 18 = .ok (.iload_n 2, 1) := dk_28 (dk_at dksX3_goes_0 18 rfl rfl)
theorem dX3_goes_19 : decode cX3_goes 19 = .ok (.aload_n 0, 1) := dk_42 (dk_at dksX3_goes_0 19 rfl rfl)
theorem dX3_goes_20 : decode cX3_goes 20 = .ok (.iload_n 1, 1) := dk_27 (dk_at dksX3_goes_0 20 rfl rfl)
theorem dX3_goes_21 : decode cX3_goes 21 = .ok (.iconst 1, 1) := dk_4 (dk_at dksX3_goes_0 21 rfl rfl)
theorem dX3_goes_22 : decode cX3_goes 22 = .ok (.invokevirtual 90, 3) := dk_182 0 90 (dk_at dksX3_goes_1 0 rfl rfl)
theorem dX3_goes_25 : decode cX3_goes 25 = .ok (.isub, 1) := dk_100 (dk_at dksX3_goes_1 3 rfl rfl)
theorem dX3_goes_26 : decode cX3_goes 26 = .ok (.invokestatic 110, 3) := dk_184 0 110 (dk_at dksX3_goes_1 4 rfl rfl)
theorem dX3_goes_29 : decode cX3_goes 29 = .ok (.istore_n 3, 1) := dk_62 (dk_at dksX3_goes_1 7 rfl rfl)
theorem dX3_goes_30 : decode cX3_goes 30 = .ok (.aload_n 0, 1) := dk_42 (dk_at dksX3_goes_1 8 rfl rfl)
theorem dX3_goes_31 : decode cX3_goes 31 = .ok (.iload_n 1, 1) := dk_27 (dk_at dksX3_goes_1 9 rfl rfl)
theorem dX3_goes_32 : decode cX3_goes 32 = .ok (.iconst 2, 1) := dk_5 (dk_at dksX3_goes_1 10 rfl rfl)
theorem dX3_goes_33 : decode cX3_goes 33 = .ok (.invokevirtual 90, 3) := dk_182 0 90 (dk_at dksX3_goes_1 11 rfl rfl)
theorem dX3_goes_36 : decode cX3_goes 36 = .ok (.iload_n 3, 1) := dk_29 (dk_at dksX3_goes_1 14 rfl rfl)
theorem dX3_goes_37 : decode cX3_goes 37 = .ok (.iadd, 1) := dk_96 (dk_at dksX3_goes_1 15 rfl rfl)
theorem dX3_goes_38 : decode cX3_goes 38 = .ok (.bipush 100, 2) := dk_16 100 (dk_at dksX3_goes_1 16 rfl rfl)
theorem dX3_goes_40 : decode cX3_goes 40 = .ok (.if_icmp .le 20, 3) := dk_164 0 20 (dk_at dksX3_goes_1 18 rfl rfl)
theorem dX3_goes_43 : decode cX3_goes 43 = .ok (.aload_n 0, 1) := dk_42 (dk_at dksX3_goes_1 21 rfl rfl)
theorem dX3_goes_44 : decode cX3_goes 44 = .ok (.iconst 2, 1) := dk_5 (dk_at dksX3_goes_1 22 rfl rfl)
theorem dX3_goes_45 : decode cX3_goes 45 = .ok (.aload_n 0, 1) := dk_42 (dk_at dksX3_goes_1 23 rfl rfl)
theorem dX3_goes_46 : decode cX3_goes 46 = .ok (.iload_n 1, 1) := dk_27 (dk_at dksX3_goes_2 0 rfl rfl)
theorem dX3_goes_47 : decode cX3_goes 47 = .ok (.iconst 2, 1) := dk_5 (dk_at dksX3_goes_2 1 rfl rfl)
theorem dX3_goes_48 : decode cX3_goes 48 = .ok (.invokevirtual 90, 3) := dk_182 0 90 (dk_at dksX3_goes_2 2 rfl rfl)
theorem dX3_goes_51 : decode cX3_goes 51 = .ok (.iload_n 3, 1) := dk_29 (dk_at dksX3_goes_2 5 rfl rfl)
theorem dX3_goes_52 : decode cX3_goes 52 = .ok (.iadd, 1) := dk_96 (dk_at dksX3_goes_2 6 rfl rfl)
theorem dX3_goes_53 : decode cX3_goes 53 = .ok (.bipush 100, 2) := dk_16 100 (dk_at dksX3_goes_2 7 rfl rfl)
theorem dX3_goes_55 : decode cX3_goes 55 = .ok (.isub, 1) := dk_100 (dk_at dksX3_goes_2 9 rfl rfl)
theorem dX3_goes_56 : decode cX3_goes 56 = .ok (.invokevirtual 67, 3) := dk_182 0 67 (dk_at dksX3_goes_2 10 rfl rfl)
theorem dX3_goes_59 : decode cX3_goes 59 = .ok (.ireturn, 1) := dk_172 (dk_at dksX3_goes_2 13 rfl rfl)
theorem dX3_goes_60 : decode cX3_goes 60 = .ok (.iload_n 3, 1) := dk_29 (dk_at dksX3_goes_2 14 rfl rfl)
theorem dX3_goes_61 : decode cX3_goes 61 = .ok (.aload_n 0, 1) := dk_42 (dk_at dksX3_goes_2 15 rfl rfl)
theorem dX3_goes_62 : decode cX3_goes 62 = .ok (.invokevirtual 113, 3) := dk_182 0 113 (dk_at dksX3_goes_2 16 rfl rfl)
theorem dX3_goes_65 : decode cX3_goes 65 = .ok (.if_icmp .le 13, 3) := dk_164 0 13 (dk_at dksX3_goes_2 19 rfl rfl)
theorem dX3_goes_68 : decode cX3_goes 68 = .ok (.aload_n 0, 1) := dk_42 (dk_at dksX3_goes_2 22 rfl rfl)
theorem dX3_goes_69 : decode cX3_goes 69 = .ok (.iconst 3, 1) := dk_6 (dk_at dksX3_goes_2 23 rfl rfl)
theorem dX3_goes_70 : decode cX3_goes 70 = .ok (.aload_n 0, 1) := dk_42 (dk_at dksX3_goes_3 0 rfl rfl)
theorem dX3_goes_71 : decode cX3_goes 71 = .ok (.invokevirtual 113, 3) := dk_182 0 113 (dk_at dksX3_goes_3 1 rfl rfl)
theorem dX3_goes_74 : decode cX3_goes 74 = .ok (.invokevirtual 67, 3) := dk_182 0 67 (dk_at dksX3_goes_3 4 rfl rfl)
theorem dX3_goes_77 : decode cX3_goes 77 = .ok (.ireturn, 1) := dk_172 (dk_at dksX3_goes_3 7 rfl rfl)
theorem dX3_goes_78 : decode cX3_goes 78 = .ok (.aload_n 0, 1) := dk_42 (dk_at dksX3_goes_3 8 rfl rfl)
theorem dX3_goes_79 : decode cX3_goes 79 = .ok (.iload_n 1, 1) := dk_27 (dk_at dksX3_goes_3 9 rfl rfl)
theorem dX3_goes_80 : decode cX3_goes 80 = .ok (.iconst 2, 1) := dk_5 (dk_at dksX3_goes_3 10 rfl rfl)
theorem dX3_goes_81 : decode cX3_goes 81 = .ok (.iload_n 3, 1) := dk_29 (dk_at dksX3_goes_3 11 rfl rfl)
theorem dX3_goes_82 : decode cX3_goes 82 = .ok (.invokevirtual 93, 3) := dk_182 0 93 (dk_at dksX3_goes_3 12 rfl rfl)
theorem dX3_goes_85 : decode cX3_goes 85 = .ok (.aload_n 0, 1) := dk_42 (dk_at dksX3_goes_3 15 rfl rfl)
theorem dX3_goes_86 : decode cX3_goes 86 = .ok (.iload_n 1, 1) := dk_27 (dk_at dksX3_goes_3 16 rfl rfl)
theorem dX3_goes_87 : decode cX3_goes 87 = .ok (.bipush 8, 2) := dk_16 8 (dk_at dksX3_goes_3 17 rfl rfl)
theorem dX3_goes_89 : decode cX3_goes 89 = .ok (.iload_n 3, 1) := dk_29 (dk_at dksX3_goes_3 19 rfl rfl)
theorem dX3_goes_90 : decode cX3_goes 90 = .ok (.invokevirtual 93, 3) := dk_182 0 93 (dk_at dksX3_goes_3 20 rfl rfl)
theorem dX3_goes_93 : decode cX3_goes 93 = .ok (.aload_n 0, 1) := dk_42 (dk_at dksX3_goes_3 23 rfl rfl)
theorem dX3_goes_94 : decode cX3_goes 94 = .ok (.getfield 9, 3) := dk_180 0 9 (dk_at dksX3_goes_4 0 rfl rfl)
theorem dX3_goes_97 : decode cX3_goes 97 = .ok (.iconst 1, 1) := dk_4 (dk_at dksX3_goes_4 3 rfl rfl)
theorem dX3_goes_98 : decode cX3_goes 98 = .ok (.dup2, 1) := dk_92 (dk_at dksX3_goes_4 4 rfl rfl)
theorem dX3_goes_99 : decode cX3_goes 99 = .ok (.iaload, 1) := dk_46 (dk_at dksX3_goes_4 5 rfl rfl)
theorem dX3_goes_100 : decode cX3_goes 100 = .ok (.iload_n 3, 1) := dk_29 (dk_at dksX3_goes_4 6 rfl rfl)
theorem dX3_goes_101 : decode cX3_goes 101 = .ok (.iadd, 1) := dk_96 (dk_at dksX3_goes_4 7 rfl rfl)
theorem dX3_goes_102 : decode cX3_goes 102 = .ok (.iastore, 1) := dk_79 (dk_at dksX3_goes_4 8 rfl rfl)
theorem dX3_goes_103 : decode cX3_goes 103 = .ok (.aload_n 0, 1) := dk_42 (dk_at dksX3_goes_4 9 rfl rfl)
theorem dX3_goes_104 : decode cX3_goes 104 = .ok (.getfield 9, 3) := dk_180 0 9 (dk_at dksX3_goes_4 10 rfl rfl)
theorem dX3_goes_107 : decode cX3_goes 107 = .ok (.bipush 17, 2) := dk_16 17 (dk_at dksX3_goes_4 13 rfl rfl)
theorem dX3_goes_109 : decode cX3_goes 109 = .ok (.bipush 9, 2) := dk_16 9 (dk_at dksX3_goes_4 15 rfl rfl)
theorem dX3_goes_111 : decode cX3_goes 111 = .ok (.iload_n 1, 1) := dk_27 (dk_at dksX3_goes_4 17 rfl rfl)
theorem dX3_goes_112 : decode cX3_goes 112 = .ok (.imul, 1) := dk_104 (dk_at dksX3_goes_4 18 rfl rfl)
theorem dX3_goes_113 : decode cX3_goes 113 = .ok (.iadd, 1) := dk_96 (dk_at dksX3_goes_4 19 rfl rfl)
theorem dX3_goes_114 : decode cX3_goes 114 = .ok (.iconst 1, 1) := dk_4 (dk_at dksX3_goes_4 20 rfl rfl)
theorem dX3_goes_115 : decode cX3_goes 115 = .ok (.iadd, 1) := dk_96 (dk_at dksX3_goes_4 21 rfl rfl)
theorem dX3_goes_116 : decode cX3_goes 116 = .ok (.iload_n 2, 1) := dk_28 (dk_at dksX3_goes_4 22 rfl rfl)
theorem dX3_goes_117 : decode cX3_goes 117 = .ok (.iastore, 1) := dk_79 (dk_at dksX3_goes_4 23 rfl rfl)
theorem dX3_goes_118 : decode cX3_goes 118 = .ok (.aload_n 0, 1) := dk_42 (dk_at dksX3_goes_5 0 rfl rfl)
theorem dX3_goes_119 : decode cX3_goes 119 = .ok (.aload_n 0, 1) := dk_42 (dk_at dksX3_goes_5 1 rfl rfl)
theorem dX3_goes_120 : decode cX3_goes 120 = .ok (.iload_n 1, 1) := dk_27 (dk_at dksX3_goes_5 2 rfl rfl)
theorem dX3_goes_121 : decode cX3_goes 121 = .ok (.iconst 2, 1) := dk_5 (dk_at dksX3_goes_5 3 rfl rfl)
theorem dX3_goes_122 : decode cX3_goes 122 = .ok (.invokevirtual 90, 3) := dk_182 0 90 (dk_at dksX3_goes_5 4 rfl rfl)
theorem dX3_goes_125 : decode cX3_goes 125 = .ok (.invokevirtual 97, 3) := dk_182 0 97 (dk_at dksX3_goes_5 7 rfl rfl)
theorem dX3_goes_128 : decode cX3_goes 128 = .ok (.ireturn, 1) := dk_172 (dk_at dksX3_goes_5 10 rfl rfl)
abbrev cX3_left : ByteArray := prog_12_method_18_code
def yX3_left : MethodName := ⟨RX3, "left", "()I"⟩
def dkwX3_left_0 : List UInt8 := [17, 1, 224, 42, 180, 0, 9, 4, 46, 100, 172]
abbrev dktX3_left_0 : List UInt8 := dkwX3_left_0 ++ []
theorem dksX3_left_0 : cX3_left.data.toList.drop 0 = dktX3_left_0 := by decide +kernel
theorem dX3_left_0 : decode cX3_left 0 = .ok (.sipush 480, 3) := dk_17 1 224 (dk_at dksX3_left_0 0 rfl rfl)
theorem dX3_left_3 : decode cX3_left 3 = .ok (.aload_n 0, 1) := dk_42 (dk_at dksX3_left_0 3 rfl rfl)
theorem dX3_left_4 : decode cX3_left 4 = .ok (.getfield 9, 3) := dk_180 0 9 (dk_at dksX3_left_0 4 rfl rfl)
theorem dX3_left_7 : decode cX3_left 7 = .ok (.iconst 1, 1) := dk_4 (dk_at dksX3_left_0 7 rfl rfl)
theorem dX3_left_8 : decode cX3_left 8 = .ok (.iaload, 1) := dk_46 (dk_at dksX3_left_0 8 rfl rfl)
theorem dX3_left_9 : decode cX3_left 9 = .ok (.isub, 1) := dk_100 (dk_at dksX3_left_0 9 rfl rfl)
theorem dX3_left_10 : decode cX3_left 10 = .ok (.ireturn, 1) := dk_172 (dk_at dksX3_left_0 10 rfl rfl)
abbrev cX3_soles : ByteArray := prog_12_method_32_code
def yX3_soles : MethodName := ⟨RX3, "soles", "(I)I"⟩
def dkwX3_soles_0 : List UInt8 := [42, 182, 0, 64, 42, 42, 27, 182, 0, 119, 182, 0, 104, 172]
abbrev dktX3_soles_0 : List UInt8 := dkwX3_soles_0 ++ []
theorem dksX3_soles_0 : cX3_soles.data.toList.drop 0 = dktX3_soles_0 := by decide +kernel
theorem dX3_soles_0 : decode cX3_soles 0 = .ok (.aload_n 0, 1) := dk_42 (dk_at dksX3_soles_0 0 rfl rfl)
theorem dX3_soles_1 : decode cX3_soles 1 = .ok (.invokevirtual 64, 3) := dk_182 0 64 (dk_at dksX3_soles_0 1 rfl rfl)
theorem dX3_soles_4 : decode cX3_soles 4 = .ok (.aload_n 0, 1) := dk_42 (dk_at dksX3_soles_0 4 rfl rfl)
theorem dX3_soles_5 : decode cX3_soles 5 = .ok (.aload_n 0, 1) := dk_42 (dk_at dksX3_soles_0 5 rfl rfl)
theorem dX3_soles_6 : decode cX3_soles 6 = .ok (.iload_n 1, 1) := dk_27 (dk_at dksX3_soles_0 6 rfl rfl)
theorem dX3_soles_7 : decode cX3_soles 7 = .ok (.invokevirtual 119, 3) := dk_182 0 119 (dk_at dksX3_soles_0 7 rfl rfl)
theorem dX3_soles_10 : decode cX3_soles 10 = .ok (.invokevirtual 104, 3) := dk_182 0 104 (dk_at dksX3_soles_0 10 rfl rfl)
theorem dX3_soles_13 : decode cX3_soles 13 = .ok (.ireturn, 1) := dk_172 (dk_at dksX3_soles_0 13 rfl rfl)
abbrev cX3_renews : ByteArray := prog_12_method_31_code
def yX3_renews : MethodName := ⟨RX3, "renews", "(I)I"⟩
def dkwX3_renews_2 : List UInt8 := [182, 0, 90, 61, 42, 27, 5, 28, 116, 182, 0, 93, 42, 28, 182, 0, 97, 172]
abbrev dktX3_renews_2 : List UInt8 := dkwX3_renews_2 ++ []
def dkwX3_renews_1 : List UInt8 := [4, 182, 0, 90, 182, 0, 67, 172, 42, 16, 6, 182, 0, 84, 156, 0, 6, 16, 242, 172, 42, 27, 5]
abbrev dktX3_renews_1 : List UInt8 := dkwX3_renews_1 ++ dktX3_renews_2
def dkwX3_renews_0 : List UInt8 := [42, 27, 182, 0, 87, 154, 0, 6, 16, 245, 172, 42, 27, 4, 182, 0, 90, 153, 0, 15, 42, 7, 42, 27]
abbrev dktX3_renews_0 : List UInt8 := dkwX3_renews_0 ++ dktX3_renews_1
theorem dksX3_renews_0 : cX3_renews.data.toList.drop 0 = dktX3_renews_0 := by decide +kernel
theorem dksX3_renews_1 : cX3_renews.data.toList.drop 24 = dktX3_renews_1 := dk_seg dksX3_renews_0 24 rfl rfl
theorem dksX3_renews_2 : cX3_renews.data.toList.drop 47 = dktX3_renews_2 := dk_seg dksX3_renews_1 23 rfl rfl
theorem dX3_renews_0 : decode cX3_renews 0 = .ok (.aload_n 0, 1) := dk_42 (dk_at dksX3_renews_0 0 rfl rfl)
theorem dX3_renews_1 : decode cX3_renews 1 = .ok (.iload_n 1, 1) := dk_27 (dk_at dksX3_renews_0 1 rfl rfl)
theorem dX3_renews_2 : decode cX3_renews 2 = .ok (.invokevirtual 87, 3) := dk_182 0 87 (dk_at dksX3_renews_0 2 rfl rfl)
theorem dX3_renews_5 : decode cX3_renews 5 = .ok (.ifCond .ne 6, 3) := dk_154 0 6 (dk_at dksX3_renews_0 5 rfl rfl)
theorem dX3_renews_8 : decode cX3_renews 8 = .ok (.bipush (-11), 2) := dk_16 245 (dk_at dksX3_renews_0 8 rfl rfl)
theorem dX3_renews_10 : decode cX3_renews 10 = .ok (.ireturn, 1) := dk_172 (dk_at dksX3_renews_0 10 rfl rfl)
theorem dX3_renews_11 : decode cX3_renews 11 = .ok (.aload_n 0, 1) := dk_42 (dk_at dksX3_renews_0 11 rfl rfl)
theorem dX3_renews_12 : decode cX3_renews 12 = .ok (.iload_n 1, 1) := dk_27 (dk_at dksX3_renews_0 12 rfl rfl)
theorem dX3_renews_13 : decode cX3_renews 13 = .ok (.iconst 1, 1) := dk_4 (dk_at dksX3_renews_0 13 rfl rfl)
theorem dX3_renews_14 : decode cX3_renews 14 = .ok (.invokevirtual 90, 3) := dk_182 0 90 (dk_at dksX3_renews_0 14 rfl rfl)
theorem dX3_renews_17 : decode cX3_renews 17 = .ok (.ifCond .eq 15, 3) := dk_153 0 15 (dk_at dksX3_renews_0 17 rfl rfl)
theorem dX3_renews_20 : decode cX3_renews 20 = .ok (.aload_n 0, 1) := dk_42 (dk_at dksX3_renews_0 20 rfl rfl)
theorem dX3_renews_21 : decode cX3_renews 21 = .ok (.iconst 4, 1) := dk_7 (dk_at dksX3_renews_0 21 rfl rfl)
theorem dX3_renews_22 : decode cX3_renews 22 = .ok (.aload_n 0, 1) := dk_42 (dk_at dksX3_renews_0 22 rfl rfl)
theorem dX3_renews_23 : decode cX3_renews 23 = .ok (.iload_n 1, 1) := dk_27 (dk_at dksX3_renews_0 23 rfl rfl)
theorem dX3_renews_24 : decode cX3_renews 24 = .ok (.iconst 1, 1) := dk_4 (dk_at dksX3_renews_1 0 rfl rfl)
theorem dX3_renews_25 : decode cX3_renews 25 = .ok (.invokevirtual 90, 3) := dk_182 0 90 (dk_at dksX3_renews_1 1 rfl rfl)
theorem dX3_renews_28 : decode cX3_renews 28 = .ok (.invokevirtual 67, 3) := dk_182 0 67 (dk_at dksX3_renews_1 4 rfl rfl)
theorem dX3_renews_31 : decode cX3_renews 31 = .ok (.ireturn, 1) := dk_172 (dk_at dksX3_renews_1 7 rfl rfl)
theorem dX3_renews_32 : decode cX3_renews 32 = .ok (.aload_n 0, 1) := dk_42 (dk_at dksX3_renews_1 8 rfl rfl)
theorem dX3_renews_33 : decode cX3_renews 33 = .ok (.bipush 6, 2) := dk_16 6 (dk_at dksX3_renews_1 9 rfl rfl)
theorem dX3_renews_35 : decode cX3_renews 35 = .ok (.invokevirtual 84, 3) := dk_182 0 84 (dk_at dksX3_renews_1 11 rfl rfl)
theorem dX3_renews_38 : decode cX3_renews 38 = .ok (.ifCond .ge 6, 3) := dk_156 0 6 (dk_at dksX3_renews_1 14 rfl rfl)
theorem dX3_renews_41 : decode cX3_renews 41 = .ok (.bipush (-14), 2) := dk_16 242 (dk_at dksX3_renews_1 17 rfl rfl)
theorem dX3_renews_43 : decode cX3_renews 43 = .ok (.ireturn, 1) := dk_172 (dk_at dksX3_renews_1 19 rfl rfl)
theorem dX3_renews_44 : decode cX3_renews 44 = .ok (.aload_n 0, 1) := dk_42 (dk_at dksX3_renews_1 20 rfl rfl)
theorem dX3_renews_45 : decode cX3_renews 45 = .ok (.iload_n 1, 1) := dk_27 (dk_at dksX3_renews_1 21 rfl rfl)
theorem dX3_renews_46 : decode cX3_renews 46 = .ok (.iconst 2, 1) := dk_5 (dk_at dksX3_renews_1 22 rfl rfl)
theorem dX3_renews_47 : decode cX3_renews 47 = .ok (.invokevirtual 90, 3) := dk_182 0 90 (dk_at dksX3_renews_2 0 rfl rfl)
theorem dX3_renews_50 : decode cX3_renews 50 = .ok (.istore_n 2, 1) := dk_61 (dk_at dksX3_renews_2 3 rfl rfl)
theorem dX3_renews_51 : decode cX3_renews 51 = .ok (.aload_n 0, 1) := dk_42 (dk_at dksX3_renews_2 4 rfl rfl)
theorem dX3_renews_52 : decode cX3_renews 52 = .ok (.iload_n 1, 1) := dk_27 (dk_at dksX3_renews_2 5 rfl rfl)
theorem dX3_renews_53 : decode cX3_renews 53 = .ok (.iconst 2, 1) := dk_5 (dk_at dksX3_renews_2 6 rfl rfl)
theorem dX3_renews_54 : decode cX3_renews 54 = .ok (.iload_n 2, 1) := dk_28 (dk_at dksX3_renews_2 7 rfl rfl)
theorem dX3_renews_55 : decode cX3_renews 55 = .ok (.ineg, 1) := dk_116 (dk_at dksX3_renews_2 8 rfl rfl)
theorem dX3_renews_56 : decode cX3_renews 56 = .ok (.invokevirtual 93, 3) := dk_182 0 93 (dk_at dksX3_renews_2 9 rfl rfl)
theorem dX3_renews_59 : decode cX3_renews 59 = .ok (.aload_n 0, 1) := dk_42 (dk_at dksX3_renews_2 12 rfl rfl)
theorem dX3_renews_60 : decode cX3_renews 60 = .ok (.iload_n 2, 1) := dk_28 (dk_at dksX3_renews_2 13 rfl rfl)
theorem dX3_renews_61 : decode cX3_renews 61 = .ok (.invokevirtual 97, 3) := dk_182 0 97 (dk_at dksX3_renews_2 14 rfl rfl)
theorem dX3_renews_64 : decode cX3_renews 64 = .ok (.ireturn, 1) := dk_172 (dk_at dksX3_renews_2 17 rfl rfl)
abbrev cX3_pet : ByteArray := prog_12_method_34_code
def yX3_pet : MethodName := ⟨RX3, "pet", "(I)I"⟩
def dkwX3_pet_0 : List UInt8 := [42, 182, 0, 64, 42, 42, 27, 182, 0, 122, 182, 0, 104, 172]
abbrev dktX3_pet_0 : List UInt8 := dkwX3_pet_0 ++ []
theorem dksX3_pet_0 : cX3_pet.data.toList.drop 0 = dktX3_pet_0 := by decide +kernel
theorem dX3_pet_0 : decode cX3_pet 0 = .ok (.aload_n 0, 1) := dk_42 (dk_at dksX3_pet_0 0 rfl rfl)
theorem dX3_pet_1 : decode cX3_pet 1 = .ok (.invokevirtual 64, 3) := dk_182 0 64 (dk_at dksX3_pet_0 1 rfl rfl)
theorem dX3_pet_4 : decode cX3_pet 4 = .ok (.aload_n 0, 1) := dk_42 (dk_at dksX3_pet_0 4 rfl rfl)
theorem dX3_pet_5 : decode cX3_pet 5 = .ok (.aload_n 0, 1) := dk_42 (dk_at dksX3_pet_0 5 rfl rfl)
theorem dX3_pet_6 : decode cX3_pet 6 = .ok (.iload_n 1, 1) := dk_27 (dk_at dksX3_pet_0 6 rfl rfl)
theorem dX3_pet_7 : decode cX3_pet 7 = .ok (.invokevirtual 122, 3) := dk_182 0 122 (dk_at dksX3_pet_0 7 rfl rfl)
theorem dX3_pet_10 : decode cX3_pet 10 = .ok (.invokevirtual 104, 3) := dk_182 0 104 (dk_at dksX3_pet_0 10 rfl rfl)
theorem dX3_pet_13 : decode cX3_pet 13 = .ok (.ireturn, 1) := dk_172 (dk_at dksX3_pet_0 13 rfl rfl)
abbrev cX3_pets : ByteArray := prog_12_method_33_code
def yX3_pets : MethodName := ⟨RX3, "pets", "(I)I"⟩
def dkwX3_pets_5 : List UInt8 := [4, 96, 29, 4, 96, 79, 42, 29, 182, 0, 97, 172]
abbrev dktX3_pets_5 : List UInt8 := dkwX3_pets_5 ++ []
def dkwX3_pets_4 : List UInt8 := [16, 9, 62, 167, 0, 11, 3, 29, 5, 100, 184, 0, 61, 62, 42, 180, 0, 9, 16, 53, 7, 28, 104, 96]
abbrev dktX3_pets_4 : List UInt8 := dkwX3_pets_4 ++ dktX3_pets_5
def dkwX3_pets_3 : List UInt8 := [182, 0, 67, 172, 42, 27, 5, 16, 10, 182, 0, 93, 42, 180, 0, 9, 16, 13, 92, 46, 4, 96, 79]
abbrev dktX3_pets_3 : List UInt8 := dkwX3_pets_3 ++ dktX3_pets_4
def dkwX3_pets_2 : List UInt8 := [16, 10, 96, 16, 100, 164, 0, 21, 42, 5, 42, 27, 5, 182, 0, 90, 16, 10, 96, 16, 100, 100]
abbrev dktX3_pets_2 : List UInt8 := dkwX3_pets_2 ++ dktX3_pets_3
def dkwX3_pets_1 : List UInt8 := [29, 156, 0, 11, 42, 16, 10, 28, 182, 0, 67, 172, 29, 16, 7, 161, 0, 60, 42, 27, 5, 182, 0, 90]
abbrev dktX3_pets_1 : List UInt8 := dkwX3_pets_1 ++ dktX3_pets_2
def dkwX3_pets_0 : List UInt8 := [42, 27, 182, 0, 87, 154, 0, 6, 16, 245, 172, 42, 27, 4, 182, 0, 90, 61, 42, 28, 182, 0, 70, 62]
abbrev dktX3_pets_0 : List UInt8 := dkwX3_pets_0 ++ dktX3_pets_1
theorem dksX3_pets_0 : cX3_pets.data.toList.drop 0 = dktX3_pets_0 := by decide +kernel
theorem dksX3_pets_1 : cX3_pets.data.toList.drop 24 = dktX3_pets_1 := dk_seg dksX3_pets_0 24 rfl rfl
theorem dksX3_pets_2 : cX3_pets.data.toList.drop 48 = dktX3_pets_2 := dk_seg dksX3_pets_1 24 rfl rfl
theorem dksX3_pets_3 : cX3_pets.data.toList.drop 70 = dktX3_pets_3 := dk_seg dksX3_pets_2 22 rfl rfl
theorem dksX3_pets_4 : cX3_pets.data.toList.drop 93 = dktX3_pets_4 := dk_seg dksX3_pets_3 23 rfl rfl
theorem dksX3_pets_5 : cX3_pets.data.toList.drop 117 = dktX3_pets_5 := dk_seg dksX3_pets_4 24 rfl rfl
theorem dX3_pets_0 : decode cX3_pets 0 = .ok (.aload_n 0, 1) := dk_42 (dk_at dksX3_pets_0 0 rfl rfl)
theorem dX3_pets_1 : decode cX3_pets 1 = .ok (.iload_n 1, 1) := dk_27 (dk_at dksX3_pets_0 1 rfl rfl)
theorem dX3_pets_2 : decode cX3_pets 2 = .ok (.invokevirtual 87, 3) := dk_182 0 87 (dk_at dksX3_pets_0 2 rfl rfl)
theorem dX3_pets_5 : decode cX3_pets 5 = .ok (.ifCond .ne 6, 3) := dk_154 0 6 (dk_at dksX3_pets_0 5 rfl rfl)
theorem dX3_pets_8 : decode cX3_pets 8 = .ok (.bipush (-11), 2) := dk_16 245 (dk_at dksX3_pets_0 8 rfl rfl)
theorem dX3_pets_10 : decode cX3_pets 10 = .ok (.ireturn, 1) := dk_172 (dk_at dksX3_pets_0 10 rfl rfl)
theorem dX3_pets_11 : decode cX3_pets 11 = .ok (.aload_n 0, 1) := dk_42 (dk_at dksX3_pets_0 11 rfl rfl)
theorem dX3_pets_12 : decode cX3_pets 12 = .ok (.iload_n 1, 1) := dk_27 (dk_at dksX3_pets_0 12 rfl rfl)
theorem dX3_pets_13 : decode cX3_pets 13 = .ok (.iconst 1, 1) := dk_4 (dk_at dksX3_pets_0 13 rfl rfl)
theorem dX3_pets_14 : decode cX3_pets 14 = .ok (.invokevirtual 90, 3) := dk_182 0 90 (dk_at dksX3_pets_0 14 rfl rfl)
theorem dX3_pets_17 : decode cX3_pets 17 = .ok (.istore_n 2, 1) := dk_61 (dk_at dksX3_pets_0 17 rfl rfl)
theorem dX3_pets_18 : decode cX3_pets 18 = .ok (.aload_n 0, 1) := dk_42 (dk_at dksX3_pets_0 18 rfl rfl)
theorem dX3_pets_19 : decode cX3_pets 19 = .ok (.iload_n 2, 1) := dk_28 (dk_at dksX3_pets_0 19 rfl rfl)
theorem dX3_pets_20 : decode cX3_pets 20 = .ok (.invokevirtual 70, 3) := dk_182 0 70 (dk_at dksX3_pets_0 20 rfl rfl)
theorem dX3_pets_23 : decode cX3_pets 23 = .ok (.istore_n 3, 1) := dk_62 (dk_at dksX3_pets_0 23 rfl rfl)
theorem dX3_pets_24 : decode cX3_pets 24 = .ok (.iload_n 3, 1) := dk_29 (dk_at dksX3_pets_1 0 rfl rfl)
theorem dX3_pets_25 : decode cX3_pets 25 = .ok (.ifCond .ge 11, 3) := dk_156 0 11 (dk_at dksX3_pets_1 1 rfl rfl)
theorem dX3_pets_28 : decode cX3_pets 28 = .ok (.aload_n 0, 1) := dk_42 (dk_at dksX3_pets_1 4 rfl rfl)
theorem dX3_pets_29 : decode cX3_pets 29 = .ok (.bipush 10, 2) := dk_16 10 (dk_at dksX3_pets_1 5 rfl rfl)
theorem dX3_pets_31 : decode cX3_pets 31 = .ok (.iload_n 2, 1) := dk_28 (dk_at dksX3_pets_1 7 rfl rfl)
theorem dX3_pets_32 : decode cX3_pets 32 = .ok (.invokevirtual 67, 3) := dk_182 0 67 (dk_at dksX3_pets_1 8 rfl rfl)
theorem dX3_pets_35 : decode cX3_pets 35 = .ok (.ireturn, 1) := dk_172 (dk_at dksX3_pets_1 11 rfl rfl)
theorem dX3_pets_36 : decode cX3_pets 36 = .ok (.iload_n 3, 1) := dk_29 (dk_at dksX3_pets_1 12 rfl rfl)
theorem dX3_pets_37 : decode cX3_pets 37 = .ok (.bipush 7, 2) := dk_16 7 (dk_at dksX3_pets_1 13 rfl rfl)
theorem dX3_pets_39 : decode cX3_pets 39 = .ok (.if_icmp .lt 60, 3) := dk_161 0 60 (dk_at dksX3_pets_1 15 rfl rfl)
theorem dX3_pets_42 : decode cX3_pets 42 = .ok (.aload_n 0, 1) := dk_42 (dk_at dksX3_pets_1 18 rfl rfl)
theorem dX3_pets_43 : decode cX3_pets 43 = .ok (.iload_n 1, 1) := dk_27 (dk_at dksX3_pets_1 19 rfl rfl)
theorem dX3_pets_44 : decode cX3_pets 44 = .ok (.iconst 2, 1) := dk_5 (dk_at dksX3_pets_1 20 rfl rfl)
theorem dX3_pets_45 : decode cX3_pets 45 = .ok (.invokevirtual 90, 3) := dk_182 0 90 (dk_at dksX3_pets_1 21 rfl rfl)
theorem dX3_pets_48 : decode cX3_pets 48 = .ok (.bipush 10, 2) := dk_16 10 (dk_at dksX3_pets_2 0 rfl rfl)
theorem dX3_pets_50 : decode cX3_pets 50 = .ok (.iadd, 1) := dk_96 (dk_at dksX3_pets_2 2 rfl rfl)
theorem dX3_pets_51 : decode cX3_pets 51 = .ok (.bipush 100, 2) := dk_16 100 (dk_at dksX3_pets_2 3 rfl rfl)
theorem dX3_pets_53 : decode cX3_pets 53 = .ok (.if_icmp .le 21, 3) := dk_164 0 21 (dk_at dksX3_pets_2 5 rfl rfl)
theorem dX3_pets_56 : decode cX3_pets 56 = .ok (.aload_n 0, 1) := dk_42 (dk_at dksX3_pets_2 8 rfl rfl)
theorem dX3_pets_57 : decode cX3_pets 57 = .ok (.iconst 2, 1) := dk_5 (dk_at dksX3_pets_2 9 rfl rfl)
theorem dX3_pets_58 : decode cX3_pets 58 = .ok (.aload_n 0, 1) := dk_42 (dk_at dksX3_pets_2 10 rfl rfl)
theorem dX3_pets_59 : decode cX3_pets 59 = .ok (.iload_n 1, 1) := dk_27 (dk_at dksX3_pets_2 11 rfl rfl)
theorem dX3_pets_60 : decode cX3_pets 60 = .ok (.iconst 2, 1) := dk_5 (dk_at dksX3_pets_2 12 rfl rfl)
theorem dX3_pets_61 : decode cX3_pets 61 = .ok (.invokevirtual 90, 3) := dk_182 0 90 (dk_at dksX3_pets_2 13 rfl rfl)
theorem dX3_pets_64 : decode cX3_pets 64 = .ok (.bipush 10, 2) := dk_16 10 (dk_at dksX3_pets_2 16 rfl rfl)
theorem dX3_pets_66 : decode cX3_pets 66 = .ok (.iadd, 1) := dk_96 (dk_at dksX3_pets_2 18 rfl rfl)
theorem dX3_pets_67 : decode cX3_pets 67 = .ok (.bipush 100, 2) := dk_16 100 (dk_at dksX3_pets_2 19 rfl rfl)
theorem dX3_pets_69 : decode cX3_pets 69 = .ok (.isub, 1) := dk_100 (dk_at dksX3_pets_2 21 rfl rfl)
theorem dX3_pets_70 : decode cX3_pets 70 = .ok (.invokevirtual 67, 3) := dk_182 0 67 (dk_at dksX3_pets_3 0 rfl rfl)
theorem dX3_pets_73 : decode cX3_pets 73 = .ok (.ireturn, 1) := dk_172 (dk_at dksX3_pets_3 3 rfl rfl)
theorem dX3_pets_74 : decode cX3_pets 74 = .ok (.aload_n 0, 1) := dk_42 (dk_at dksX3_pets_3 4 rfl rfl)
theorem dX3_pets_75 : decode cX3_pets 75 = .ok (.iload_n 1, 1) := dk_27 (dk_at dksX3_pets_3 5 rfl rfl)
theorem dX3_pets_76 : decode cX3_pets 76 = .ok (.iconst 2, 1) := dk_5 (dk_at dksX3_pets_3 6 rfl rfl)
theorem dX3_pets_77 : decode cX3_pets 77 = .ok (.bipush 10, 2) := dk_16 10 (dk_at dksX3_pets_3 7 rfl rfl)
theorem dX3_pets_79 : decode cX3_pets 79 = .ok (.invokevirtual 93, 3) := dk_182 0 93 (dk_at dksX3_pets_3 9 rfl rfl)
theorem dX3_pets_82 : decode cX3_pets 82 = .ok (.aload_n 0, 1) := dk_42 (dk_at dksX3_pets_3 12 rfl rfl)
theorem dX3_pets_83 : decode cX3_pets 83 = .ok (.getfield 9, 3) := dk_180 0 9 (dk_at dksX3_pets_3 13 rfl rfl)
theorem dX3_pets_86 : decode cX3_pets 86 = .ok (.bipush 13, 2) := dk_16 13 (dk_at dksX3_pets_3 16 rfl rfl)
theorem dX3_pets_88 : decode cX3_pets 88 = .ok (.dup2, 1) := dk_92 (dk_at dksX3_pets_3 18 rfl rfl)
theorem dX3_pets_89 : decode cX3_pets 89 = .ok (.iaload, 1) := dk_46 (dk_at dksX3_pets_3 19 rfl rfl)
theorem dX3_pets_90 : decode cX3_pets 90 = .ok (.iconst 1, 1) := dk_4 (dk_at dksX3_pets_3 20 rfl rfl)
theorem dX3_pets_91 : decode cX3_pets 91 = .ok (.iadd, 1) := dk_96 (dk_at dksX3_pets_3 21 rfl rfl)
theorem dX3_pets_92 : decode cX3_pets 92 = .ok (.iastore, 1) := dk_79 (dk_at dksX3_pets_3 22 rfl rfl)
theorem dX3_pets_93 : decode cX3_pets 93 = .ok (.bipush 9, 2) := dk_16 9 (dk_at dksX3_pets_4 0 rfl rfl)
theorem dX3_pets_95 : decode cX3_pets 95 = .ok (.istore_n 3, 1) := dk_62 (dk_at dksX3_pets_4 2 rfl rfl)
theorem dX3_pets_96 : decode cX3_pets 96 = .ok (.goto 11, 3) := dk_167 0 11 (dk_at dksX3_pets_4 3 rfl rfl)
theorem dX3_pets_99 : decode cX3_pets 99 = .ok (.iconst 0, 1) := dk_3 (dk_at dksX3_pets_4 6 rfl rfl)
theorem dX3_pets_100 : decode cX3_pets 100 = .ok (.iload_n 3, 1) := dk_29 (dk_at dksX3_pets_4 7 rfl rfl)
theorem dX3_pets_101 : decode cX3_pets 101 = .ok (.iconst 2, 1) := dk_5 (dk_at dksX3_pets_4 8 rfl rfl)
theorem dX3_pets_102 : decode cX3_pets 102 = .ok (.isub, 1) := dk_100 (dk_at dksX3_pets_4 9 rfl rfl)
theorem dX3_pets_103 : decode cX3_pets 103 = .ok (.invokestatic 61, 3) := dk_184 0 61 (dk_at dksX3_pets_4 10 rfl rfl)
theorem dX3_pets_106 : decode cX3_pets 106 = .ok (.istore_n 3, 1) := dk_62 (dk_at dksX3_pets_4 13 rfl rfl)
theorem dX3_pets_107 : decode cX3_pets 107 = .ok (.aload_n 0, 1) := dk_42 (dk_at dksX3_pets_4 14 rfl rfl)
theorem dX3_pets_108 : decode cX3_pets 108 = .ok (.getfield 9, 3) := dk_180 0 9 (dk_at dksX3_pets_4 15 rfl rfl)
theorem dX3_pets_111 : decode cX3_pets 111 = .ok (.bipush 53, 2) := dk_16 53 (dk_at dksX3_pets_4 18 rfl rfl)
theorem dX3_pets_113 : decode cX3_pets 113 = .ok (.iconst 4, 1) := dk_7 (dk_at dksX3_pets_4 20 rfl rfl)
theorem dX3_pets_114 : decode cX3_pets 114 = .ok (.iload_n 2, 1) := dk_28 (dk_at dksX3_pets_4 21 rfl rfl)
theorem dX3_pets_115 : decode cX3_pets 115 = .ok (.imul, 1) := dk_104 (dk_at dksX3_pets_4 22 rfl rfl)
theorem dX3_pets_116 : decode cX3_pets 116 = .ok (.iadd, 1) := dk_96 (dk_at dksX3_pets_4 23 rfl rfl)
theorem dX3_pets_117 : decode cX3_pets 117 = .ok (.iconst 1, 1) := dk_4 (dk_at dksX3_pets_5 0 rfl rfl)
theorem dX3_pets_118 : decode cX3_pets 118 = .ok (.iadd, 1) := dk_96 (dk_at dksX3_pets_5 1 rfl rfl)
theorem dX3_pets_119 : decode cX3_pets 119 = .ok (.iload_n 3, 1) := dk_29 (dk_at dksX3_pets_5 2 rfl rfl)
theorem dX3_pets_120 : decode cX3_pets 120 = .ok (.iconst 1, 1) := dk_4 (dk_at dksX3_pets_5 3 rfl rfl)
theorem dX3_pets_121 : decode cX3_pets 121 = .ok (.iadd, 1) := dk_96 (dk_at dksX3_pets_5 4 rfl rfl)
theorem dX3_pets_122 : decode cX3_pets 122 = .ok (.iastore, 1) := dk_79 (dk_at dksX3_pets_5 5 rfl rfl)
theorem dX3_pets_123 : decode cX3_pets 123 = .ok (.aload_n 0, 1) := dk_42 (dk_at dksX3_pets_5 6 rfl rfl)
theorem dX3_pets_124 : decode cX3_pets 124 = .ok (.iload_n 3, 1) := dk_29 (dk_at dksX3_pets_5 7 rfl rfl)
theorem dX3_pets_125 : decode cX3_pets 125 = .ok (.invokevirtual 97, 3) := dk_182 0 97 (dk_at dksX3_pets_5 8 rfl rfl)
theorem dX3_pets_128 : decode cX3_pets 128 = .ok (.ireturn, 1) := dk_172 (dk_at dksX3_pets_5 11 rfl rfl)
abbrev cX3_rounds : ByteArray := prog_12_method_35_code
def yX3_rounds : MethodName := ⟨RX3, "rounds", "(II)I"⟩
def dkwX3_rounds_2 : List UInt8 := [182, 0, 90, 100, 29, 108, 172]
abbrev dktX3_rounds_2 : List UInt8 := dkwX3_rounds_2 ++ []
def dkwX3_rounds_1 : List UInt8 := [182, 0, 90, 100, 184, 0, 110, 104, 62, 29, 154, 0, 8, 16, 241, 167, 0, 14, 16, 100, 42, 27, 5]
abbrev dktX3_rounds_1 : List UInt8 := dkwX3_rounds_1 ++ dktX3_rounds_2
def dkwX3_rounds_0 : List UInt8 := [42, 27, 182, 0, 87, 153, 0, 10, 28, 184, 0, 73, 154, 0, 6, 16, 245, 172, 5, 28, 42, 27, 4]
abbrev dktX3_rounds_0 : List UInt8 := dkwX3_rounds_0 ++ dktX3_rounds_1
theorem dksX3_rounds_0 : cX3_rounds.data.toList.drop 0 = dktX3_rounds_0 := by decide +kernel
theorem dksX3_rounds_1 : cX3_rounds.data.toList.drop 23 = dktX3_rounds_1 := dk_seg dksX3_rounds_0 23 rfl rfl
theorem dksX3_rounds_2 : cX3_rounds.data.toList.drop 46 = dktX3_rounds_2 := dk_seg dksX3_rounds_1 23 rfl rfl
theorem dX3_rounds_0 : decode cX3_rounds 0 = .ok (.aload_n 0, 1) := dk_42 (dk_at dksX3_rounds_0 0 rfl rfl)
theorem dX3_rounds_1 : decode cX3_rounds 1 = .ok (.iload_n 1, 1) := dk_27 (dk_at dksX3_rounds_0 1 rfl rfl)
theorem dX3_rounds_2 : decode cX3_rounds 2 = .ok (.invokevirtual 87, 3) := dk_182 0 87 (dk_at dksX3_rounds_0 2 rfl rfl)
theorem dX3_rounds_5 : decode cX3_rounds 5 = .ok (.ifCond .eq 10, 3) := dk_153 0 10 (dk_at dksX3_rounds_0 5 rfl rfl)
theorem dX3_rounds_8 : decode cX3_rounds 8 = .ok (.iload_n 2, 1) := dk_28 (dk_at dksX3_rounds_0 8 rfl rfl)
theorem dX3_rounds_9 : decode cX3_rounds 9 = .ok (.invokestatic 73, 3) := dk_184 0 73 (dk_at dksX3_rounds_0 9 rfl rfl)
theorem dX3_rounds_12 : decode cX3_rounds 12 = .ok (.ifCond .ne 6, 3) := dk_154 0 6 (dk_at dksX3_rounds_0 12 rfl rfl)
theorem dX3_rounds_15 : decode cX3_rounds 15 = .ok (.bipush (-11), 2) := dk_16 245 (dk_at dksX3_rounds_0 15 rfl rfl)
theorem dX3_rounds_17 : decode cX3_rounds 17 = .ok (.ireturn, 1) := dk_172 (dk_at dksX3_rounds_0 17 rfl rfl)
theorem dX3_rounds_18 : decode cX3_rounds 18 = .ok (.iconst 2, 1) := dk_5 (dk_at dksX3_rounds_0 18 rfl rfl)
theorem dX3_rounds_19 : decode cX3_rounds 19 = .ok (.iload_n 2, 1) := dk_28 (dk_at dksX3_rounds_0 19 rfl rfl)
theorem dX3_rounds_20 : decode cX3_rounds 20 = .ok (.aload_n 0, 1) := dk_42 (dk_at dksX3_rounds_0 20 rfl rfl)
theorem dX3_rounds_21 : decode cX3_rounds 21 = .ok (.iload_n 1, 1) := dk_27 (dk_at dksX3_rounds_0 21 rfl rfl)
theorem dX3_rounds_22 : decode cX3_rounds 22 = .ok (.iconst 1, 1) := dk_4 (dk_at dksX3_rounds_0 22 rfl rfl)
theorem dX3_rounds_23 : decode cX3_rounds 23 = .ok (.invokevirtual 90, 3) := dk_182 0 90 (dk_at dksX3_rounds_1 0 rfl rfl)
theorem dX3_rounds_26 : decode cX3_rounds 26 = .ok (.isub, 1) := dk_100 (dk_at dksX3_rounds_1 3 rfl rfl)
theorem dX3_rounds_27 : decode cX3_rounds 27 = .ok (.invokestatic 110, 3) := dk_184 0 110 (dk_at dksX3_rounds_1 4 rfl rfl)
theorem dX3_rounds_30 : decode cX3_rounds 30 = .ok (.imul, 1) := dk_104 (dk_at dksX3_rounds_1 7 rfl rfl)
theorem dX3_rounds_31 : decode cX3_rounds 31 = .ok (.istore_n 3, 1) := dk_62 (dk_at dksX3_rounds_1 8 rfl rfl)
theorem dX3_rounds_32 : decode cX3_rounds 32 = .ok (.iload_n 3, 1) := dk_29 (dk_at dksX3_rounds_1 9 rfl rfl)
theorem dX3_rounds_33 : decode cX3_rounds 33 = .ok (.ifCond .ne 8, 3) := dk_154 0 8 (dk_at dksX3_rounds_1 10 rfl rfl)
theorem dX3_rounds_36 : decode cX3_rounds 36 = .ok (.bipush (-15), 2) := dk_16 241 (dk_at dksX3_rounds_1 13 rfl rfl)
theorem dX3_rounds_38 : decode cX3_rounds 38 = .ok (.goto 14, 3) := dk_167 0 14 (dk_at dksX3_rounds_1 15 rfl rfl)
theorem dX3_rounds_41 : decode cX3_rounds 41 = .ok (.bipush 100, 2) := dk_16 100 (dk_at dksX3_rounds_1 18 rfl rfl)
theorem dX3_rounds_43 : decode cX3_rounds 43 = .ok (.aload_n 0, 1) := dk_42 (dk_at dksX3_rounds_1 20 rfl rfl)
theorem dX3_rounds_44 : decode cX3_rounds 44 = .ok (.iload_n 1, 1) := dk_27 (dk_at dksX3_rounds_1 21 rfl rfl)
theorem dX3_rounds_45 : decode cX3_rounds 45 = .ok (.iconst 2, 1) := dk_5 (dk_at dksX3_rounds_1 22 rfl rfl)
theorem dX3_rounds_46 : decode cX3_rounds 46 = .ok (.invokevirtual 90, 3) := dk_182 0 90 (dk_at dksX3_rounds_2 0 rfl rfl)
theorem dX3_rounds_49 : decode cX3_rounds 49 = .ok (.isub, 1) := dk_100 (dk_at dksX3_rounds_2 3 rfl rfl)
theorem dX3_rounds_50 : decode cX3_rounds 50 = .ok (.iload_n 3, 1) := dk_29 (dk_at dksX3_rounds_2 4 rfl rfl)
theorem dX3_rounds_51 : decode cX3_rounds 51 = .ok (.idiv, 1) := dk_108 (dk_at dksX3_rounds_2 5 rfl rfl)
theorem dX3_rounds_52 : decode cX3_rounds 52 = .ok (.ireturn, 1) := dk_172 (dk_at dksX3_rounds_2 6 rfl rfl)
abbrev cX3_roundsAgain : ByteArray := prog_12_method_36_code
def yX3_roundsAgain : MethodName := ⟨RX3, "roundsAgain", "(II)I"⟩
def dkwX3_roundsAgain_0 : List UInt8 := [42, 27, 28, 182, 0, 125, 172]
abbrev dktX3_roundsAgain_0 : List UInt8 := dkwX3_roundsAgain_0 ++ []
theorem dksX3_roundsAgain_0 : cX3_roundsAgain.data.toList.drop 0 = dktX3_roundsAgain_0 := by decide +kernel
theorem dX3_roundsAgain_0 : decode cX3_roundsAgain 0 = .ok (.aload_n 0, 1) := dk_42 (dk_at dksX3_roundsAgain_0 0 rfl rfl)
theorem dX3_roundsAgain_1 : decode cX3_roundsAgain 1 = .ok (.iload_n 1, 1) := dk_27 (dk_at dksX3_roundsAgain_0 1 rfl rfl)
theorem dX3_roundsAgain_2 : decode cX3_roundsAgain 2 = .ok (.iload_n 2, 1) := dk_28 (dk_at dksX3_roundsAgain_0 2 rfl rfl)
theorem dX3_roundsAgain_3 : decode cX3_roundsAgain 3 = .ok (.invokevirtual 125, 3) := dk_182 0 125 (dk_at dksX3_roundsAgain_0 3 rfl rfl)
theorem dX3_roundsAgain_6 : decode cX3_roundsAgain 6 = .ok (.ireturn, 1) := dk_172 (dk_at dksX3_roundsAgain_0 6 rfl rfl)
abbrev cX3_would : ByteArray := prog_12_method_39_code
def yX3_would : MethodName := ⟨RX3, "would", "(IIII)I"⟩
def dkwX3_would_2 : List UInt8 := [16, 244, 172]
abbrev dktX3_would_2 : List UInt8 := dkwX3_would_2 ++ []
def dkwX3_would_1 : List UInt8 := [172, 21, 4, 4, 16, 20, 184, 0, 48, 153, 0, 15, 42, 27, 28, 29, 21, 4, 182, 0, 132, 167, 0, 5]
abbrev dktX3_would_1 : List UInt8 := dkwX3_would_1 ++ dktX3_would_2
def dkwX3_would_0 : List UInt8 := [42, 27, 182, 0, 87, 153, 0, 17, 28, 184, 0, 73, 153, 0, 10, 29, 184, 0, 81, 154, 0, 6, 16, 245]
abbrev dktX3_would_0 : List UInt8 := dkwX3_would_0 ++ dktX3_would_1
theorem dksX3_would_0 : cX3_would.data.toList.drop 0 = dktX3_would_0 := by decide +kernel
theorem dksX3_would_1 : cX3_would.data.toList.drop 24 = dktX3_would_1 := dk_seg dksX3_would_0 24 rfl rfl
theorem dksX3_would_2 : cX3_would.data.toList.drop 48 = dktX3_would_2 := dk_seg dksX3_would_1 24 rfl rfl
theorem dX3_would_0 : decode cX3_would 0 = .ok (.aload_n 0, 1) := dk_42 (dk_at dksX3_would_0 0 rfl rfl)
theorem dX3_would_1 : decode cX3_would 1 = .ok (.iload_n 1, 1) := dk_27 (dk_at dksX3_would_0 1 rfl rfl)
theorem dX3_would_2 : decode cX3_would 2 = .ok (.invokevirtual 87, 3) := dk_182 0 87 (dk_at dksX3_would_0 2 rfl rfl)
theorem dX3_would_5 : decode cX3_would 5 = .ok (.ifCond .eq 17, 3) := dk_153 0 17 (dk_at dksX3_would_0 5 rfl rfl)
theorem dX3_would_8 : decode cX3_would 8 = .ok (.iload_n 2, 1) := dk_28 (dk_at dksX3_would_0 8 rfl rfl)
theorem dX3_would_9 : decode cX3_would 9 = .ok (.invokestatic 73, 3) := dk_184 0 73 (dk_at dksX3_would_0 9 rfl rfl)
theorem dX3_would_12 : decode cX3_would 12 = .ok (.ifCond .eq 10, 3) := dk_153 0 10 (dk_at dksX3_would_0 12 rfl rfl)
theorem dX3_would_15 : decode cX3_would 15 = .ok (.iload_n 3, 1) := dk_29 (dk_at dksX3_would_0 15 rfl rfl)
theorem dX3_would_16 : decode cX3_would 16 = .ok (.invokestatic 81, 3) := dk_184 0 81 (dk_at dksX3_would_0 16 rfl rfl)
theorem dX3_would_19 : decode cX3_would 19 = .ok (.ifCond .ne 6, 3) := dk_154 0 6 (dk_at dksX3_would_0 19 rfl rfl)
theorem dX3_would_22 : decode cX3_would 22 = .ok (.bipush (-11), 2) := dk_16 245 (dk_at dksX3_would_0 22 rfl rfl)
theorem dX3_would_24 : decode cX3_would 24 = .ok (.ireturn, 1) := dk_172 (dk_at dksX3_would_1 0 rfl rfl)
theorem dX3_would_25 : decode cX3_would 25 = .ok (.iload 4, 2) := dk_21 4 (dk_at dksX3_would_1 1 rfl rfl)
theorem dX3_would_27 : decode cX3_would 27 = .ok (.iconst 1, 1) := dk_4 (dk_at dksX3_would_1 3 rfl rfl)
theorem dX3_would_28 : decode cX3_would 28 = .ok (.bipush 20, 2) := dk_16 20 (dk_at dksX3_would_1 4 rfl rfl)
theorem dX3_would_30 : decode cX3_would 30 = .ok (.invokestatic 48, 3) := dk_184 0 48 (dk_at dksX3_would_1 6 rfl rfl)
theorem dX3_would_33 : decode cX3_would 33 = .ok (.ifCond .eq 15, 3) := dk_153 0 15 (dk_at dksX3_would_1 9 rfl rfl)
theorem dX3_would_36 : decode cX3_would 36 = .ok (.aload_n 0, 1) := dk_42 (dk_at dksX3_would_1 12 rfl rfl)
theorem dX3_would_37 : decode cX3_would 37 = .ok (.iload_n 1, 1) := dk_27 (dk_at dksX3_would_1 13 rfl rfl)
theorem dX3_would_38 : decode cX3_would 38 = .ok (.iload_n 2, 1) := dk_28 (dk_at dksX3_would_1 14 rfl rfl)
theorem dX3_would_39 : decode cX3_would 39 = .ok (.iload_n 3, 1) := dk_29 (dk_at dksX3_would_1 15 rfl rfl)
theorem dX3_would_40 : decode cX3_would 40 = .ok (.iload 4, 2) := dk_21 4 (dk_at dksX3_would_1 16 rfl rfl)
theorem dX3_would_42 : decode cX3_would 42 = .ok (.invokevirtual 132, 3) := dk_182 0 132 (dk_at dksX3_would_1 18 rfl rfl)
theorem dX3_would_45 : decode cX3_would 45 = .ok (.goto 5, 3) := dk_167 0 5 (dk_at dksX3_would_1 21 rfl rfl)
theorem dX3_would_48 : decode cX3_would 48 = .ok (.bipush (-12), 2) := dk_16 244 (dk_at dksX3_would_2 0 rfl rfl)
theorem dX3_would_50 : decode cX3_would 50 = .ok (.ireturn, 1) := dk_172 (dk_at dksX3_would_2 2 rfl rfl)
abbrev cX3_wants : ByteArray := prog_12_method_38_code
def yX3_wants : MethodName := ⟨RX3, "wants", "(IIII)I"⟩
def dkwX3_wants_2 : List UInt8 := [42, 27, 6, 29, 96, 182, 0, 90, 184, 0, 55, 184, 0, 61, 172]
abbrev dktX3_wants_2 : List UInt8 := dkwX3_wants_2 ++ []
def dkwX3_wants_1 : List UInt8 := [28, 104, 96, 6, 96, 46, 29, 122, 4, 126, 154, 0, 7, 4, 167, 0, 4, 3, 96, 54, 5, 3, 21, 5]
abbrev dktX3_wants_1 : List UInt8 := dkwX3_wants_1 ++ dktX3_wants_2
def dkwX3_wants_0 : List UInt8 := [42, 27, 28, 182, 0, 128, 154, 0, 5, 3, 172, 6, 21, 4, 6, 108, 100, 42, 180, 0, 9, 16, 53, 7]
abbrev dktX3_wants_0 : List UInt8 := dkwX3_wants_0 ++ dktX3_wants_1
theorem dksX3_wants_0 : cX3_wants.data.toList.drop 0 = dktX3_wants_0 := by decide +kernel
theorem dksX3_wants_1 : cX3_wants.data.toList.drop 24 = dktX3_wants_1 := dk_seg dksX3_wants_0 24 rfl rfl
theorem dksX3_wants_2 : cX3_wants.data.toList.drop 48 = dktX3_wants_2 := dk_seg dksX3_wants_1 24 rfl rfl
theorem dX3_wants_0 : decode cX3_wants 0 = .ok (.aload_n 0, 1) := dk_42 (dk_at dksX3_wants_0 0 rfl rfl)
theorem dX3_wants_1 : decode cX3_wants 1 = .ok (.iload_n 1, 1) := dk_27 (dk_at dksX3_wants_0 1 rfl rfl)
theorem dX3_wants_2 : decode cX3_wants 2 = .ok (.iload_n 2, 1) := dk_28 (dk_at dksX3_wants_0 2 rfl rfl)
theorem dX3_wants_3 : decode cX3_wants 3 = .ok (.invokevirtual 128, 3) := dk_182 0 128 (dk_at dksX3_wants_0 3 rfl rfl)
theorem dX3_wants_6 : decode cX3_wants 6 = .ok (.ifCond .ne 5, 3) := dk_154 0 5 (dk_at dksX3_wants_0 6 rfl rfl)
theorem dX3_wants_9 : decode cX3_wants 9 = .ok (.iconst 0, 1) := dk_3 (dk_at dksX3_wants_0 9 rfl rfl)
theorem dX3_wants_10 : decode cX3_wants 10 = .ok (.ireturn, 1) := dk_172 (dk_at dksX3_wants_0 10 rfl rfl)
theorem dX3_wants_11 : decode cX3_wants 11 = .ok (.iconst 3, 1) := dk_6 (dk_at dksX3_wants_0 11 rfl rfl)
theorem dX3_wants_12 : decode cX3_wants 12 = .ok (.iload 4, 2) := dk_21 4 (dk_at dksX3_wants_0 12 rfl rfl)
theorem dX3_wants_14 : decode cX3_wants 14 = .ok (.iconst 3, 1) := dk_6 (dk_at dksX3_wants_0 14 rfl rfl)
theorem dX3_wants_15 : decode cX3_wants 15 = .ok (.idiv, 1) := dk_108 (dk_at dksX3_wants_0 15 rfl rfl)
theorem dX3_wants_16 : decode cX3_wants 16 = .ok (.isub, 1) := dk_100 (dk_at dksX3_wants_0 16 rfl rfl)
theorem dX3_wants_17 : decode cX3_wants 17 = .ok (.aload_n 0, 1) := dk_42 (dk_at dksX3_wants_0 17 rfl rfl)
theorem dX3_wants_18 : decode cX3_wants 18 = .ok (.getfield 9, 3) := dk_180 0 9 (dk_at dksX3_wants_0 18 rfl rfl)
theorem dX3_wants_21 : decode cX3_wants 21 = .ok (.bipush 53, 2) := dk_16 53 (dk_at dksX3_wants_0 21 rfl rfl)
theorem dX3_wants_23 : decode cX3_wants 23 = .ok (.iconst 4, 1) := dk_7 (dk_at dksX3_wants_0 23 rfl rfl)
theorem dX3_wants_24 : decode cX3_wants 24 = .ok (.iload_n 2, 1) := dk_28 (dk_at dksX3_wants_1 0 rfl rfl)
theorem dX3_wants_25 : decode cX3_wants 25 = .ok (.imul, 1) := dk_104 (dk_at dksX3_wants_1 1 rfl rfl)
theorem dX3_wants_26 : decode cX3_wants 26 = .ok (.iadd, 1) := dk_96 (dk_at dksX3_wants_1 2 rfl rfl)
theorem dX3_wants_27 : decode cX3_wants 27 = .ok (.iconst 3, 1) := dk_6 (dk_at dksX3_wants_1 3 rfl rfl)
theorem dX3_wants_28 : decode cX3_wants 28 = .ok (.iadd, 1) := dk_96 (dk_at dksX3_wants_1 4 rfl rfl)
theorem dX3_wants_29 : decode cX3_wants 29 = .ok (.iaload, 1) := dk_46 (dk_at dksX3_wants_1 5 rfl rfl)
theorem dX3_wants_30 : decode cX3_wants 30 = .ok (.iload_n 3, 1) := dk_29 (dk_at dksX3_wants_1 6 rfl rfl)
theorem dX3_wants_31 : decode cX3_wants 31 = .ok (.ishr, 1) := dk_122 (dk_at dksX3_wants_1 7 rfl rfl)
theorem dX3_wants_32 : decode cX3_wants 32 = .ok (.iconst 1, 1) := dk_4 (dk_at dksX3_wants_1 8 rfl rfl)
theorem dX3_wants_33 : decode cX3_wants 33 = .ok (.iand, 1) := dk_126 (dk_at dksX3_wants_1 9 rfl rfl)
theorem dX3_wants_34 : decode cX3_wants 34 = .ok (.ifCond .ne 7, 3) := dk_154 0 7 (dk_at dksX3_wants_1 10 rfl rfl)
theorem dX3_wants_37 : decode cX3_wants 37 = .ok (.iconst 1, 1) := dk_4 (dk_at dksX3_wants_1 13 rfl rfl)
theorem dX3_wants_38 : decode cX3_wants 38 = .ok (.goto 4, 3) := dk_167 0 4 (dk_at dksX3_wants_1 14 rfl rfl)
theorem dX3_wants_41 : decode cX3_wants 41 = .ok (.iconst 0, 1) := dk_3 (dk_at dksX3_wants_1 17 rfl rfl)
theorem dX3_wants_42 : decode cX3_wants 42 = .ok (.iadd, 1) := dk_96 (dk_at dksX3_wants_1 18 rfl rfl)
theorem dX3_wants_43 : decode cX3_wants 43 = .ok (.istore 5, 2) := dk_54 5 (dk_at dksX3_wants_1 19 rfl rfl)
theorem dX3_wants_45 : decode cX3_wants 45 = .ok (.iconst 0, 1) := dk_3 (dk_at dksX3_wants_1 21 rfl rfl)
theorem dX3_wants_46 : decode cX3_wants 46 = .ok (.iload 5, 2) := dk_21 5 (dk_at dksX3_wants_1 22 rfl rfl)
theorem dX3_wants_48 : decode cX3_wants 48 = .ok (.aload_n 0, 1) := dk_42 (dk_at dksX3_wants_2 0 rfl rfl)
theorem dX3_wants_49 : decode cX3_wants 49 = .ok (.iload_n 1, 1) := dk_27 (dk_at dksX3_wants_2 1 rfl rfl)
theorem dX3_wants_50 : decode cX3_wants 50 = .ok (.iconst 3, 1) := dk_6 (dk_at dksX3_wants_2 2 rfl rfl)
theorem dX3_wants_51 : decode cX3_wants 51 = .ok (.iload_n 3, 1) := dk_29 (dk_at dksX3_wants_2 3 rfl rfl)
theorem dX3_wants_52 : decode cX3_wants 52 = .ok (.iadd, 1) := dk_96 (dk_at dksX3_wants_2 4 rfl rfl)
theorem dX3_wants_53 : decode cX3_wants 53 = .ok (.invokevirtual 90, 3) := dk_182 0 90 (dk_at dksX3_wants_2 5 rfl rfl)
theorem dX3_wants_56 : decode cX3_wants 56 = .ok (.invokestatic 55, 3) := dk_184 0 55 (dk_at dksX3_wants_2 8 rfl rfl)
theorem dX3_wants_59 : decode cX3_wants 59 = .ok (.invokestatic 61, 3) := dk_184 0 61 (dk_at dksX3_wants_2 11 rfl rfl)
theorem dX3_wants_62 : decode cX3_wants 62 = .ok (.ireturn, 1) := dk_172 (dk_at dksX3_wants_2 14 rfl rfl)
abbrev cX3_listens : ByteArray := prog_12_method_37_code
def yX3_listens : MethodName := ⟨RX3, "listens", "(II)Z"⟩
def dkwX3_listens_2 : List UInt8 := [172]
abbrev dktX3_listens_2 : List UInt8 := dkwX3_listens_2 ++ []
def dkwX3_listens_1 : List UInt8 := [153, 0, 7, 6, 167, 0, 4, 3, 96, 28, 184, 0, 107, 16, 6, 96, 161, 0, 7, 4, 167, 0, 4, 3]
abbrev dktX3_listens_1 : List UInt8 := dkwX3_listens_1 ++ dktX3_listens_2
def dkwX3_listens_0 : List UInt8 := [42, 28, 182, 0, 70, 62, 42, 27, 3, 182, 0, 90, 42, 28, 182, 0, 52, 96, 29, 3, 5, 184, 0, 48]
abbrev dktX3_listens_0 : List UInt8 := dkwX3_listens_0 ++ dktX3_listens_1
theorem dksX3_listens_0 : cX3_listens.data.toList.drop 0 = dktX3_listens_0 := by decide +kernel
theorem dksX3_listens_1 : cX3_listens.data.toList.drop 24 = dktX3_listens_1 := dk_seg dksX3_listens_0 24 rfl rfl
theorem dksX3_listens_2 : cX3_listens.data.toList.drop 48 = dktX3_listens_2 := dk_seg dksX3_listens_1 24 rfl rfl
theorem dX3_listens_0 : decode cX3_listens 0 = .ok (.aload_n 0, 1) := dk_42 (dk_at dksX3_listens_0 0 rfl rfl)
theorem dX3_listens_1 : decode cX3_listens 1 = .ok (.iload_n 2, 1) := dk_28 (dk_at dksX3_listens_0 1 rfl rfl)
theorem dX3_listens_2 : decode cX3_listens 2 = .ok (.invokevirtual 70, 3) := dk_182 0 70 (dk_at dksX3_listens_0 2 rfl rfl)
theorem dX3_listens_5 : decode cX3_listens 5 = .ok (.istore_n 3, 1) := dk_62 (dk_at dksX3_listens_0 5 rfl rfl)
theorem dX3_listens_6 : decode cX3_listens 6 = .ok (.aload_n 0, 1) := dk_42 (dk_at dksX3_listens_0 6 rfl rfl)
theorem dX3_listens_7 : decode cX3_listens 7 = .ok (.iload_n 1, 1) := dk_27 (dk_at dksX3_listens_0 7 rfl rfl)
theorem dX3_listens_8 : decode cX3_listens 8 = .ok (.iconst 0, 1) := dk_3 (dk_at dksX3_listens_0 8 rfl rfl)
theorem dX3_listens_9 : decode cX3_listens 9 = .ok (.invokevirtual 90, 3) := dk_182 0 90 (dk_at dksX3_listens_0 9 rfl rfl)
theorem dX3_listens_12 : decode cX3_listens 12 = .ok (.aload_n 0, 1) := dk_42 (dk_at dksX3_listens_0 12 rfl rfl)
theorem dX3_listens_13 : decode cX3_listens 13 = .ok (.iload_n 2, 1) := dk_28 (dk_at dksX3_listens_0 13 rfl rfl)
theorem dX3_listens_14 : decode cX3_listens 14 = .ok (.invokevirtual 52, 3) := dk_182 0 52 (dk_at dksX3_listens_0 14 rfl rfl)
theorem dX3_listens_17 : decode cX3_listens 17 = .ok (.iadd, 1) := dk_96 (dk_at dksX3_listens_0 17 rfl rfl)
theorem dX3_listens_18 : decode cX3_listens 18 = .ok (.iload_n 3, 1) := dk_29 (dk_at dksX3_listens_0 18 rfl rfl)
theorem dX3_listens_19 : decode cX3_listens 19 = .ok (.iconst 0, 1) := dk_3 (dk_at dksX3_listens_0 19 rfl rfl)
theorem dX3_listens_20 : decode cX3_listens 20 = .ok (.iconst 2, 1) := dk_5 (dk_at dksX3_listens_0 20 rfl rfl)
theorem dX3_listens_21 : decode cX3_listens 21 = .ok (.invokestatic 48, 3) := dk_184 0 48 (dk_at dksX3_listens_0 21 rfl rfl)
theorem dX3_listens_24 : decode cX3_listens 24 = .ok (.ifCond .eq 7, 3) := dk_153 0 7 (dk_at dksX3_listens_1 0 rfl rfl)
theorem dX3_listens_27 : decode cX3_listens 27 = .ok (.iconst 3, 1) := dk_6 (dk_at dksX3_listens_1 3 rfl rfl)
theorem dX3_listens_28 : decode cX3_listens 28 = .ok (.goto 4, 3) := dk_167 0 4 (dk_at dksX3_listens_1 4 rfl rfl)
theorem dX3_listens_31 : decode cX3_listens 31 = .ok (.iconst 0, 1) := dk_3 (dk_at dksX3_listens_1 7 rfl rfl)
theorem dX3_listens_32 : decode cX3_listens 32 = .ok (.iadd, 1) := dk_96 (dk_at dksX3_listens_1 8 rfl rfl)
theorem dX3_listens_33 : decode cX3_listens 33 = .ok (.iload_n 2, 1) := dk_28 (dk_at dksX3_listens_1 9 rfl rfl)
theorem dX3_listens_34 : decode cX3_listens 34 = .ok (.invokestatic 107, 3) := dk_184 0 107 (dk_at dksX3_listens_1 10 rfl rfl)
theorem dX3_listens_37 : decode cX3_listens 37 = .ok (.bipush 6, 2) := dk_16 6 (dk_at dksX3_listens_1 13 rfl rfl)
theorem dX3_listens_39 : decode cX3_listens 39 = .ok (.iadd, 1) := dk_96 (dk_at dksX3_listens_1 15 rfl rfl)
theorem dX3_listens_40 : decode cX3_listens 40 = .ok (.if_icmp .lt 7, 3) := dk_161 0 7 (dk_at dksX3_listens_1 16 rfl rfl)
theorem dX3_listens_43 : decode cX3_listens 43 = .ok (.iconst 1, 1) := dk_4 (dk_at dksX3_listens_1 19 rfl rfl)
theorem dX3_listens_44 : decode cX3_listens 44 = .ok (.goto 4, 3) := dk_167 0 4 (dk_at dksX3_listens_1 20 rfl rfl)
theorem dX3_listens_47 : decode cX3_listens 47 = .ok (.iconst 0, 1) := dk_3 (dk_at dksX3_listens_1 23 rfl rfl)
theorem dX3_listens_48 : decode cX3_listens 48 = .ok (.ireturn, 1) := dk_172 (dk_at dksX3_listens_2 0 rfl rfl)
abbrev cX3_bestHouse : ByteArray := prog_12_method_40_code
def yX3_bestHouse : MethodName := ⟨RX3, "bestHouse", "(III)I"⟩
def dkwX3_bestHouse_5 : List UInt8 := [167, 0, 15, 21, 7, 54, 4, 21, 8, 54, 5, 21, 9, 54, 6, 132, 7, 1, 167, 255, 165, 21, 4, 172]
abbrev dktX3_bestHouse_5 : List UInt8 := dkwX3_bestHouse_5 ++ []
def dkwX3_bestHouse_4 : List UInt8 := [153, 0, 39, 21, 8, 21, 5, 161, 0, 32, 21, 8, 21, 5, 160, 0, 13, 21, 9, 21, 6, 161, 0, 6]
abbrev dktX3_bestHouse_4 : List UInt8 := dkwX3_bestHouse_4 ++ dktX3_bestHouse_5
def dkwX3_bestHouse_3 : List UInt8 := [28, 29, 182, 0, 132, 54, 8, 21, 7, 42, 27, 4, 182, 0, 90, 100, 184, 0, 110, 54, 9, 21, 8]
abbrev dktX3_bestHouse_3 : List UInt8 := dkwX3_bestHouse_3 ++ dktX3_bestHouse_4
def dkwX3_bestHouse_2 : List UInt8 := [16, 20, 162, 0, 90, 42, 21, 7, 182, 0, 70, 16, 7, 161, 0, 7, 3, 167, 0, 12, 42, 27, 21, 7]
abbrev dktX3_bestHouse_2 : List UInt8 := dkwX3_bestHouse_2 ++ dktX3_bestHouse_3
def dkwX3_bestHouse_1 : List UInt8 := [184, 0, 48, 154, 0, 6, 16, 244, 172, 16, 241, 54, 4, 3, 54, 5, 3, 54, 6, 3, 54, 7, 21, 7]
abbrev dktX3_bestHouse_1 : List UInt8 := dkwX3_bestHouse_1 ++ dktX3_bestHouse_2
def dkwX3_bestHouse_0 : List UInt8 := [42, 27, 182, 0, 87, 153, 0, 10, 28, 184, 0, 81, 154, 0, 6, 16, 245, 172, 29, 4, 16, 20]
abbrev dktX3_bestHouse_0 : List UInt8 := dkwX3_bestHouse_0 ++ dktX3_bestHouse_1
theorem dksX3_bestHouse_0 : cX3_bestHouse.data.toList.drop 0 = dktX3_bestHouse_0 := by decide +kernel
theorem dksX3_bestHouse_1 : cX3_bestHouse.data.toList.drop 22 = dktX3_bestHouse_1 := dk_seg dksX3_bestHouse_0 22 rfl rfl
theorem dksX3_bestHouse_2 : cX3_bestHouse.data.toList.drop 46 = dktX3_bestHouse_2 := dk_seg dksX3_bestHouse_1 24 rfl rfl
theorem dksX3_bestHouse_3 : cX3_bestHouse.data.toList.drop 70 = dktX3_bestHouse_3 := dk_seg dksX3_bestHouse_2 24 rfl rfl
theorem dksX3_bestHouse_4 : cX3_bestHouse.data.toList.drop 93 = dktX3_bestHouse_4 := dk_seg dksX3_bestHouse_3 23 rfl rfl
theorem dksX3_bestHouse_5 : cX3_bestHouse.data.toList.drop 117 = dktX3_bestHouse_5 := dk_seg dksX3_bestHouse_4 24 rfl rfl
theorem dX3_bestHouse_0 : decode cX3_bestHouse 0 = .ok (.aload_n 0, 1) := dk_42 (dk_at dksX3_bestHouse_0 0 rfl rfl)
theorem dX3_bestHouse_1 : decode cX3_bestHouse 1 = .ok (.iload_n 1, 1) := dk_27 (dk_at dksX3_bestHouse_0 1 rfl rfl)
theorem dX3_bestHouse_2 : decode cX3_bestHouse 2 = .ok (.invokevirtual 87, 3) := dk_182 0 87 (dk_at dksX3_bestHouse_0 2 rfl rfl)
theorem dX3_bestHouse_5 : decode cX3_bestHouse 5 = .ok (.ifCond .eq 10, 3) := dk_153 0 10 (dk_at dksX3_bestHouse_0 5 rfl rfl)
theorem dX3_bestHouse_8 : decode cX3_bestHouse 8 = .ok (.iload_n 2, 1) := dk_28 (dk_at dksX3_bestHouse_0 8 rfl rfl)
theorem dX3_bestHouse_9 : decode cX3_bestHouse 9 = .ok (.invokestatic 81, 3) := dk_184 0 81 (dk_at dksX3_bestHouse_0 9 rfl rfl)
theorem dX3_bestHouse_12 : decode cX3_bestHouse 12 = .ok (.ifCond .ne 6, 3) := dk_154 0 6 (dk_at dksX3_bestHouse_0 12 rfl rfl)
theorem dX3_bestHouse_15 : decode cX3_bestHouse 15 = .ok (.bipush (-11), 2) := dk_16 245 (dk_at dksX3_bestHouse_0 15 rfl rfl)
theorem dX3_bestHouse_17 : decode cX3_bestHouse 17 = .ok (.ireturn, 1) := dk_172 (dk_at dksX3_bestHouse_0 17 rfl rfl)
theorem dX3_bestHouse_18 : decode cX3_bestHouse 18 = .ok (.iload_n 3, 1) := dk_29 (dk_at dksX3_bestHouse_0 18 rfl rfl)
theorem dX3_bestHouse_19 : decode cX3_bestHouse 19 = .ok (.iconst 1, 1) := dk_4 (dk_at dksX3_bestHouse_0 19 rfl rfl)
theorem dX3_bestHouse_20 : decode cX3_bestHouse 20 = .ok (.bipush 20, 2) := dk_16 20 (dk_at dksX3_bestHouse_0 20 rfl rfl)
theorem dX3_bestHouse_22 : decode cX3_bestHouse 22 = .ok (.invokestatic 48, 3) := dk_184 0 48 (dk_at dksX3_bestHouse_1 0 rfl rfl)
theorem dX3_bestHouse_25 : decode cX3_bestHouse 25 = .ok (.ifCond .ne 6, 3) := dk_154 0 6 (dk_at dksX3_bestHouse_1 3 rfl rfl)
theorem dX3_bestHouse_28 : decode cX3_bestHouse 28 = .ok (.bipush (-12), 2) := dk_16 244 (dk_at dksX3_bestHouse_1 6 rfl rfl)
theorem dX3_bestHouse_30 : decode cX3_bestHouse 30 = .ok (.ireturn, 1) := dk_172 (dk_at dksX3_bestHouse_1 8 rfl rfl)
theorem dX3_bestHouse_31 : decode cX3_bestHouse 31 = .ok (.bipush (-15), 2) := dk_16 241 (dk_at dksX3_bestHouse_1 9 rfl rfl)
theorem dX3_bestHouse_33 : decode cX3_bestHouse 33 = .ok (.istore 4, 2) := dk_54 4 (dk_at dksX3_bestHouse_1 11 rfl rfl)
theorem dX3_bestHouse_35 : decode cX3_bestHouse 35 = .ok (.iconst 0, 1) := dk_3 (dk_at dksX3_bestHouse_1 13 rfl rfl)
theorem dX3_bestHouse_36 : decode cX3_bestHouse 36 = .ok (.istore 5, 2) := dk_54 5 (dk_at dksX3_bestHouse_1 14 rfl rfl)
theorem dX3_bestHouse_38 : decode cX3_bestHouse 38 = .ok (.iconst 0, 1) := dk_3 (dk_at dksX3_bestHouse_1 16 rfl rfl)
theorem dX3_bestHouse_39 : decode cX3_bestHouse 39 = .ok (.istore 6, 2) := dk_54 6 (dk_at dksX3_bestHouse_1 17 rfl rfl)
theorem dX3_bestHouse_41 : decode cX3_bestHouse 41 = .ok (.iconst 0, 1) := dk_3 (dk_at dksX3_bestHouse_1 19 rfl rfl)
theorem dX3_bestHouse_42 : decode cX3_bestHouse 42 = .ok (.istore 7, 2) := dk_54 7 (dk_at dksX3_bestHouse_1 20 rfl rfl)
theorem dX3_bestHouse_44 : decode cX3_bestHouse 44 = .ok (.iload 7, 2) := dk_21 7 (dk_at dksX3_bestHouse_1 22 rfl rfl)
theorem dX3_bestHouse_46 : decode cX3_bestHouse 46 = .ok (.bipush 20, 2) := dk_16 20 (dk_at dksX3_bestHouse_2 0 rfl rfl)
theorem dX3_bestHouse_48 : decode cX3_bestHouse 48 = .ok (.if_icmp .ge 90, 3) := dk_162 0 90 (dk_at dksX3_bestHouse_2 2 rfl rfl)
theorem dX3_bestHouse_51 : decode cX3_bestHouse 51 = .ok (.aload_n 0, 1) := dk_42 (dk_at dksX3_bestHouse_2 5 rfl rfl)
theorem dX3_bestHouse_52 : decode cX3_bestHouse 52 = .ok (.iload 7, 2) := dk_21 7 (dk_at dksX3_bestHouse_2 6 rfl rfl)
theorem dX3_bestHouse_54 : decode cX3_bestHouse 54 = .ok (.invokevirtual 70, 3) := dk_182 0 70 (dk_at dksX3_bestHouse_2 8 rfl rfl)
theorem dX3_bestHouse_57 : decode cX3_bestHouse 57 = .ok (.bipush 7, 2) := dk_16 7 (dk_at dksX3_bestHouse_2 11 rfl rfl)
theorem dX3_bestHouse_59 : decode cX3_bestHouse 59 = .ok (.if_icmp .lt 7, 3) := dk_161 0 7 (dk_at dksX3_bestHouse_2 13 rfl rfl)
theorem dX3_bestHouse_62 : decode cX3_bestHouse 62 = .ok (.iconst 0, 1) := dk_3 (dk_at dksX3_bestHouse_2 16 rfl rfl)
theorem dX3_bestHouse_63 : decode cX3_bestHouse 63 = .ok (.goto 12, 3) := dk_167 0 12 (dk_at dksX3_bestHouse_2 17 rfl rfl)
theorem dX3_bestHouse_66 : decode cX3_bestHouse 66 = .ok (.aload_n 0, 1) := dk_42 (dk_at dksX3_bestHouse_2 20 rfl rfl)
theorem dX3_bestHouse_67 : decode cX3_bestHouse 67 = .ok (.iload_n 1, 1) := dk_27 (dk_at dksX3_bestHouse_2 21 rfl rfl)
theorem dX3_bestHouse_68 : decode cX3_bestHouse 68 = .ok (.iload 7, 2) := dk_21 7 (dk_at dksX3_bestHouse_2 22 rfl rfl)
theorem dX3_bestHouse_70 : decode cX3_bestHouse 70 = .ok (.iload_n 2, 1) := dk_28 (dk_at dksX3_bestHouse_3 0 rfl rfl)
theorem dX3_bestHouse_71 : decode cX3_bestHouse 71 = .ok (.iload_n 3, 1) := dk_29 (dk_at dksX3_bestHouse_3 1 rfl rfl)
theorem dX3_bestHouse_72 : decode cX3_bestHouse 72 = .ok (.invokevirtual 132, 3) := dk_182 0 132 (dk_at dksX3_bestHouse_3 2 rfl rfl)
theorem dX3_bestHouse_75 : decode cX3_bestHouse 75 = .ok (.istore 8, 2) := dk_54 8 (dk_at dksX3_bestHouse_3 5 rfl rfl)
theorem dX3_bestHouse_77 : decode cX3_bestHouse 77 = .ok (.iload 7, 2) := dk_21 7 (dk_at dksX3_bestHouse_3 7 rfl rfl)
theorem dX3_bestHouse_79 : decode cX3_bestHouse 79 = .ok (.aload_n 0, 1) := dk_42 (dk_at dksX3_bestHouse_3 9 rfl rfl)
theorem dX3_bestHouse_80 : decode cX3_bestHouse 80 = .ok (.iload_n 1, 1) := dk_27 (dk_at dksX3_bestHouse_3 10 rfl rfl)
theorem dX3_bestHouse_81 : decode cX3_bestHouse 81 = .ok (.iconst 1, 1) := dk_4 (dk_at dksX3_bestHouse_3 11 rfl rfl)
theorem dX3_bestHouse_82 : decode cX3_bestHouse 82 = .ok (.invokevirtual 90, 3) := dk_182 0 90 (dk_at dksX3_bestHouse_3 12 rfl rfl)
theorem dX3_bestHouse_85 : decode cX3_bestHouse 85 = .ok (.isub, 1) := dk_100 (dk_at dksX3_bestHouse_3 15 rfl rfl)
theorem dX3_bestHouse_86 : decode cX3_bestHouse 86 = .ok (.invokestatic 110, 3) := dk_184 0 110 (dk_at dksX3_bestHouse_3 16 rfl rfl)
theorem dX3_bestHouse_89 : decode cX3_bestHouse 89 = .ok (.istore 9, 2) := dk_54 9 (dk_at dksX3_bestHouse_3 19 rfl rfl)
theorem dX3_bestHouse_91 : decode cX3_bestHouse 91 = .ok (.iload 8, 2) := dk_21 8 (dk_at dksX3_bestHouse_3 21 rfl rfl)
theorem dX3_bestHouse_93 : decode cX3_bestHouse 93 = .ok (.ifCond .eq 39, 3) := dk_153 0 39 (dk_at dksX3_bestHouse_4 0 rfl rfl)
theorem dX3_bestHouse_96 : decode cX3_bestHouse 96 = .ok (.iload 8, 2) := dk_21 8 (dk_at dksX3_bestHouse_4 3 rfl rfl)
theorem dX3_bestHouse_98 : decode cX3_bestHouse 98 = .ok (.iload 5, 2) := dk_21 5 (dk_at dksX3_bestHouse_4 5 rfl rfl)
theorem dX3_bestHouse_100 : decode cX3_bestHouse 100 = .ok (.if_icmp .lt 32, 3) := dk_161 0 32 (dk_at dksX3_bestHouse_4 7 rfl rfl)
theorem dX3_bestHouse_103 : decode cX3_bestHouse 103 = .ok (.iload 8, 2) := dk_21 8 (dk_at dksX3_bestHouse_4 10 rfl rfl)
theorem dX3_bestHouse_105 : decode cX3_bestHouse 105 = .ok (.iload 5, 2) := dk_21 5 (dk_at dksX3_bestHouse_4 12 rfl rfl)
theorem dX3_bestHouse_107 : decode cX3_bestHouse 107 = .ok (.if_icmp .ne 13, 3) := dk_160 0 13 (dk_at dksX3_bestHouse_4 14 rfl rfl)
theorem dX3_bestHouse_110 : decode cX3_bestHouse 110 = .ok (.iload 9, 2) := dk_21 9 (dk_at dksX3_bestHouse_4 17 rfl rfl)
theorem dX3_bestHouse_112 : decode cX3_bestHouse 112 = .ok (.iload 6, 2) := dk_21 6 (dk_at dksX3_bestHouse_4 19 rfl rfl)
theorem dX3_bestHouse_114 : decode cX3_bestHouse 114 = .ok (.if_icmp .lt 6, 3) := dk_161 0 6 (dk_at dksX3_bestHouse_4 21 rfl rfl)
theorem dX3_bestHouse_117 : decode cX3_bestHouse 117 = .ok (.goto 15, 3) := dk_167 0 15 (dk_at dksX3_bestHouse_5 0 rfl rfl)
theorem dX3_bestHouse_120 : decode cX3_bestHouse 120 = .ok (.iload 7, 2) := dk_21 7 (dk_at dksX3_bestHouse_5 3 rfl rfl)
theorem dX3_bestHouse_122 : decode cX3_bestHouse 122 = .ok (.istore 4, 2) := dk_54 4 (dk_at dksX3_bestHouse_5 5 rfl rfl)
theorem dX3_bestHouse_124 : decode cX3_bestHouse 124 = .ok (.iload 8, 2) := dk_21 8 (dk_at dksX3_bestHouse_5 7 rfl rfl)
theorem dX3_bestHouse_126 : decode cX3_bestHouse 126 = .ok (.istore 5, 2) := dk_54 5 (dk_at dksX3_bestHouse_5 9 rfl rfl)
theorem dX3_bestHouse_128 : decode cX3_bestHouse 128 = .ok (.iload 9, 2) := dk_21 9 (dk_at dksX3_bestHouse_5 11 rfl rfl)
theorem dX3_bestHouse_130 : decode cX3_bestHouse 130 = .ok (.istore 6, 2) := dk_54 6 (dk_at dksX3_bestHouse_5 13 rfl rfl)
theorem dX3_bestHouse_132 : decode cX3_bestHouse 132 = .ok (.iinc 7 1, 3) := dk_132 7 1 (dk_at dksX3_bestHouse_5 15 rfl rfl)
theorem dX3_bestHouse_135 : decode cX3_bestHouse 135 = .ok (.goto (-91), 3) := dk_167 255 165 (dk_at dksX3_bestHouse_5 18 rfl rfl)
theorem dX3_bestHouse_138 : decode cX3_bestHouse 138 = .ok (.iload 4, 2) := dk_21 4 (dk_at dksX3_bestHouse_5 21 rfl rfl)
theorem dX3_bestHouse_140 : decode cX3_bestHouse 140 = .ok (.ireturn, 1) := dk_172 (dk_at dksX3_bestHouse_5 23 rfl rfl)
abbrev cX3_ring : ByteArray := prog_12_method_42_code
def yX3_ring : MethodName := ⟨RX3, "ring", "(III)I"⟩
def dkwX3_ring_0 : List UInt8 := [42, 182, 0, 64, 42, 42, 27, 28, 29, 182, 0, 140, 182, 0, 104, 172]
abbrev dktX3_ring_0 : List UInt8 := dkwX3_ring_0 ++ []
theorem dksX3_ring_0 : cX3_ring.data.toList.drop 0 = dktX3_ring_0 := by decide +kernel
theorem dX3_ring_0 : decode cX3_ring 0 = .ok (.aload_n 0, 1) := dk_42 (dk_at dksX3_ring_0 0 rfl rfl)
theorem dX3_ring_1 : decode cX3_ring 1 = .ok (.invokevirtual 64, 3) := dk_182 0 64 (dk_at dksX3_ring_0 1 rfl rfl)
theorem dX3_ring_4 : decode cX3_ring 4 = .ok (.aload_n 0, 1) := dk_42 (dk_at dksX3_ring_0 4 rfl rfl)
theorem dX3_ring_5 : decode cX3_ring 5 = .ok (.aload_n 0, 1) := dk_42 (dk_at dksX3_ring_0 5 rfl rfl)
theorem dX3_ring_6 : decode cX3_ring 6 = .ok (.iload_n 1, 1) := dk_27 (dk_at dksX3_ring_0 6 rfl rfl)
theorem dX3_ring_7 : decode cX3_ring 7 = .ok (.iload_n 2, 1) := dk_28 (dk_at dksX3_ring_0 7 rfl rfl)
theorem dX3_ring_8 : decode cX3_ring 8 = .ok (.iload_n 3, 1) := dk_29 (dk_at dksX3_ring_0 8 rfl rfl)
theorem dX3_ring_9 : decode cX3_ring 9 = .ok (.invokevirtual 140, 3) := dk_182 0 140 (dk_at dksX3_ring_0 9 rfl rfl)
theorem dX3_ring_12 : decode cX3_ring 12 = .ok (.invokevirtual 104, 3) := dk_182 0 104 (dk_at dksX3_ring_0 12 rfl rfl)
theorem dX3_ring_15 : decode cX3_ring 15 = .ok (.ireturn, 1) := dk_172 (dk_at dksX3_ring_0 15 rfl rfl)
abbrev cX3_rings : ByteArray := prog_12_method_41_code
def yX3_rings : MethodName := ⟨RX3, "rings", "(III)I"⟩
def dkwX3_rings_16 : List UInt8 := [42, 180, 0, 9, 16, 9, 92, 46, 21, 5, 29, 104, 96, 79, 42, 21, 5, 182, 0, 97, 172]
abbrev dktX3_rings_16 : List UInt8 := dkwX3_rings_16 ++ []
def dkwX3_rings_15 : List UInt8 := [180, 0, 9, 16, 6, 92, 46, 21, 5, 96, 79, 42, 180, 0, 9, 7, 92, 46, 21, 5, 29, 104, 96, 79]
abbrev dktX3_rings_15 : List UInt8 := dkwX3_rings_15 ++ dktX3_rings_16
def dkwX3_rings_14 : List UInt8 := [96, 79, 42, 180, 0, 9, 16, 53, 7, 21, 4, 104, 96, 6, 96, 92, 46, 4, 28, 120, 128, 79, 42]
abbrev dktX3_rings_14 : List UInt8 := dkwX3_rings_14 ++ dktX3_rings_15
def dkwX3_rings_13 : List UInt8 := [16, 6, 21, 5, 182, 0, 93, 42, 180, 0, 9, 16, 53, 7, 21, 4, 104, 96, 5, 96, 92, 46, 21, 5]
abbrev dktX3_rings_13 : List UInt8 := dkwX3_rings_13 ++ dktX3_rings_14
def dkwX3_rings_12 : List UInt8 := [180, 0, 9, 21, 6, 16, 6, 96, 3, 79, 42, 27, 6, 28, 96, 21, 5, 116, 182, 0, 93, 42, 27]
abbrev dktX3_rings_12 : List UInt8 := dkwX3_rings_12 ++ dktX3_rings_13
def dkwX3_rings_11 : List UInt8 := [21, 6, 7, 96, 29, 79, 42, 180, 0, 9, 21, 6, 8, 96, 42, 180, 0, 9, 3, 46, 79, 42]
abbrev dktX3_rings_11 : List UInt8 := dkwX3_rings_11 ++ dktX3_rings_12
def dkwX3_rings_10 : List UInt8 := [180, 0, 9, 21, 6, 5, 96, 28, 79, 42, 180, 0, 9, 21, 6, 6, 96, 21, 5, 79, 42, 180, 0, 9]
abbrev dktX3_rings_10 : List UInt8 := dkwX3_rings_10 ++ dktX3_rings_11
def dkwX3_rings_9 : List UInt8 := [54, 6, 42, 180, 0, 9, 21, 6, 27, 79, 42, 180, 0, 9, 21, 6, 4, 96, 21, 4, 79, 42]
abbrev dktX3_rings_9 : List UInt8 := dkwX3_rings_9 ++ dktX3_rings_10
def dkwX3_rings_8 : List UInt8 := [21, 4, 4, 182, 0, 136, 17, 0, 133, 16, 7, 42, 180, 0, 9, 6, 92, 46, 91, 4, 96, 79, 104, 96]
abbrev dktX3_rings_8 : List UInt8 := dkwX3_rings_8 ++ dktX3_rings_9
def dkwX3_rings_7 : List UInt8 := [42, 27, 21, 4, 28, 29, 182, 0, 132, 54, 5, 21, 5, 154, 0, 9, 42, 3, 182, 0, 97, 172, 42]
abbrev dktX3_rings_7 : List UInt8 := dkwX3_rings_7 ++ dktX3_rings_8
def dkwX3_rings_6 : List UInt8 := [79, 42, 27, 21, 4, 182, 0, 128, 154, 0, 16, 42, 21, 4, 2, 182, 0, 136, 42, 3, 182, 0, 97, 172]
abbrev dktX3_rings_6 : List UInt8 := dkwX3_rings_6 ++ dktX3_rings_7
def dkwX3_rings_5 : List UInt8 := [182, 0, 67, 172, 42, 180, 0, 9, 4, 92, 46, 8, 96, 79, 42, 180, 0, 9, 16, 12, 92, 46, 4, 96]
abbrev dktX3_rings_5 : List UInt8 := dkwX3_rings_5 ++ dktX3_rings_6
def dkwX3_rings_4 : List UInt8 := [42, 16, 7, 3, 182, 0, 67, 172, 42, 180, 0, 9, 6, 46, 16, 40, 160, 0, 11, 42, 4, 16, 40]
abbrev dktX3_rings_4 : List UInt8 := dkwX3_rings_4 ++ dktX3_rings_5
def dkwX3_rings_3 : List UInt8 := [162, 0, 13, 42, 6, 42, 182, 0, 113, 182, 0, 67, 172, 42, 27, 6, 28, 96, 182, 0, 90, 154, 0, 11]
abbrev dktX3_rings_3 : List UInt8 := dkwX3_rings_3 ++ dktX3_rings_4
def dkwX3_rings_2 : List UInt8 := [16, 7, 161, 0, 16, 42, 16, 9, 42, 21, 4, 182, 0, 70, 182, 0, 67, 172, 42, 182, 0, 113, 8]
abbrev dktX3_rings_2 : List UInt8 := dkwX3_rings_2 ++ dktX3_rings_3
def dkwX3_rings_1 : List UInt8 := [184, 0, 48, 154, 0, 6, 16, 244, 172, 42, 27, 4, 182, 0, 90, 54, 4, 42, 21, 4, 182, 0, 70]
abbrev dktX3_rings_1 : List UInt8 := dkwX3_rings_1 ++ dktX3_rings_2
def dkwX3_rings_0 : List UInt8 := [42, 27, 182, 0, 87, 153, 0, 10, 28, 184, 0, 81, 154, 0, 6, 16, 245, 172, 29, 4, 16, 20]
abbrev dktX3_rings_0 : List UInt8 := dkwX3_rings_0 ++ dktX3_rings_1
theorem dksX3_rings_0 : cX3_rings.data.toList.drop 0 = dktX3_rings_0 := by decide +kernel
theorem dksX3_rings_1 : cX3_rings.data.toList.drop 22 = dktX3_rings_1 := dk_seg dksX3_rings_0 22 rfl rfl
theorem dksX3_rings_2 : cX3_rings.data.toList.drop 45 = dktX3_rings_2 := dk_seg dksX3_rings_1 23 rfl rfl
theorem dksX3_rings_3 : cX3_rings.data.toList.drop 68 = dktX3_rings_3 := dk_seg dksX3_rings_2 23 rfl rfl
theorem dksX3_rings_4 : cX3_rings.data.toList.drop 92 = dktX3_rings_4 := dk_seg dksX3_rings_3 24 rfl rfl
theorem dksX3_rings_5 : cX3_rings.data.toList.drop 115 = dktX3_rings_5 := dk_seg dksX3_rings_4 23 rfl rfl
theorem dksX3_rings_6 : cX3_rings.data.toList.drop 139 = dktX3_rings_6 := dk_seg dksX3_rings_5 24 rfl rfl
theorem dksX3_rings_7 : cX3_rings.data.toList.drop 163 = dktX3_rings_7 := dk_seg dksX3_rings_6 24 rfl rfl
theorem dksX3_rings_8 : cX3_rings.data.toList.drop 186 = dktX3_rings_8 := dk_seg dksX3_rings_7 23 rfl rfl
theorem dksX3_rings_9 : cX3_rings.data.toList.drop 210 = dktX3_rings_9 := dk_seg dksX3_rings_8 24 rfl rfl
theorem dksX3_rings_10 : cX3_rings.data.toList.drop 232 = dktX3_rings_10 := dk_seg dksX3_rings_9 22 rfl rfl
theorem dksX3_rings_11 : cX3_rings.data.toList.drop 256 = dktX3_rings_11 := dk_seg dksX3_rings_10 24 rfl rfl
theorem dksX3_rings_12 : cX3_rings.data.toList.drop 278 = dktX3_rings_12 := dk_seg dksX3_rings_11 22 rfl rfl
theorem dksX3_rings_13 : cX3_rings.data.toList.drop 301 = dktX3_rings_13 := dk_seg dksX3_rings_12 23 rfl rfl
theorem dksX3_rings_14 : cX3_rings.data.toList.drop 325 = dktX3_rings_14 := dk_seg dksX3_rings_13 24 rfl rfl
theorem dksX3_rings_15 : cX3_rings.data.toList.drop 348 = dktX3_rings_15 := dk_seg dksX3_rings_14 23 rfl rfl
theorem dksX3_rings_16 : cX3_rings.data.toList.drop 372 = dktX3_rings_16 := dk_seg dksX3_rings_15 24 rfl rfl
theorem dX3_rings_0 : decode cX3_rings 0 = .ok (.aload_n 0, 1) := dk_42 (dk_at dksX3_rings_0 0 rfl rfl)
theorem dX3_rings_1 : decode cX3_rings 1 = .ok (.iload_n 1, 1) := dk_27 (dk_at dksX3_rings_0 1 rfl rfl)
theorem dX3_rings_2 : decode cX3_rings 2 = .ok (.invokevirtual 87, 3) := dk_182 0 87 (dk_at dksX3_rings_0 2 rfl rfl)
theorem dX3_rings_5 : decode cX3_rings 5 = .ok (.ifCond .eq 10, 3) := dk_153 0 10 (dk_at dksX3_rings_0 5 rfl rfl)
theorem dX3_rings_8 : decode cX3_rings 8 = .ok (.iload_n 2, 1) := dk_28 (dk_at dksX3_rings_0 8 rfl rfl)
theorem dX3_rings_9 : decode cX3_rings 9 = .ok (.invokestatic 81, 3) := dk_184 0 81 (dk_at dksX3_rings_0 9 rfl rfl)
theorem dX3_rings_12 : decode cX3_rings 12 = .ok (.ifCond .ne 6, 3) := dk_154 0 6 (dk_at dksX3_rings_0 12 rfl rfl)
theorem dX3_rings_15 : decode cX3_rings 15 = .ok (.bipush (-11), 2) := dk_16 245 (dk_at dksX3_rings_0 15 rfl rfl)
theorem dX3_rings_17 : decode cX3_rings 17 = .ok (.ireturn, 1) := dk_172 (dk_at dksX3_rings_0 17 rfl rfl)
theorem dX3_rings_18 : decode cX3_rings 18 = .ok (.iload_n 3, 1) := dk_29 (dk_at dksX3_rings_0 18 rfl rfl)
theorem dX3_rings_19 : decode cX3_rings 19 = .ok (.iconst 1, 1) := dk_4 (dk_at dksX3_rings_0 19 rfl rfl)
theorem dX3_rings_20 : decode cX3_rings 20 = .ok (.bipush 20, 2) := dk_16 20 (dk_at dksX3_rings_0 20 rfl rfl)
theorem dX3_rings_22 : decode cX3_rings 22 = .ok (.invokestatic 48, 3) := dk_184 0 48 (dk_at dksX3_rings_1 0 rfl rfl)
theorem dX3_rings_25 : decode cX3_rings 25 = .ok (.ifCond .ne 6, 3) := dk_154 0 6 (dk_at dksX3_rings_1 3 rfl rfl)
theorem dX3_rings_28 : decode cX3_rings 28 = .ok (.bipush (-12), 2) := dk_16 244 (dk_at dksX3_rings_1 6 rfl rfl)
theorem dX3_rings_30 : decode cX3_rings 30 = .ok (.ireturn, 1) := dk_172 (dk_at dksX3_rings_1 8 rfl rfl)
theorem dX3_rings_31 : decode cX3_rings 31 = .ok (.aload_n 0, 1) := dk_42 (dk_at dksX3_rings_1 9 rfl rfl)
theorem dX3_rings_32 : decode cX3_rings 32 = .ok (.iload_n 1, 1) := dk_27 (dk_at dksX3_rings_1 10 rfl rfl)
theorem dX3_rings_33 : decode cX3_rings 33 = .ok (.iconst 1, 1) := dk_4 (dk_at dksX3_rings_1 11 rfl rfl)
theorem dX3_rings_34 : decode cX3_rings 34 = .ok (.invokevirtual 90, 3) := dk_182 0 90 (dk_at dksX3_rings_1 12 rfl rfl)
theorem dX3_rings_37 : decode cX3_rings 37 = .ok (.istore 4, 2) := dk_54 4 (dk_at dksX3_rings_1 15 rfl rfl)
theorem dX3_rings_39 : decode cX3_rings 39 = .ok (.aload_n 0, 1) := dk_42 (dk_at dksX3_rings_1 17 rfl rfl)
theorem dX3_rings_40 : decode cX3_rings 40 = .ok (.iload 4, 2) := dk_21 4 (dk_at dksX3_rings_1 18 rfl rfl)
theorem dX3_rings_42 : decode cX3_rings 42 = .ok (.invokevirtual 70, 3) := dk_182 0 70 (dk_at dksX3_rings_1 20 rfl rfl)
theorem dX3_rings_45 : decode cX3_rings 45 = .ok (.bipush 7, 2) := dk_16 7 (dk_at dksX3_rings_2 0 rfl rfl)
theorem dX3_rings_47 : decode cX3_rings 47 = .ok (.if_icmp .lt 16, 3) := dk_161 0 16 (dk_at dksX3_rings_2 2 rfl rfl)
theorem dX3_rings_50 : decode cX3_rings 50 = .ok (.aload_n 0, 1) := dk_42 (dk_at dksX3_rings_2 5 rfl rfl)
theorem dX3_rings_51 : decode cX3_rings 51 = .ok (.bipush 9, 2) := dk_16 9 (dk_at dksX3_rings_2 6 rfl rfl)
theorem dX3_rings_53 : decode cX3_rings 53 = .ok (.aload_n 0, 1) := dk_42 (dk_at dksX3_rings_2 8 rfl rfl)
theorem dX3_rings_54 : decode cX3_rings 54 = .ok (.iload 4, 2) := dk_21 4 (dk_at dksX3_rings_2 9 rfl rfl)
theorem dX3_rings_56 : decode cX3_rings 56 = .ok (.invokevirtual 70, 3) := dk_182 0 70 (dk_at dksX3_rings_2 11 rfl rfl)
theorem dX3_rings_59 : decode cX3_rings 59 = .ok (.invokevirtual 67, 3) := dk_182 0 67 (dk_at dksX3_rings_2 14 rfl rfl)
theorem dX3_rings_62 : decode cX3_rings 62 = .ok (.ireturn, 1) := dk_172 (dk_at dksX3_rings_2 17 rfl rfl)
theorem dX3_rings_63 : decode cX3_rings 63 = .ok (.aload_n 0, 1) := dk_42 (dk_at dksX3_rings_2 18 rfl rfl)
theorem dX3_rings_64 : decode cX3_rings 64 = .ok (.invokevirtual 113, 3) := dk_182 0 113 (dk_at dksX3_rings_2 19 rfl rfl)
theorem dX3_rings_67 : decode cX3_rings 67 = .ok (.iconst 5, 1) := dk_8 (dk_at dksX3_rings_2 22 rfl rfl)
theorem dX3_rings_68 : decode cX3_rings 68 = .ok (.if_icmp .ge 13, 3) := dk_162 0 13 (dk_at dksX3_rings_3 0 rfl rfl)
theorem dX3_rings_71 : decode cX3_rings 71 = .ok (.aload_n 0, 1) := dk_42 (dk_at dksX3_rings_3 3 rfl rfl)
theorem dX3_rings_72 : decode cX3_rings 72 = .ok (.iconst 3, 1) := dk_6 (dk_at dksX3_rings_3 4 rfl rfl)
theorem dX3_rings_73 : decode cX3_rings 73 = .ok (.aload_n 0, 1) := dk_42 (dk_at dksX3_rings_3 5 rfl rfl)
theorem dX3_rings_74 : decode cX3_rings 74 = .ok (.invokevirtual 113, 3) := dk_182 0 113 (dk_at dksX3_rings_3 6 rfl rfl)
theorem dX3_rings_77 : decode cX3_rings 77 = .ok (.invokevirtual 67, 3) := dk_182 0 67 (dk_at dksX3_rings_3 9 rfl rfl)
theorem dX3_rings_80 : decode cX3_rings 80 = .ok (.ireturn, 1) := dk_172 (dk_at dksX3_rings_3 12 rfl rfl)
theorem dX3_rings_81 : decode cX3_rings 81 = .ok (.aload_n 0, 1) := dk_42 (dk_at dksX3_rings_3 13 rfl rfl)
theorem dX3_rings_82 : decode cX3_rings 82 = .ok (.iload_n 1, 1) := dk_27 (dk_at dksX3_rings_3 14 rfl rfl)
theorem dX3_rings_83 : decode cX3_rings 83 = .ok (.iconst 3, 1) := dk_6 (dk_at dksX3_rings_3 15 rfl rfl)
theorem dX3_rings_84 : decode cX3_rings 84 = .ok (.iload_n 2, 1) := dk_28 (dk_at dksX3_rings_3 16 rfl rfl)
theorem dX3_rings_85 : decode cX3_rings 85 = .ok (.iadd, 1) := dk_96 (dk_at dksX3_rings_3 17 rfl rfl)
theorem dX3_rings_86 : decode cX3_rings 86 = .ok (.invokevirtual 90, 3) := dk_182 0 90 (dk_at dksX3_rings_3 18 rfl rfl)
theorem dX3_rings_89 : decode cX3_rings 89 = .ok (.ifCond .ne 11, 3) := dk_154 0 11 (dk_at dksX3_rings_3 21 rfl rfl)
theorem dX3_rings_92 : decode cX3_rings 92 = .ok (.aload_n 0, 1) := dk_42 (dk_at dksX3_rings_4 0 rfl rfl)
theorem dX3_rings_93 : decode cX3_rings 93 = .ok (.bipush 7, 2) := dk_16 7 (dk_at dksX3_rings_4 1 rfl rfl)
theorem dX3_rings_95 : decode cX3_rings 95 = .ok (.iconst 0, 1) := dk_3 (dk_at dksX3_rings_4 3 rfl rfl)
theorem dX3_rings_96 : decode cX3_rings 96 = .ok (.invokevirtual 67, 3) := dk_182 0 67 (dk_at dksX3_rings_4 4 rfl rfl)
theorem dX3_rings_99 : decode cX3_rings 99 = .ok (.ireturn, 1) := dk_172 (dk_at dksX3_rings_4 7 rfl rfl)
theorem dX3_rings_100 : decode cX3_rings 100 = .ok (.aload_n 0, 1) := dk_42 (dk_at dksX3_rings_4 8 rfl rfl)
theorem dX3_rings_101 : decode cX3_rings 101 = .ok (.getfield 9, 3) := dk_180 0 9 (dk_at dksX3_rings_4 9 rfl rfl)
theorem dX3_rings_104 : decode cX3_rings 104 = .ok (.iconst 3, 1) := dk_6 (dk_at dksX3_rings_4 12 rfl rfl)
theorem dX3_rings_105 : decode cX3_rings 105 = .ok (.iaload, 1) := dk_46 (dk_at dksX3_rings_4 13 rfl rfl)
theorem dX3_rings_106 : decode cX3_rings 106 = .ok (.bipush 40, 2) := dk_16 40 (dk_at dksX3_rings_4 14 rfl rfl)
theorem dX3_rings_108 : decode cX3_rings 108 = .ok (.if_icmp .ne 11, 3) := dk_160 0 11 (dk_at dksX3_rings_4 16 rfl rfl)
theorem dX3_rings_111 : decode cX3_rings 111 = .ok (.aload_n 0, 1) := dk_42 (dk_at dksX3_rings_4 19 rfl rfl)
theorem dX3_rings_112 : decode cX3_rings 112 = .ok (.iconst 1, 1) := dk_4 (dk_at dksX3_rings_4 20 rfl rfl)
theorem dX3_rings_113 : decode cX3_rings 113 = .ok (.bipush 40, 2) := dk_16 40 (dk_at dksX3_rings_4 21 rfl rfl)
theorem dX3_rings_115 : decode cX3_rings 115 = .ok (.invokevirtual 67, 3) := dk_182 0 67 (dk_at dksX3_rings_5 0 rfl rfl)
theorem dX3_rings_118 : decode cX3_rings 118 = .ok (.ireturn, 1) := dk_172 (dk_at dksX3_rings_5 3 rfl rfl)
theorem dX3_rings_119 : decode cX3_rings 119 = .ok (.aload_n 0, 1) := dk_42 (dk_at dksX3_rings_5 4 rfl rfl)
theorem dX3_rings_120 : decode cX3_rings 120 = .ok (.getfield 9, 3) := dk_180 0 9 (dk_at dksX3_rings_5 5 rfl rfl)
theorem dX3_rings_123 : decode cX3_rings 123 = .ok (.iconst 1, 1) := dk_4 (dk_at dksX3_rings_5 8 rfl rfl)
theorem dX3_rings_124 : decode cX3_rings 124 = .ok (.dup2, 1) := dk_92 (dk_at dksX3_rings_5 9 rfl rfl)
theorem dX3_rings_125 : decode cX3_rings 125 = .ok (.iaload, 1) := dk_46 (dk_at dksX3_rings_5 10 rfl rfl)
theorem dX3_rings_126 : decode cX3_rings 126 = .ok (.iconst 5, 1) := dk_8 (dk_at dksX3_rings_5 11 rfl rfl)
theorem dX3_rings_127 : decode cX3_rings 127 = .ok (.iadd, 1) := dk_96 (dk_at dksX3_rings_5 12 rfl rfl)
theorem dX3_rings_128 : decode cX3_rings 128 = .ok (.iastore, 1) := dk_79 (dk_at dksX3_rings_5 13 rfl rfl)
theorem dX3_rings_129 : decode cX3_rings 129 = .ok (.aload_n 0, 1) := dk_42 (dk_at dksX3_rings_5 14 rfl rfl)
theorem dX3_rings_130 : decode cX3_rings 130 = .ok (.getfield 9, 3) := dk_180 0 9 (dk_at dksX3_rings_5 15 rfl rfl)
theorem dX3_rings_133 : decode cX3_rings 133 = .ok (.bipush 12, 2) := dk_16 12 (dk_at dksX3_rings_5 18 rfl rfl)
theorem dX3_rings_135 : decode cX3_rings 135 = .ok (.dup2, 1) := dk_92 (dk_at dksX3_rings_5 20 rfl rfl)
theorem dX3_rings_136 : decode cX3_rings 136 = .ok (.iaload, 1) := dk_46 (dk_at dksX3_rings_5 21 rfl rfl)
theorem dX3_rings_137 : decode cX3_rings 137 = .ok (.iconst 1, 1) := dk_4 (dk_at dksX3_rings_5 22 rfl rfl)
theorem dX3_rings_138 : decode cX3_rings 138 = .ok (.iadd, 1) := dk_96 (dk_at dksX3_rings_5 23 rfl rfl)
theorem dX3_rings_139 : decode cX3_rings 139 = .ok (.iastore, 1) := dk_79 (dk_at dksX3_rings_6 0 rfl rfl)
theorem dX3_rings_140 : decode cX3_rings 140 = .ok (.aload_n 0, 1) := dk_42 (dk_at dksX3_rings_6 1 rfl rfl)
theorem dX3_rings_141 : decode cX3_rings 141 = .ok (.iload_n 1, 1) := dk_27 (dk_at dksX3_rings_6 2 rfl rfl)
theorem dX3_rings_142 : decode cX3_rings 142 = .ok (.iload 4, 2) := dk_21 4 (dk_at dksX3_rings_6 3 rfl rfl)
theorem dX3_rings_144 : decode cX3_rings 144 = .ok (.invokevirtual 128, 3) := dk_182 0 128 (dk_at dksX3_rings_6 5 rfl rfl)
theorem dX3_rings_147 : decode cX3_rings 147 = .ok (.ifCond .ne 16, 3) := dk_154 0 16 (dk_at dksX3_rings_6 8 rfl rfl)
theorem dX3_rings_150 : decode cX3_rings 150 = .ok (.aload_n 0, 1) := dk_42 (dk_at dksX3_rings_6 11 rfl rfl)
theorem dX3_rings_151 : decode cX3_rings 151 = .ok (.iload 4, 2) := dk_21 4 (dk_at dksX3_rings_6 12 rfl rfl)
theorem dX3_rings_153 : decode cX3_rings 153 = .ok (.iconst (-1), 1) := dk_2 (dk_at dksX3_rings_6 14 rfl rfl)
theorem dX3_rings_154 : decode cX3_rings 154 = .ok (.invokevirtual 136, 3) := dk_182 0 136 (dk_at dksX3_rings_6 15 rfl rfl)
theorem dX3_rings_157 : decode cX3_rings 157 = .ok (.aload_n 0, 1) := dk_42 (dk_at dksX3_rings_6 18 rfl rfl)
theorem dX3_rings_158 : decode cX3_rings 158 = .ok (.iconst 0, 1) := dk_3 (dk_at dksX3_rings_6 19 rfl rfl)
theorem dX3_rings_159 : decode cX3_rings 159 = .ok (.invokevirtual 97, 3) := dk_182 0 97 (dk_at dksX3_rings_6 20 rfl rfl)
theorem dX3_rings_162 : decode cX3_rings 162 = .ok (.ireturn, 1) := dk_172 (dk_at dksX3_rings_6 23 rfl rfl)
theorem dX3_rings_163 : decode cX3_rings 163 = .ok (.aload_n 0, 1) := dk_42 (dk_at dksX3_rings_7 0 rfl rfl)
theorem dX3_rings_164 : decode cX3_rings 164 = .ok (.iload_n 1, 1) := dk_27 (dk_at dksX3_rings_7 1 rfl rfl)
theorem dX3_rings_165 : decode cX3_rings 165 = .ok (.iload 4, 2) := dk_21 4 (dk_at dksX3_rings_7 2 rfl rfl)
theorem dX3_rings_167 : decode cX3_rings 167 = .ok (.iload_n 2, 1) := dk_28 (dk_at dksX3_rings_7 4 rfl rfl)
theorem dX3_rings_168 : decode cX3_rings 168 = .ok (.iload_n 3, 1) := dk_29 (dk_at dksX3_rings_7 5 rfl rfl)
theorem dX3_rings_169 : decode cX3_rings 169 = .ok (.invokevirtual 132, 3) := dk_182 0 132 (dk_at dksX3_rings_7 6 rfl rfl)
theorem dX3_rings_172 : decode cX3_rings 172 = .ok (.istore 5, 2) := dk_54 5 (dk_at dksX3_rings_7 9 rfl rfl)
theorem dX3_rings_174 : decode cX3_rings 174 = .ok (.iload 5, 2) := dk_21 5 (dk_at dksX3_rings_7 11 rfl rfl)
theorem dX3_rings_176 : decode cX3_rings 176 = .ok (.ifCond .ne 9, 3) := dk_154 0 9 (dk_at dksX3_rings_7 13 rfl rfl)
theorem dX3_rings_179 : decode cX3_rings 179 = .ok (.aload_n 0, 1) := dk_42 (dk_at dksX3_rings_7 16 rfl rfl)
theorem dX3_rings_180 : decode cX3_rings 180 = .ok (.iconst 0, 1) := dk_3 (dk_at dksX3_rings_7 17 rfl rfl)
theorem dX3_rings_181 : decode cX3_rings 181 = .ok (.invokevirtual 97, 3) := dk_182 0 97 (dk_at dksX3_rings_7 18 rfl rfl)
theorem dX3_rings_184 : decode cX3_rings 184 = .ok (.ireturn, 1) := dk_172 (dk_at dksX3_rings_7 21 rfl rfl)
theorem dX3_rings_185 : decode cX3_rings 185 = .ok (.aload_n 0, 1) := dk_42 (dk_at dksX3_rings_7 22 rfl rfl)
theorem dX3_rings_186 : decode cX3_rings 186 = .ok (.iload 4, 2) := dk_21 4 (dk_at dksX3_rings_8 0 rfl rfl)
theorem dX3_rings_188 : decode cX3_rings 188 = .ok (.iconst 1, 1) := dk_4 (dk_at dksX3_rings_8 2 rfl rfl)
theorem dX3_rings_189 : decode cX3_rings 189 = .ok (.invokevirtual 136, 3) := dk_182 0 136 (dk_at dksX3_rings_8 3 rfl rfl)
theorem dX3_rings_192 : decode cX3_rings 192 = .ok (.sipush 133, 3) := dk_17 0 133 (dk_at dksX3_rings_8 6 rfl rfl)
theorem dX3_rings_195 : decode cX3_rings 195 = .ok (.bipush 7, 2) := dk_16 7 (dk_at dksX3_rings_8 9 rfl rfl)
theorem dX3_rings_197 : decode cX3_rings 197 = .ok (.aload_n 0, 1) := dk_42 (dk_at dksX3_rings_8 11 rfl rfl)
theorem dX3_rings_198 : decode cX3_rings 198 = .ok (.getfield 9, 3) := dk_180 0 9 (dk_at dksX3_rings_8 12 rfl rfl)
theorem dX3_rings_201 : decode cX3_rings 201 = .ok (.iconst 3, 1) := dk_6 (dk_at dksX3_rings_8 15 rfl rfl)
theorem dX3_rings_202 : decode cX3_rings 202 = .ok (.dup2, 1) := dk_92 (dk_at dksX3_rings_8 16 rfl rfl)
theorem dX3_rings_203 : decode cX3_rings 203 = .ok (.iaload, 1) := dk_46 (dk_at dksX3_rings_8 17 rfl rfl)
theorem dX3_rings_204 : decode cX3_rings 204 = .ok (.dup_x2, 1) := dk_91 (dk_at dksX3_rings_8 18 rfl rfl)
theorem dX3_rings_205 : decode cX3_rings 205 = .ok (.iconst 1, 1) := dk_4 (dk_at dksX3_rings_8 19 rfl rfl)
theorem dX3_rings_206 : decode cX3_rings 206 = .ok (.iadd, 1) := dk_96 (dk_at dksX3_rings_8 20 rfl rfl)
theorem dX3_rings_207 : decode cX3_rings 207 = .ok (.iastore, 1) := dk_79 (dk_at dksX3_rings_8 21 rfl rfl)
theorem dX3_rings_208 : decode cX3_rings 208 = .ok (.imul, 1) := dk_104 (dk_at dksX3_rings_8 22 rfl rfl)
theorem dX3_rings_209 : decode cX3_rings 209 = .ok (.iadd, 1) := dk_96 (dk_at dksX3_rings_8 23 rfl rfl)
theorem dX3_rings_210 : decode cX3_rings 210 = .ok (.istore 6, 2) := dk_54 6 (dk_at dksX3_rings_9 0 rfl rfl)
theorem dX3_rings_212 : decode cX3_rings 212 = .ok (.aload_n 0, 1) := dk_42 (dk_at dksX3_rings_9 2 rfl rfl)
theorem dX3_rings_213 : decode cX3_rings 213 = .ok (.getfield 9, 3) := dk_180 0 9 (dk_at dksX3_rings_9 3 rfl rfl)
theorem dX3_rings_216 : decode cX3_rings 216 = .ok (.iload 6, 2) := dk_21 6 (dk_at dksX3_rings_9 6 rfl rfl)
theorem dX3_rings_218 : decode cX3_rings 218 = .ok (.iload_n 1, 1) := dk_27 (dk_at dksX3_rings_9 8 rfl rfl)
theorem dX3_rings_219 : decode cX3_rings 219 = .ok (.iastore, 1) := dk_79 (dk_at dksX3_rings_9 9 rfl rfl)
theorem dX3_rings_220 : decode cX3_rings 220 = .ok (.aload_n 0, 1) := dk_42 (dk_at dksX3_rings_9 10 rfl rfl)
theorem dX3_rings_221 : decode cX3_rings 221 = .ok (.getfield 9, 3) := dk_180 0 9 (dk_at dksX3_rings_9 11 rfl rfl)
theorem dX3_rings_224 : decode cX3_rings 224 = .ok (.iload 6, 2) := dk_21 6 (dk_at dksX3_rings_9 14 rfl rfl)
theorem dX3_rings_226 : decode cX3_rings 226 = .ok (.iconst 1, 1) := dk_4 (dk_at dksX3_rings_9 16 rfl rfl)
theorem dX3_rings_227 : decode cX3_rings 227 = .ok (.iadd, 1) := dk_96 (dk_at dksX3_rings_9 17 rfl rfl)
theorem dX3_rings_228 : decode cX3_rings 228 = .ok (.iload 4, 2) := dk_21 4 (dk_at dksX3_rings_9 18 rfl rfl)
theorem dX3_rings_230 : decode cX3_rings 230 = .ok (.iastore, 1) := dk_79 (dk_at dksX3_rings_9 20 rfl rfl)
theorem dX3_rings_231 : decode cX3_rings 231 = .ok (.aload_n 0, 1) := dk_42 (dk_at dksX3_rings_9 21 rfl rfl)
theorem dX3_rings_232 : decode cX3_rings 232 = .ok (.getfield 9, 3) := dk_180 0 9 (dk_at dksX3_rings_10 0 rfl rfl)
theorem dX3_rings_235 : decode cX3_rings 235 = .ok (.iload 6, 2) := dk_21 6 (dk_at dksX3_rings_10 3 rfl rfl)
theorem dX3_rings_237 : decode cX3_rings 237 = .ok (.iconst 2, 1) := dk_5 (dk_at dksX3_rings_10 5 rfl rfl)
theorem dX3_rings_238 : decode cX3_rings 238 = .ok (.iadd, 1) := dk_96 (dk_at dksX3_rings_10 6 rfl rfl)
theorem dX3_rings_239 : decode cX3_rings 239 = .ok (.iload_n 2, 1) := dk_28 (dk_at dksX3_rings_10 7 rfl rfl)
theorem dX3_rings_240 : decode cX3_rings 240 = .ok (.iastore, 1) := dk_79 (dk_at dksX3_rings_10 8 rfl rfl)
theorem dX3_rings_241 : decode cX3_rings 241 = .ok (.aload_n 0, 1) := dk_42 (dk_at dksX3_rings_10 9 rfl rfl)
theorem dX3_rings_242 : decode cX3_rings 242 = .ok (.getfield 9, 3) := dk_180 0 9 (dk_at dksX3_rings_10 10 rfl rfl)
theorem dX3_rings_245 : decode cX3_rings 245 = .ok (.iload 6, 2) := dk_21 6 (dk_at dksX3_rings_10 13 rfl rfl)
theorem dX3_rings_247 : decode cX3_rings 247 = .ok (.iconst 3, 1) := dk_6 (dk_at dksX3_rings_10 15 rfl rfl)
theorem dX3_rings_248 : decode cX3_rings 248 = .ok (.iadd, 1) := dk_96 (dk_at dksX3_rings_10 16 rfl rfl)
theorem dX3_rings_249 : decode cX3_rings 249 = .ok (.iload 5, 2) := dk_21 5 (dk_at dksX3_rings_10 17 rfl rfl)
theorem dX3_rings_251 : decode cX3_rings 251 = .ok (.iastore, 1) := dk_79 (dk_at dksX3_rings_10 19 rfl rfl)
theorem dX3_rings_252 : decode cX3_rings 252 = .ok (.aload_n 0, 1) := dk_42 (dk_at dksX3_rings_10 20 rfl rfl)
theorem dX3_rings_253 : decode cX3_rings 253 = .ok (.getfield 9, 3) := dk_180 0 9 (dk_at dksX3_rings_10 21 rfl rfl)
theorem dX3_rings_256 : decode cX3_rings 256 = .ok (.iload 6, 2) := dk_21 6 (dk_at dksX3_rings_11 0 rfl rfl)
theorem dX3_rings_258 : decode cX3_rings 258 = .ok (.iconst 4, 1) := dk_7 (dk_at dksX3_rings_11 2 rfl rfl)
theorem dX3_rings_259 : decode cX3_rings 259 = .ok (.iadd, 1) := dk_96 (dk_at dksX3_rings_11 3 rfl rfl)
theorem dX3_rings_260 : decode cX3_rings 260 = .ok (.iload_n 3, 1) := dk_29 (dk_at dksX3_rings_11 4 rfl rfl)
theorem dX3_rings_261 : decode cX3_rings 261 = .ok (.iastore, 1) := dk_79 (dk_at dksX3_rings_11 5 rfl rfl)
theorem dX3_rings_262 : decode cX3_rings 262 = .ok (.aload_n 0, 1) := dk_42 (dk_at dksX3_rings_11 6 rfl rfl)
theorem dX3_rings_263 : decode cX3_rings 263 = .ok (.getfield 9, 3) := dk_180 0 9 (dk_at dksX3_rings_11 7 rfl rfl)
theorem dX3_rings_266 : decode cX3_rings 266 = .ok (.iload 6, 2) := dk_21 6 (dk_at dksX3_rings_11 10 rfl rfl)
theorem dX3_rings_268 : decode cX3_rings 268 = .ok (.iconst 5, 1) := dk_8 (dk_at dksX3_rings_11 12 rfl rfl)
theorem dX3_rings_269 : decode cX3_rings 269 = .ok (.iadd, 1) := dk_96 (dk_at dksX3_rings_11 13 rfl rfl)
theorem dX3_rings_270 : decode cX3_rings 270 = .ok (.aload_n 0, 1) := dk_42 (dk_at dksX3_rings_11 14 rfl rfl)
theorem dX3_rings_271 : decode cX3_rings 271 = .ok (.getfield 9, 3) := dk_180 0 9 (dk_at dksX3_rings_11 15 rfl rfl)
theorem dX3_rings_274 : decode cX3_rings 274 = .ok (.iconst 0, 1) := dk_3 (dk_at dksX3_rings_11 18 rfl rfl)
theorem dX3_rings_275 : decode cX3_rings 275 = .ok (.iaload, 1) := dk_46 (dk_at dksX3_rings_11 19 rfl rfl)
theorem dX3_rings_276 : decode cX3_rings 276 = .ok (.iastore, 1) := dk_79 (dk_at dksX3_rings_11 20 rfl rfl)
theorem dX3_rings_277 : decode cX3_rings 277 = .ok (.aload_n 0, 1) := dk_42 (dk_at dksX3_rings_11 21 rfl rfl)
theorem dX3_rings_278 : decode cX3_rings 278 = .ok (.getfield 9, 3) := dk_180 0 9 (dk_at dksX3_rings_12 0 rfl rfl)
theorem dX3_rings_281 : decode cX3_rings 281 = .ok (.iload 6, 2) := dk_21 6 (dk_at dksX3_rings_12 3 rfl rfl)
theorem dX3_rings_283 : decode cX3_rings 283 = .ok (.bipush 6, 2) := dk_16 6 (dk_at dksX3_rings_12 5 rfl rfl)
theorem dX3_rings_285 : decode cX3_rings 285 = .ok (.iadd, 1) := dk_96 (dk_at dksX3_rings_12 7 rfl rfl)
theorem dX3_rings_286 : decode cX3_rings 286 = .ok (.iconst 0, 1) := dk_3 (dk_at dksX3_rings_12 8 rfl rfl)
theorem dX3_rings_287 : decode cX3_rings 287 = .ok (.iastore, 1) := dk_79 (dk_at dksX3_rings_12 9 rfl rfl)
theorem dX3_rings_288 : decode cX3_rings 288 = .ok (.aload_n 0, 1) := dk_42 (dk_at dksX3_rings_12 10 rfl rfl)
theorem dX3_rings_289 : decode cX3_rings 289 = .ok (.iload_n 1, 1) := dk_27 (dk_at dksX3_rings_12 11 rfl rfl)
theorem dX3_rings_290 : decode cX3_rings 290 = .ok (.iconst 3, 1) := dk_6 (dk_at dksX3_rings_12 12 rfl rfl)
theorem dX3_rings_291 : decode cX3_rings 291 = .ok (.iload_n 2, 1) := dk_28 (dk_at dksX3_rings_12 13 rfl rfl)
theorem dX3_rings_292 : decode cX3_rings 292 = .ok (.iadd, 1) := dk_96 (dk_at dksX3_rings_12 14 rfl rfl)
theorem dX3_rings_293 : decode cX3_rings 293 = .ok (.iload 5, 2) := dk_21 5 (dk_at dksX3_rings_12 15 rfl rfl)
theorem dX3_rings_295 : decode cX3_rings 295 = .ok (.ineg, 1) := dk_116 (dk_at dksX3_rings_12 17 rfl rfl)
theorem dX3_rings_296 : decode cX3_rings 296 = .ok (.invokevirtual 93, 3) := dk_182 0 93 (dk_at dksX3_rings_12 18 rfl rfl)
theorem dX3_rings_299 : decode cX3_rings 299 = .ok (.aload_n 0, 1) := dk_42 (dk_at dksX3_rings_12 21 rfl rfl)
theorem dX3_rings_300 : decode cX3_rings 300 = .ok (.iload_n 1, 1) := dk_27 (dk_at dksX3_rings_12 22 rfl rfl)
theorem dX3_rings_301 : decode cX3_rings 301 = .ok (.bipush 6, 2) := dk_16 6 (dk_at dksX3_rings_13 0 rfl rfl)
theorem dX3_rings_303 : decode cX3_rings 303 = .ok (.iload 5, 2) := dk_21 5 (dk_at dksX3_rings_13 2 rfl rfl)
theorem dX3_rings_305 : decode cX3_rings 305 = .ok (.invokevirtual 93, 3) := dk_182 0 93 (dk_at dksX3_rings_13 4 rfl rfl)
theorem dX3_rings_308 : decode cX3_rings 308 = .ok (.aload_n 0, 1) := dk_42 (dk_at dksX3_rings_13 7 rfl rfl)
theorem dX3_rings_309 : decode cX3_rings 309 = .ok (.getfield 9, 3) := dk_180 0 9 (dk_at dksX3_rings_13 8 rfl rfl)
theorem dX3_rings_312 : decode cX3_rings 312 = .ok (.bipush 53, 2) := dk_16 53 (dk_at dksX3_rings_13 11 rfl rfl)
theorem dX3_rings_314 : decode cX3_rings 314 = .ok (.iconst 4, 1) := dk_7 (dk_at dksX3_rings_13 13 rfl rfl)
theorem dX3_rings_315 : decode cX3_rings 315 = .ok (.iload 4, 2) := dk_21 4 (dk_at dksX3_rings_13 14 rfl rfl)
theorem dX3_rings_317 : decode cX3_rings 317 = .ok (.imul, 1) := dk_104 (dk_at dksX3_rings_13 16 rfl rfl)
theorem dX3_rings_318 : decode cX3_rings 318 = .ok (.iadd, 1) := dk_96 (dk_at dksX3_rings_13 17 rfl rfl)
theorem dX3_rings_319 : decode cX3_rings 319 = .ok (.iconst 2, 1) := dk_5 (dk_at dksX3_rings_13 18 rfl rfl)
theorem dX3_rings_320 : decode cX3_rings 320 = .ok (.iadd, 1) := dk_96 (dk_at dksX3_rings_13 19 rfl rfl)
theorem dX3_rings_321 : decode cX3_rings 321 = .ok (.dup2, 1) := dk_92 (dk_at dksX3_rings_13 20 rfl rfl)
theorem dX3_rings_322 : decode cX3_rings 322 = .ok (.iaload, 1) := dk_46 (dk_at dksX3_rings_13 21 rfl rfl)
theorem dX3_rings_323 : decode cX3_rings 323 = .ok (.iload 5, 2) := dk_21 5 (dk_at dksX3_rings_13 22 rfl rfl)
theorem dX3_rings_325 : decode cX3_rings 325 = .ok (.iadd, 1) := dk_96 (dk_at dksX3_rings_14 0 rfl rfl)
theorem dX3_rings_326 : decode cX3_rings 326 = .ok (.iastore, 1) := dk_79 (dk_at dksX3_rings_14 1 rfl rfl)
theorem dX3_rings_327 : decode cX3_rings 327 = .ok (.aload_n 0, 1) := dk_42 (dk_at dksX3_rings_14 2 rfl rfl)
theorem dX3_rings_328 : decode cX3_rings 328 = .ok (.getfield 9, 3) := dk_180 0 9 (dk_at dksX3_rings_14 3 rfl rfl)
theorem dX3_rings_331 : decode cX3_rings 331 = .ok (.bipush 53, 2) := dk_16 53 (dk_at dksX3_rings_14 6 rfl rfl)
theorem dX3_rings_333 : decode cX3_rings 333 = .ok (.iconst 4, 1) := dk_7 (dk_at dksX3_rings_14 8 rfl rfl)
theorem dX3_rings_334 : decode cX3_rings 334 = .ok (.iload 4, 2) := dk_21 4 (dk_at dksX3_rings_14 9 rfl rfl)
theorem dX3_rings_336 : decode cX3_rings 336 = .ok (.imul, 1) := dk_104 (dk_at dksX3_rings_14 11 rfl rfl)
theorem dX3_rings_337 : decode cX3_rings 337 = .ok (.iadd, 1) := dk_96 (dk_at dksX3_rings_14 12 rfl rfl)
theorem dX3_rings_338 : decode cX3_rings 338 = .ok (.iconst 3, 1) := dk_6 (dk_at dksX3_rings_14 13 rfl rfl)
theorem dX3_rings_339 : decode cX3_rings 339 = .ok (.iadd, 1) := dk_96 (dk_at dksX3_rings_14 14 rfl rfl)
theorem dX3_rings_340 : decode cX3_rings 340 = .ok (.dup2, 1) := dk_92 (dk_at dksX3_rings_14 15 rfl rfl)
theorem dX3_rings_341 : decode cX3_rings 341 = .ok (.iaload, 1) := dk_46 (dk_at dksX3_rings_14 16 rfl rfl)
theorem dX3_rings_342 : decode cX3_rings 342 = .ok (.iconst 1, 1) := dk_4 (dk_at dksX3_rings_14 17 rfl rfl)
theorem dX3_rings_343 : decode cX3_rings 343 = .ok (.iload_n 2, 1) := dk_28 (dk_at dksX3_rings_14 18 rfl rfl)
theorem dX3_rings_344 : decode cX3_rings 344 = .ok (.ishl, 1) := dk_120 (dk_at dksX3_rings_14 19 rfl rfl)
theorem dX3_rings_345 : decode cX3_rings 345 = .ok (.ior, 1) := dk_128 (dk_at dksX3_rings_14 20 rfl rfl)
theorem dX3_rings_346 : decode cX3_rings 346 = .ok (.iastore, 1) := dk_79 (dk_at dksX3_rings_14 21 rfl rfl)
theorem dX3_rings_347 : decode cX3_rings 347 = .ok (.aload_n 0, 1) := dk_42 (dk_at dksX3_rings_14 22 rfl rfl)
theorem dX3_rings_348 : decode cX3_rings 348 = .ok (.getfield 9, 3) := dk_180 0 9 (dk_at dksX3_rings_15 0 rfl rfl)
theorem dX3_rings_351 : decode cX3_rings 351 = .ok (.bipush 6, 2) := dk_16 6 (dk_at dksX3_rings_15 3 rfl rfl)
theorem dX3_rings_353 : decode cX3_rings 353 = .ok (.dup2, 1) := dk_92 (dk_at dksX3_rings_15 5 rfl rfl)
theorem dX3_rings_354 : decode cX3_rings 354 = .ok (.iaload, 1) := dk_46 (dk_at dksX3_rings_15 6 rfl rfl)
theorem dX3_rings_355 : decode cX3_rings 355 = .ok (.iload 5, 2) := dk_21 5 (dk_at dksX3_rings_15 7 rfl rfl)
theorem dX3_rings_357 : decode cX3_rings 357 = .ok (.iadd, 1) := dk_96 (dk_at dksX3_rings_15 9 rfl rfl)
theorem dX3_rings_358 : decode cX3_rings 358 = .ok (.iastore, 1) := dk_79 (dk_at dksX3_rings_15 10 rfl rfl)
theorem dX3_rings_359 : decode cX3_rings 359 = .ok (.aload_n 0, 1) := dk_42 (dk_at dksX3_rings_15 11 rfl rfl)
theorem dX3_rings_360 : decode cX3_rings 360 = .ok (.getfield 9, 3) := dk_180 0 9 (dk_at dksX3_rings_15 12 rfl rfl)
theorem dX3_rings_363 : decode cX3_rings 363 = .ok (.iconst 4, 1) := dk_7 (dk_at dksX3_rings_15 15 rfl rfl)
theorem dX3_rings_364 : decode cX3_rings 364 = .ok (.dup2, 1) := dk_92 (dk_at dksX3_rings_15 16 rfl rfl)
theorem dX3_rings_365 : decode cX3_rings 365 = .ok (.iaload, 1) := dk_46 (dk_at dksX3_rings_15 17 rfl rfl)
theorem dX3_rings_366 : decode cX3_rings 366 = .ok (.iload 5, 2) := dk_21 5 (dk_at dksX3_rings_15 18 rfl rfl)
theorem dX3_rings_368 : decode cX3_rings 368 = .ok (.iload_n 3, 1) := dk_29 (dk_at dksX3_rings_15 20 rfl rfl)
theorem dX3_rings_369 : decode cX3_rings 369 = .ok (.imul, 1) := dk_104 (dk_at dksX3_rings_15 21 rfl rfl)
theorem dX3_rings_370 : decode cX3_rings 370 = .ok (.iadd, 1) := dk_96 (dk_at dksX3_rings_15 22 rfl rfl)
theorem dX3_rings_371 : decode cX3_rings 371 = .ok (.iastore, 1) := dk_79 (dk_at dksX3_rings_15 23 rfl rfl)
theorem dX3_rings_372 : decode cX3_rings 372 = .ok (.aload_n 0, 1) := dk_42 (dk_at dksX3_rings_16 0 rfl rfl)
theorem dX3_rings_373 : decode cX3_rings 373 = .ok (.getfield 9, 3) := dk_180 0 9 (dk_at dksX3_rings_16 1 rfl rfl)
theorem dX3_rings_376 : decode cX3_rings 376 = .ok (.bipush 9, 2) := dk_16 9 (dk_at dksX3_rings_16 4 rfl rfl)
theorem dX3_rings_378 : decode cX3_rings 378 = .ok (.dup2, 1) := dk_92 (dk_at dksX3_rings_16 6 rfl rfl)
theorem dX3_rings_379 : decode cX3_rings 379 = .ok (.iaload, 1) := dk_46 (dk_at dksX3_rings_16 7 rfl rfl)
theorem dX3_rings_380 : decode cX3_rings 380 = .ok (.iload 5, 2) := dk_21 5 (dk_at dksX3_rings_16 8 rfl rfl)
theorem dX3_rings_382 : decode cX3_rings 382 = .ok (.iload_n 3, 1) := dk_29 (dk_at dksX3_rings_16 10 rfl rfl)
theorem dX3_rings_383 : decode cX3_rings 383 = .ok (.imul, 1) := dk_104 (dk_at dksX3_rings_16 11 rfl rfl)
theorem dX3_rings_384 : decode cX3_rings 384 = .ok (.iadd, 1) := dk_96 (dk_at dksX3_rings_16 12 rfl rfl)
theorem dX3_rings_385 : decode cX3_rings 385 = .ok (.iastore, 1) := dk_79 (dk_at dksX3_rings_16 13 rfl rfl)
theorem dX3_rings_386 : decode cX3_rings 386 = .ok (.aload_n 0, 1) := dk_42 (dk_at dksX3_rings_16 14 rfl rfl)
theorem dX3_rings_387 : decode cX3_rings 387 = .ok (.iload 5, 2) := dk_21 5 (dk_at dksX3_rings_16 15 rfl rfl)
theorem dX3_rings_389 : decode cX3_rings 389 = .ok (.invokevirtual 97, 3) := dk_182 0 97 (dk_at dksX3_rings_16 17 rfl rfl)
theorem dX3_rings_392 : decode cX3_rings 392 = .ok (.ireturn, 1) := dk_172 (dk_at dksX3_rings_16 20 rfl rfl)
abbrev cX3_calms : ByteArray := prog_12_method_15_code
def yX3_calms : MethodName := ⟨RX3, "calms", "(II)V"⟩
def dkwX3_calms_1 : List UInt8 := [184, 0, 61, 79, 177]
abbrev dktX3_calms_1 : List UInt8 := dkwX3_calms_1 ++ []
def dkwX3_calms_0 : List UInt8 := [42, 180, 0, 9, 16, 53, 7, 27, 104, 96, 3, 16, 9, 42, 27, 182, 0, 52, 28, 96, 184, 0, 55]
abbrev dktX3_calms_0 : List UInt8 := dkwX3_calms_0 ++ dktX3_calms_1
theorem dksX3_calms_0 : cX3_calms.data.toList.drop 0 = dktX3_calms_0 := by decide +kernel
theorem dksX3_calms_1 : cX3_calms.data.toList.drop 23 = dktX3_calms_1 := dk_seg dksX3_calms_0 23 rfl rfl
theorem dX3_calms_0 : decode cX3_calms 0 = .ok (.aload_n 0, 1) := dk_42 (dk_at dksX3_calms_0 0 rfl rfl)
theorem dX3_calms_1 : decode cX3_calms 1 = .ok (.getfield 9, 3) := dk_180 0 9 (dk_at dksX3_calms_0 1 rfl rfl)
theorem dX3_calms_4 : decode cX3_calms 4 = .ok (.bipush 53, 2) := dk_16 53 (dk_at dksX3_calms_0 4 rfl rfl)
theorem dX3_calms_6 : decode cX3_calms 6 = .ok (.iconst 4, 1) := dk_7 (dk_at dksX3_calms_0 6 rfl rfl)
theorem dX3_calms_7 : decode cX3_calms 7 = .ok (.iload_n 1, 1) := dk_27 (dk_at dksX3_calms_0 7 rfl rfl)
theorem dX3_calms_8 : decode cX3_calms 8 = .ok (.imul, 1) := dk_104 (dk_at dksX3_calms_0 8 rfl rfl)
theorem dX3_calms_9 : decode cX3_calms 9 = .ok (.iadd, 1) := dk_96 (dk_at dksX3_calms_0 9 rfl rfl)
theorem dX3_calms_10 : decode cX3_calms 10 = .ok (.iconst 0, 1) := dk_3 (dk_at dksX3_calms_0 10 rfl rfl)
theorem dX3_calms_11 : decode cX3_calms 11 = .ok (.bipush 9, 2) := dk_16 9 (dk_at dksX3_calms_0 11 rfl rfl)
theorem dX3_calms_13 : decode cX3_calms 13 = .ok (.aload_n 0, 1) := dk_42 (dk_at dksX3_calms_0 13 rfl rfl)
theorem dX3_calms_14 : decode cX3_calms 14 = .ok (.iload_n 1, 1) := dk_27 (dk_at dksX3_calms_0 14 rfl rfl)
theorem dX3_calms_15 : decode cX3_calms 15 = .ok (.invokevirtual 52, 3) := dk_182 0 52 (dk_at dksX3_calms_0 15 rfl rfl)
theorem dX3_calms_18 : decode cX3_calms 18 = .ok (.iload_n 2, 1) := dk_28 (dk_at dksX3_calms_0 18 rfl rfl)
theorem dX3_calms_19 : decode cX3_calms 19 = .ok (.iadd, 1) := dk_96 (dk_at dksX3_calms_0 19 rfl rfl)
theorem dX3_calms_20 : decode cX3_calms 20 = .ok (.invokestatic 55, 3) := dk_184 0 55 (dk_at dksX3_calms_0 20 rfl rfl)
theorem dX3_calms_23 : decode cX3_calms 23 = .ok (.invokestatic 61, 3) := dk_184 0 61 (dk_at dksX3_calms_1 0 rfl rfl)
theorem dX3_calms_26 : decode cX3_calms 26 = .ok (.iastore, 1) := dk_79 (dk_at dksX3_calms_1 3 rfl rfl)
theorem dX3_calms_27 : decode cX3_calms 27 = .ok (.return_, 1) := dk_177 (dk_at dksX3_calms_1 4 rfl rfl)
abbrev cX3_back : ByteArray := prog_12_method_44_code
def yX3_back : MethodName := ⟨RX3, "back", "(I)I"⟩
def dkwX3_back_0 : List UInt8 := [42, 182, 0, 64, 42, 42, 27, 182, 0, 143, 182, 0, 104, 172]
abbrev dktX3_back_0 : List UInt8 := dkwX3_back_0 ++ []
theorem dksX3_back_0 : cX3_back.data.toList.drop 0 = dktX3_back_0 := by decide +kernel
theorem dX3_back_0 : decode cX3_back 0 = .ok (.aload_n 0, 1) := dk_42 (dk_at dksX3_back_0 0 rfl rfl)
theorem dX3_back_1 : decode cX3_back 1 = .ok (.invokevirtual 64, 3) := dk_182 0 64 (dk_at dksX3_back_0 1 rfl rfl)
theorem dX3_back_4 : decode cX3_back 4 = .ok (.aload_n 0, 1) := dk_42 (dk_at dksX3_back_0 4 rfl rfl)
theorem dX3_back_5 : decode cX3_back 5 = .ok (.aload_n 0, 1) := dk_42 (dk_at dksX3_back_0 5 rfl rfl)
theorem dX3_back_6 : decode cX3_back 6 = .ok (.iload_n 1, 1) := dk_27 (dk_at dksX3_back_0 6 rfl rfl)
theorem dX3_back_7 : decode cX3_back 7 = .ok (.invokevirtual 143, 3) := dk_182 0 143 (dk_at dksX3_back_0 7 rfl rfl)
theorem dX3_back_10 : decode cX3_back 10 = .ok (.invokevirtual 104, 3) := dk_182 0 104 (dk_at dksX3_back_0 10 rfl rfl)
theorem dX3_back_13 : decode cX3_back 13 = .ok (.ireturn, 1) := dk_172 (dk_at dksX3_back_0 13 rfl rfl)
abbrev cX3_takesBack : ByteArray := prog_12_method_43_code
def yX3_takesBack : MethodName := ⟨RX3, "takesBack", "(I)I"⟩
def dkwX3_takesBack_12 : List UInt8 := [21, 4, 5, 182, 0, 136, 42, 180, 0, 9, 28, 16, 6, 96, 4, 79, 42, 21, 6, 182, 0, 97, 172]
abbrev dktX3_takesBack_12 : List UInt8 := dkwX3_takesBack_12 ++ []
def dkwX3_takesBack_11 : List UInt8 := [180, 0, 9, 7, 92, 46, 21, 6, 100, 79, 42, 180, 0, 9, 16, 10, 92, 46, 21, 6, 96, 79, 42]
abbrev dktX3_takesBack_11 : List UInt8 := dkwX3_takesBack_11 ++ dktX3_takesBack_12
def dkwX3_takesBack_10 : List UInt8 := [16, 7, 92, 46, 21, 5, 96, 79, 42, 180, 0, 9, 16, 8, 92, 46, 21, 5, 21, 7, 100, 96, 79, 42]
abbrev dktX3_takesBack_10 : List UInt8 := dkwX3_takesBack_10 ++ dktX3_takesBack_11
def dkwX3_takesBack_9 : List UInt8 := [28, 5, 96, 46, 96, 21, 7, 182, 0, 93, 42, 29, 16, 7, 21, 5, 182, 0, 93, 42, 180, 0, 9]
abbrev dktX3_takesBack_9 : List UInt8 := dkwX3_takesBack_9 ++ dktX3_takesBack_10
def dkwX3_takesBack_8 : List UInt8 := [180, 0, 9, 28, 5, 96, 46, 96, 182, 0, 90, 100, 184, 0, 55, 54, 7, 42, 29, 6, 42, 180, 0, 9]
abbrev dktX3_takesBack_8 : List UInt8 := dkwX3_takesBack_8 ++ dktX3_takesBack_9
def dkwX3_takesBack_7 : List UInt8 := [16, 8, 21, 6, 42, 180, 0, 9, 7, 46, 100, 182, 0, 67, 172, 21, 5, 16, 12, 42, 29, 6, 42]
abbrev dktX3_takesBack_7 : List UInt8 := dkwX3_takesBack_7 ++ dktX3_takesBack_8
def dkwX3_takesBack_6 : List UInt8 := [180, 0, 9, 28, 8, 96, 46, 100, 182, 0, 67, 172, 42, 180, 0, 9, 7, 46, 21, 6, 162, 0, 19, 42]
abbrev dktX3_takesBack_6 : List UInt8 := dkwX3_takesBack_6 ++ dktX3_takesBack_7
def dkwX3_takesBack_5 : List UInt8 := [180, 0, 9, 28, 8, 96, 46, 100, 16, 7, 164, 0, 25, 42, 16, 13, 42, 180, 0, 9, 3, 46, 42]
abbrev dktX3_takesBack_5 : List UInt8 := dkwX3_takesBack_5 ++ dktX3_takesBack_6
def dkwX3_takesBack_4 : List UInt8 := [182, 0, 90, 21, 4, 159, 0, 12, 42, 16, 12, 21, 4, 182, 0, 67, 172, 42, 180, 0, 9, 3, 46, 42]
abbrev dktX3_takesBack_4 : List UInt8 := dkwX3_takesBack_4 ++ dktX3_takesBack_5
def dkwX3_takesBack_3 : List UInt8 := [180, 0, 9, 28, 16, 6, 96, 46, 4, 160, 0, 11, 42, 16, 11, 27, 182, 0, 67, 172, 42, 29, 4]
abbrev dktX3_takesBack_3 : List UInt8 := dkwX3_takesBack_3 ++ dktX3_takesBack_4
def dkwX3_takesBack_2 : List UInt8 := [180, 0, 9, 28, 6, 96, 46, 54, 5, 21, 5, 42, 180, 0, 9, 28, 7, 96, 46, 104, 54, 6, 42]
abbrev dktX3_takesBack_2 : List UInt8 := dkwX3_takesBack_2 ++ dktX3_takesBack_3
def dkwX3_takesBack_1 : List UInt8 := [27, 104, 96, 61, 42, 180, 0, 9, 28, 46, 62, 42, 180, 0, 9, 28, 4, 96, 46, 54, 4, 42]
abbrev dktX3_takesBack_1 : List UInt8 := dkwX3_takesBack_1 ++ dktX3_takesBack_2
def dkwX3_takesBack_0 : List UInt8 := [27, 3, 42, 180, 0, 9, 6, 46, 4, 100, 184, 0, 48, 154, 0, 6, 16, 245, 172, 17, 0, 133, 16, 7]
abbrev dktX3_takesBack_0 : List UInt8 := dkwX3_takesBack_0 ++ dktX3_takesBack_1
theorem dksX3_takesBack_0 : cX3_takesBack.data.toList.drop 0 = dktX3_takesBack_0 := by decide +kernel
theorem dksX3_takesBack_1 : cX3_takesBack.data.toList.drop 24 = dktX3_takesBack_1 := dk_seg dksX3_takesBack_0 24 rfl rfl
theorem dksX3_takesBack_2 : cX3_takesBack.data.toList.drop 46 = dktX3_takesBack_2 := dk_seg dksX3_takesBack_1 22 rfl rfl
theorem dksX3_takesBack_3 : cX3_takesBack.data.toList.drop 69 = dktX3_takesBack_3 := dk_seg dksX3_takesBack_2 23 rfl rfl
theorem dksX3_takesBack_4 : cX3_takesBack.data.toList.drop 92 = dktX3_takesBack_4 := dk_seg dksX3_takesBack_3 23 rfl rfl
theorem dksX3_takesBack_5 : cX3_takesBack.data.toList.drop 116 = dktX3_takesBack_5 := dk_seg dksX3_takesBack_4 24 rfl rfl
theorem dksX3_takesBack_6 : cX3_takesBack.data.toList.drop 139 = dktX3_takesBack_6 := dk_seg dksX3_takesBack_5 23 rfl rfl
theorem dksX3_takesBack_7 : cX3_takesBack.data.toList.drop 163 = dktX3_takesBack_7 := dk_seg dksX3_takesBack_6 24 rfl rfl
theorem dksX3_takesBack_8 : cX3_takesBack.data.toList.drop 186 = dktX3_takesBack_8 := dk_seg dksX3_takesBack_7 23 rfl rfl
theorem dksX3_takesBack_9 : cX3_takesBack.data.toList.drop 210 = dktX3_takesBack_9 := dk_seg dksX3_takesBack_8 24 rfl rfl
theorem dksX3_takesBack_10 : cX3_takesBack.data.toList.drop 233 = dktX3_takesBack_10 := dk_seg dksX3_takesBack_9 23 rfl rfl
theorem dksX3_takesBack_11 : cX3_takesBack.data.toList.drop 257 = dktX3_takesBack_11 := dk_seg dksX3_takesBack_10 24 rfl rfl
theorem dksX3_takesBack_12 : cX3_takesBack.data.toList.drop 280 = dktX3_takesBack_12 := dk_seg dksX3_takesBack_11 23 rfl rfl
theorem dX3_takesBack_0 : decode cX3_takesBack 0 = .ok (.iload_n 1, 1) := dk_27 (dk_at dksX3_takesBack_0 0 rfl rfl)
theorem dX3_takesBack_1 : decode cX3_takesBack 1 = .ok (.iconst 0, 1) := dk_3 (dk_at dksX3_takesBack_0 1 rfl rfl)
theorem dX3_takesBack_2 : decode cX3_takesBack 2 = .ok (.aload_n 0, 1) := dk_42 (dk_at dksX3_takesBack_0 2 rfl rfl)
theorem dX3_takesBack_3 : decode cX3_takesBack 3 = .ok (.getfield 9, 3) := dk_180 0 9 (dk_at dksX3_takesBack_0 3 rfl rfl)
theorem dX3_takesBack_6 : decode cX3_takesBack 6 = .ok (.iconst 3, 1) := dk_6 (dk_at dksX3_takesBack_0 6 rfl rfl)
theorem dX3_takesBack_7 : decode cX3_takesBack 7 = .ok (.iaload, 1) := dk_46 (dk_at dksX3_takesBack_0 7 rfl rfl)
theorem dX3_takesBack_8 : decode cX3_takesBack 8 = .ok (.iconst 1, 1) := dk_4 (dk_at dksX3_takesBack_0 8 rfl rfl)
theorem dX3_takesBack_9 : decode cX3_takesBack 9 = .ok (.isub, 1) := dk_100 (dk_at dksX3_takesBack_0 9 rfl rfl)
theorem dX3_takesBack_10 : decode cX3_takesBack 10 = .ok (.invokestatic 48, 3) := dk_184 0 48 (dk_at dksX3_takesBack_0 10 rfl rfl)
theorem dX3_takesBack_13 : decode cX3_takesBack 13 = .ok (.ifCond .ne 6, 3) := dk_154 0 6 (dk_at dksX3_takesBack_0 13 rfl rfl)
theorem dX3_takesBack_16 : decode cX3_takesBack 16 = .ok (.bipush (-11), 2) := dk_16 245 (dk_at dksX3_takesBack_0 16 rfl rfl)
theorem dX3_takesBack_18 : decode cX3_takesBack 18 = .ok (.ireturn, 1) := dk_172 (dk_at dksX3_takesBack_0 18 rfl rfl)
theorem dX3_takesBack_19 : decode cX3_takesBack 19 = .ok (.sipush 133, 3) := dk_17 0 133 (dk_at dksX3_takesBack_0 19 rfl rfl)
theorem dX3_takesBack_22 : decode cX3_takesBack 22 = .ok (.bipush 7, 2) := dk_16 7 (dk_at dksX3_takesBack_0 22 rfl rfl)
theorem dX3_takesBack_24 : decode cX3_takesBack 24 = .ok (.iload_n 1, 1) := dk_27 (dk_at dksX3_takesBack_1 0 rfl rfl)
theorem dX3_takesBack_25 : decode cX3_takesBack 25 = .ok (.imul, 1) := dk_104 (dk_at dksX3_takesBack_1 1 rfl rfl)
theorem dX3_takesBack_26 : decode cX3_takesBack 26 = .ok (.iadd, 1) := dk_96 (dk_at dksX3_takesBack_1 2 rfl rfl)
theorem dX3_takesBack_27 : decode cX3_takesBack 27 = .ok (.istore_n 2, 1) := dk_61 (dk_at dksX3_takesBack_1 3 rfl rfl)
theorem dX3_takesBack_28 : decode cX3_takesBack 28 = .ok (.aload_n 0, 1) := dk_42 (dk_at dksX3_takesBack_1 4 rfl rfl)
theorem dX3_takesBack_29 : decode cX3_takesBack 29 = .ok (.getfield 9, 3) := dk_180 0 9 (dk_at dksX3_takesBack_1 5 rfl rfl)
theorem dX3_takesBack_32 : decode cX3_takesBack 32 = .ok (.iload_n 2, 1) := dk_28 (dk_at dksX3_takesBack_1 8 rfl rfl)
theorem dX3_takesBack_33 : decode cX3_takesBack 33 = .ok (.iaload, 1) := dk_46 (dk_at dksX3_takesBack_1 9 rfl rfl)
theorem dX3_takesBack_34 : decode cX3_takesBack 34 = .ok (.istore_n 3, 1) := dk_62 (dk_at dksX3_takesBack_1 10 rfl rfl)
theorem dX3_takesBack_35 : decode cX3_takesBack 35 = .ok (.aload_n 0, 1) := dk_42 (dk_at dksX3_takesBack_1 11 rfl rfl)
theorem dX3_takesBack_36 : decode cX3_takesBack 36 = .ok (.getfield 9, 3) := dk_180 0 9 (dk_at dksX3_takesBack_1 12 rfl rfl)
theorem dX3_takesBack_39 : decode cX3_takesBack 39 = .ok (.iload_n 2, 1) := dk_28 (dk_at dksX3_takesBack_1 15 rfl rfl)
theorem dX3_takesBack_40 : decode cX3_takesBack 40 = .ok (.iconst 1, 1) := dk_4 (dk_at dksX3_takesBack_1 16 rfl rfl)
theorem dX3_takesBack_41 : decode cX3_takesBack 41 = .ok (.iadd, 1) := dk_96 (dk_at dksX3_takesBack_1 17 rfl rfl)
theorem dX3_takesBack_42 : decode cX3_takesBack 42 = .ok (.iaload, 1) := dk_46 (dk_at dksX3_takesBack_1 18 rfl rfl)
theorem dX3_takesBack_43 : decode cX3_takesBack 43 = .ok (.istore 4, 2) := dk_54 4 (dk_at dksX3_takesBack_1 19 rfl rfl)
theorem dX3_takesBack_45 : decode cX3_takesBack 45 = .ok (.aload_n 0, 1) := dk_42 (dk_at dksX3_takesBack_1 21 rfl rfl)
theorem dX3_takesBack_46 : decode cX3_takesBack 46 = .ok (.getfield 9, 3) := dk_180 0 9 (dk_at dksX3_takesBack_2 0 rfl rfl)
theorem dX3_takesBack_49 : decode cX3_takesBack 49 = .ok (.iload_n 2, 1) := dk_28 (dk_at dksX3_takesBack_2 3 rfl rfl)
theorem dX3_takesBack_50 : decode cX3_takesBack 50 = .ok (.iconst 3, 1) := dk_6 (dk_at dksX3_takesBack_2 4 rfl rfl)
theorem dX3_takesBack_51 : decode cX3_takesBack 51 = .ok (.iadd, 1) := dk_96 (dk_at dksX3_takesBack_2 5 rfl rfl)
theorem dX3_takesBack_52 : decode cX3_takesBack 52 = .ok (.iaload, 1) := dk_46 (dk_at dksX3_takesBack_2 6 rfl rfl)
theorem dX3_takesBack_53 : decode cX3_takesBack 53 = .ok (.istore 5, 2) := dk_54 5 (dk_at dksX3_takesBack_2 7 rfl rfl)
theorem dX3_takesBack_55 : decode cX3_takesBack 55 = .ok (.iload 5, 2) := dk_21 5 (dk_at dksX3_takesBack_2 9 rfl rfl)
theorem dX3_takesBack_57 : decode cX3_takesBack 57 = .ok (.aload_n 0, 1) := dk_42 (dk_at dksX3_takesBack_2 11 rfl rfl)
theorem dX3_takesBack_58 : decode cX3_takesBack 58 = .ok (.getfield 9, 3) := dk_180 0 9 (dk_at dksX3_takesBack_2 12 rfl rfl)
theorem dX3_takesBack_61 : decode cX3_takesBack 61 = .ok (.iload_n 2, 1) := dk_28 (dk_at dksX3_takesBack_2 15 rfl rfl)
theorem dX3_takesBack_62 : decode cX3_takesBack 62 = .ok (.iconst 4, 1) := dk_7 (dk_at dksX3_takesBack_2 16 rfl rfl)
theorem dX3_takesBack_63 : decode cX3_takesBack 63 = .ok (.iadd, 1) := dk_96 (dk_at dksX3_takesBack_2 17 rfl rfl)
theorem dX3_takesBack_64 : decode cX3_takesBack 64 = .ok (.iaload, 1) := dk_46 (dk_at dksX3_takesBack_2 18 rfl rfl)
theorem dX3_takesBack_65 : decode cX3_takesBack 65 = .ok (.imul, 1) := dk_104 (dk_at dksX3_takesBack_2 19 rfl rfl)
theorem dX3_takesBack_66 : decode cX3_takesBack 66 = .ok (.istore 6, 2) := dk_54 6 (dk_at dksX3_takesBack_2 20 rfl rfl)
theorem dX3_takesBack_68 : decode cX3_takesBack 68 = .ok (.aload_n 0, 1) := dk_42 (dk_at dksX3_takesBack_2 22 rfl rfl)
theorem dX3_takesBack_69 : decode cX3_takesBack 69 = .ok (.getfield 9, 3) := dk_180 0 9 (dk_at dksX3_takesBack_3 0 rfl rfl)
theorem dX3_takesBack_72 : decode cX3_takesBack 72 = .ok (.iload_n 2, 1) := dk_28 (dk_at dksX3_takesBack_3 3 rfl rfl)
theorem dX3_takesBack_73 : decode cX3_takesBack 73 = .ok (.bipush 6, 2) := dk_16 6 (dk_at dksX3_takesBack_3 4 rfl rfl)
theorem dX3_takesBack_75 : decode cX3_takesBack 75 = .ok (.iadd, 1) := dk_96 (dk_at dksX3_takesBack_3 6 rfl rfl)
theorem dX3_takesBack_76 : decode cX3_takesBack 76 = .ok (.iaload, 1) := dk_46 (dk_at dksX3_takesBack_3 7 rfl rfl)
theorem dX3_takesBack_77 : decode cX3_takesBack 77 = .ok (.iconst 1, 1) := dk_4 (dk_at dksX3_takesBack_3 8 rfl rfl)
theorem dX3_takesBack_78 : decode cX3_takesBack 78 = .ok (.if_icmp .ne 11, 3) := dk_160 0 11 (dk_at dksX3_takesBack_3 9 rfl rfl)
theorem dX3_takesBack_81 : decode cX3_takesBack 81 = .ok (.aload_n 0, 1) := dk_42 (dk_at dksX3_takesBack_3 12 rfl rfl)
theorem dX3_takesBack_82 : decode cX3_takesBack 82 = .ok (.bipush 11, 2) := dk_16 11 (dk_at dksX3_takesBack_3 13 rfl rfl)
theorem dX3_takesBack_84 : decode cX3_takesBack 84 = .ok (.iload_n 1, 1) := dk_27 (dk_at dksX3_takesBack_3 15 rfl rfl)
theorem dX3_takesBack_85 : decode cX3_takesBack 85 = .ok (.invokevirtual 67, 3) := dk_182 0 67 (dk_at dksX3_takesBack_3 16 rfl rfl)
theorem dX3_takesBack_88 : decode cX3_takesBack 88 = .ok (.ireturn, 1) := dk_172 (dk_at dksX3_takesBack_3 19 rfl rfl)
theorem dX3_takesBack_89 : decode cX3_takesBack 89 = .ok (.aload_n 0, 1) := dk_42 (dk_at dksX3_takesBack_3 20 rfl rfl)
theorem dX3_takesBack_90 : decode cX3_takesBack 90 = .ok (.iload_n 3, 1) := dk_29 (dk_at dksX3_takesBack_3 21 rfl rfl)
theorem dX3_takesBack_91 : decode cX3_takesBack 91 = .ok (.iconst 1, 1) := dk_4 (dk_at dksX3_takesBack_3 22 rfl rfl)
theorem dX3_takesBack_92 : decode cX3_takesBack 92 = .ok (.invokevirtual 90, 3) := dk_182 0 90 (dk_at dksX3_takesBack_4 0 rfl rfl)
theorem dX3_takesBack_95 : decode cX3_takesBack 95 = .ok (.iload 4, 2) := dk_21 4 (dk_at dksX3_takesBack_4 3 rfl rfl)
theorem dX3_takesBack_97 : decode cX3_takesBack 97 = .ok (.if_icmp .eq 12, 3) := dk_159 0 12 (dk_at dksX3_takesBack_4 5 rfl rfl)
theorem dX3_takesBack_100 : decode cX3_takesBack 100 = .ok (.aload_n 0, 1) := dk_42 (dk_at dksX3_takesBack_4 8 rfl rfl)
theorem dX3_takesBack_101 : decode cX3_takesBack 101 = .ok (.bipush 12, 2) := dk_16 12 (dk_at dksX3_takesBack_4 9 rfl rfl)
theorem dX3_takesBack_103 : decode cX3_takesBack 103 = .ok (.iload 4, 2) := dk_21 4 (dk_at dksX3_takesBack_4 11 rfl rfl)
theorem dX3_takesBack_105 : decode cX3_takesBack 105 = .ok (.invokevirtual 67, 3) := dk_182 0 67 (dk_at dksX3_takesBack_4 13 rfl rfl)
theorem dX3_takesBack_108 : decode cX3_takesBack 108 = .ok (.ireturn, 1) := dk_172 (dk_at dksX3_takesBack_4 16 rfl rfl)
theorem dX3_takesBack_109 : decode cX3_takesBack 109 = .ok (.aload_n 0, 1) := dk_42 (dk_at dksX3_takesBack_4 17 rfl rfl)
theorem dX3_takesBack_110 : decode cX3_takesBack 110 = .ok (.getfield 9, 3) := dk_180 0 9 (dk_at dksX3_takesBack_4 18 rfl rfl)
theorem dX3_takesBack_113 : decode cX3_takesBack 113 = .ok (.iconst 0, 1) := dk_3 (dk_at dksX3_takesBack_4 21 rfl rfl)
theorem dX3_takesBack_114 : decode cX3_takesBack 114 = .ok (.iaload, 1) := dk_46 (dk_at dksX3_takesBack_4 22 rfl rfl)
theorem dX3_takesBack_115 : decode cX3_takesBack 115 = .ok (.aload_n 0, 1) := dk_42 (dk_at dksX3_takesBack_4 23 rfl rfl)
theorem dX3_takesBack_116 : decode cX3_takesBack 116 = .ok (.getfield 9, 3) := dk_180 0 9 (dk_at dksX3_takesBack_5 0 rfl rfl)
theorem dX3_takesBack_119 : decode cX3_takesBack 119 = .ok (.iload_n 2, 1) := dk_28 (dk_at dksX3_takesBack_5 3 rfl rfl)
theorem dX3_takesBack_120 : decode cX3_takesBack 120 = .ok (.iconst 5, 1) := dk_8 (dk_at dksX3_takesBack_5 4 rfl rfl)
theorem dX3_takesBack_121 : decode cX3_takesBack 121 = .ok (.iadd, 1) := dk_96 (dk_at dksX3_takesBack_5 5 rfl rfl)
theorem dX3_takesBack_122 : decode cX3_takesBack 122 = .ok (.iaload, 1) := dk_46 (dk_at dksX3_takesBack_5 6 rfl rfl)
theorem dX3_takesBack_123 : decode cX3_takesBack 123 = .ok (.isub, 1) := dk_100 (dk_at dksX3_takesBack_5 7 rfl rfl)
theorem dX3_takesBack_124 : decode cX3_takesBack 124 = .ok (.bipush 7, 2) := dk_16 7 (dk_at dksX3_takesBack_5 8 rfl rfl)
theorem dX3_takesBack_126 : decode cX3_takesBack 126 = .ok (.if_icmp .le 25, 3) := dk_164 0 25 (dk_at dksX3_takesBack_5 10 rfl rfl)
theorem dX3_takesBack_129 : decode cX3_takesBack 129 = .ok (.aload_n 0, 1) := dk_42 (dk_at dksX3_takesBack_5 13 rfl rfl)
theorem dX3_takesBack_130 : decode cX3_takesBack 130 = .ok (.bipush 13, 2) := dk_16 13 (dk_at dksX3_takesBack_5 14 rfl rfl)
theorem dX3_takesBack_132 : decode cX3_takesBack 132 = .ok (.aload_n 0, 1) := dk_42 (dk_at dksX3_takesBack_5 16 rfl rfl)
theorem dX3_takesBack_133 : decode cX3_takesBack 133 = .ok (.getfield 9, 3) := dk_180 0 9 (dk_at dksX3_takesBack_5 17 rfl rfl)
theorem dX3_takesBack_136 : decode cX3_takesBack 136 = .ok (.iconst 0, 1) := dk_3 (dk_at dksX3_takesBack_5 20 rfl rfl)
theorem dX3_takesBack_137 : decode cX3_takesBack 137 = .ok (.iaload, 1) := dk_46 (dk_at dksX3_takesBack_5 21 rfl rfl)
theorem dX3_takesBack_138 : decode cX3_takesBack 138 = .ok (.aload_n 0, 1) := dk_42 (dk_at dksX3_takesBack_5 22 rfl rfl)
theorem dX3_takesBack_139 : decode cX3_takesBack 139 = .ok (.getfield 9, 3) := dk_180 0 9 (dk_at dksX3_takesBack_6 0 rfl rfl)
theorem dX3_takesBack_142 : decode cX3_takesBack 142 = .ok (.iload_n 2, 1) := dk_28 (dk_at dksX3_takesBack_6 3 rfl rfl)
theorem dX3_takesBack_143 : decode cX3_takesBack 143 = .ok (.iconst 5, 1) := dk_8 (dk_at dksX3_takesBack_6 4 rfl rfl)
theorem dX3_takesBack_144 : decode cX3_takesBack 144 = .ok (.iadd, 1) := dk_96 (dk_at dksX3_takesBack_6 5 rfl rfl)
theorem dX3_takesBack_145 : decode cX3_takesBack 145 = .ok (.iaload, 1) := dk_46 (dk_at dksX3_takesBack_6 6 rfl rfl)
theorem dX3_takesBack_146 : decode cX3_takesBack 146 = .ok (.isub, 1) := dk_100 (dk_at dksX3_takesBack_6 7 rfl rfl)
theorem dX3_takesBack_147 : decode cX3_takesBack 147 = .ok (.invokevirtual 67, 3) := dk_182 0 67 (dk_at dksX3_takesBack_6 8 rfl rfl)
theorem dX3_takesBack_150 : decode cX3_takesBack 150 = .ok (.ireturn, 1) := dk_172 (dk_at dksX3_takesBack_6 11 rfl rfl)
theorem dX3_takesBack_151 : decode cX3_takesBack 151 = .ok (.aload_n 0, 1) := dk_42 (dk_at dksX3_takesBack_6 12 rfl rfl)
theorem dX3_takesBack_152 : decode cX3_takesBack 152 = .ok (.getfield 9, 3) := dk_180 0 9 (dk_at dksX3_takesBack_6 13 rfl rfl)
theorem dX3_takesBack_155 : decode cX3_takesBack 155 = .ok (.iconst 4, 1) := dk_7 (dk_at dksX3_takesBack_6 16 rfl rfl)
theorem dX3_takesBack_156 : decode cX3_takesBack 156 = .ok (.iaload, 1) := dk_46 (dk_at dksX3_takesBack_6 17 rfl rfl)
theorem dX3_takesBack_157 : decode cX3_takesBack 157 = .ok (.iload 6, 2) := dk_21 6 (dk_at dksX3_takesBack_6 18 rfl rfl)
theorem dX3_takesBack_159 : decode cX3_takesBack 159 = .ok (.if_icmp .ge 19, 3) := dk_162 0 19 (dk_at dksX3_takesBack_6 20 rfl rfl)
theorem dX3_takesBack_162 : decode cX3_takesBack 162 = .ok (.aload_n 0, 1) := dk_42 (dk_at dksX3_takesBack_6 23 rfl rfl)
theorem dX3_takesBack_163 : decode cX3_takesBack 163 = .ok (.bipush 8, 2) := dk_16 8 (dk_at dksX3_takesBack_7 0 rfl rfl)
theorem dX3_takesBack_165 : decode cX3_takesBack 165 = .ok (.iload 6, 2) := dk_21 6 (dk_at dksX3_takesBack_7 2 rfl rfl)
theorem dX3_takesBack_167 : decode cX3_takesBack 167 = .ok (.aload_n 0, 1) := dk_42 (dk_at dksX3_takesBack_7 4 rfl rfl)
theorem dX3_takesBack_168 : decode cX3_takesBack 168 = .ok (.getfield 9, 3) := dk_180 0 9 (dk_at dksX3_takesBack_7 5 rfl rfl)
theorem dX3_takesBack_171 : decode cX3_takesBack 171 = .ok (.iconst 4, 1) := dk_7 (dk_at dksX3_takesBack_7 8 rfl rfl)
theorem dX3_takesBack_172 : decode cX3_takesBack 172 = .ok (.iaload, 1) := dk_46 (dk_at dksX3_takesBack_7 9 rfl rfl)
theorem dX3_takesBack_173 : decode cX3_takesBack 173 = .ok (.isub, 1) := dk_100 (dk_at dksX3_takesBack_7 10 rfl rfl)
theorem dX3_takesBack_174 : decode cX3_takesBack 174 = .ok (.invokevirtual 67, 3) := dk_182 0 67 (dk_at dksX3_takesBack_7 11 rfl rfl)
theorem dX3_takesBack_177 : decode cX3_takesBack 177 = .ok (.ireturn, 1) := dk_172 (dk_at dksX3_takesBack_7 14 rfl rfl)
theorem dX3_takesBack_178 : decode cX3_takesBack 178 = .ok (.iload 5, 2) := dk_21 5 (dk_at dksX3_takesBack_7 15 rfl rfl)
theorem dX3_takesBack_180 : decode cX3_takesBack 180 = .ok (.bipush 12, 2) := dk_16 12 (dk_at dksX3_takesBack_7 17 rfl rfl)
theorem dX3_takesBack_182 : decode cX3_takesBack 182 = .ok (.aload_n 0, 1) := dk_42 (dk_at dksX3_takesBack_7 19 rfl rfl)
theorem dX3_takesBack_183 : decode cX3_takesBack 183 = .ok (.iload_n 3, 1) := dk_29 (dk_at dksX3_takesBack_7 20 rfl rfl)
theorem dX3_takesBack_184 : decode cX3_takesBack 184 = .ok (.iconst 3, 1) := dk_6 (dk_at dksX3_takesBack_7 21 rfl rfl)
theorem dX3_takesBack_185 : decode cX3_takesBack 185 = .ok (.aload_n 0, 1) := dk_42 (dk_at dksX3_takesBack_7 22 rfl rfl)
theorem dX3_takesBack_186 : decode cX3_takesBack 186 = .ok (.getfield 9, 3) := dk_180 0 9 (dk_at dksX3_takesBack_8 0 rfl rfl)
theorem dX3_takesBack_189 : decode cX3_takesBack 189 = .ok (.iload_n 2, 1) := dk_28 (dk_at dksX3_takesBack_8 3 rfl rfl)
theorem dX3_takesBack_190 : decode cX3_takesBack 190 = .ok (.iconst 2, 1) := dk_5 (dk_at dksX3_takesBack_8 4 rfl rfl)
theorem dX3_takesBack_191 : decode cX3_takesBack 191 = .ok (.iadd, 1) := dk_96 (dk_at dksX3_takesBack_8 5 rfl rfl)
theorem dX3_takesBack_192 : decode cX3_takesBack 192 = .ok (.iaload, 1) := dk_46 (dk_at dksX3_takesBack_8 6 rfl rfl)
theorem dX3_takesBack_193 : decode cX3_takesBack 193 = .ok (.iadd, 1) := dk_96 (dk_at dksX3_takesBack_8 7 rfl rfl)
theorem dX3_takesBack_194 : decode cX3_takesBack 194 = .ok (.invokevirtual 90, 3) := dk_182 0 90 (dk_at dksX3_takesBack_8 8 rfl rfl)
theorem dX3_takesBack_197 : decode cX3_takesBack 197 = .ok (.isub, 1) := dk_100 (dk_at dksX3_takesBack_8 11 rfl rfl)
theorem dX3_takesBack_198 : decode cX3_takesBack 198 = .ok (.invokestatic 55, 3) := dk_184 0 55 (dk_at dksX3_takesBack_8 12 rfl rfl)
theorem dX3_takesBack_201 : decode cX3_takesBack 201 = .ok (.istore 7, 2) := dk_54 7 (dk_at dksX3_takesBack_8 15 rfl rfl)
theorem dX3_takesBack_203 : decode cX3_takesBack 203 = .ok (.aload_n 0, 1) := dk_42 (dk_at dksX3_takesBack_8 17 rfl rfl)
theorem dX3_takesBack_204 : decode cX3_takesBack 204 = .ok (.iload_n 3, 1) := dk_29 (dk_at dksX3_takesBack_8 18 rfl rfl)
theorem dX3_takesBack_205 : decode cX3_takesBack 205 = .ok (.iconst 3, 1) := dk_6 (dk_at dksX3_takesBack_8 19 rfl rfl)
theorem dX3_takesBack_206 : decode cX3_takesBack 206 = .ok (.aload_n 0, 1) := dk_42 (dk_at dksX3_takesBack_8 20 rfl rfl)
theorem dX3_takesBack_207 : decode cX3_takesBack 207 = .ok (.getfield 9, 3) := dk_180 0 9 (dk_at dksX3_takesBack_8 21 rfl rfl)
theorem dX3_takesBack_210 : decode cX3_takesBack 210 = .ok (.iload_n 2, 1) := dk_28 (dk_at dksX3_takesBack_9 0 rfl rfl)
theorem dX3_takesBack_211 : decode cX3_takesBack 211 = .ok (.iconst 2, 1) := dk_5 (dk_at dksX3_takesBack_9 1 rfl rfl)
theorem dX3_takesBack_212 : decode cX3_takesBack 212 = .ok (.iadd, 1) := dk_96 (dk_at dksX3_takesBack_9 2 rfl rfl)
theorem dX3_takesBack_213 : decode cX3_takesBack 213 = .ok (.iaload, 1) := dk_46 (dk_at dksX3_takesBack_9 3 rfl rfl)
theorem dX3_takesBack_214 : decode cX3_takesBack 214 = .ok (.iadd, 1) := dk_96 (dk_at dksX3_takesBack_9 4 rfl rfl)
theorem dX3_takesBack_215 : decode cX3_takesBack 215 = .ok (.iload 7, 2) := dk_21 7 (dk_at dksX3_takesBack_9 5 rfl rfl)
theorem dX3_takesBack_217 : decode cX3_takesBack 217 = .ok (.invokevirtual 93, 3) := dk_182 0 93 (dk_at dksX3_takesBack_9 7 rfl rfl)
theorem dX3_takesBack_220 : decode cX3_takesBack 220 = .ok (.aload_n 0, 1) := dk_42 (dk_at dksX3_takesBack_9 10 rfl rfl)
theorem dX3_takesBack_221 : decode cX3_takesBack 221 = .ok (.iload_n 3, 1) := dk_29 (dk_at dksX3_takesBack_9 11 rfl rfl)
theorem dX3_takesBack_222 : decode cX3_takesBack 222 = .ok (.bipush 7, 2) := dk_16 7 (dk_at dksX3_takesBack_9 12 rfl rfl)
theorem dX3_takesBack_224 : decode cX3_takesBack 224 = .ok (.iload 5, 2) := dk_21 5 (dk_at dksX3_takesBack_9 14 rfl rfl)
theorem dX3_takesBack_226 : decode cX3_takesBack 226 = .ok (.invokevirtual 93, 3) := dk_182 0 93 (dk_at dksX3_takesBack_9 16 rfl rfl)
theorem dX3_takesBack_229 : decode cX3_takesBack 229 = .ok (.aload_n 0, 1) := dk_42 (dk_at dksX3_takesBack_9 19 rfl rfl)
theorem dX3_takesBack_230 : decode cX3_takesBack 230 = .ok (.getfield 9, 3) := dk_180 0 9 (dk_at dksX3_takesBack_9 20 rfl rfl)
theorem dX3_takesBack_233 : decode cX3_takesBack 233 = .ok (.bipush 7, 2) := dk_16 7 (dk_at dksX3_takesBack_10 0 rfl rfl)
theorem dX3_takesBack_235 : decode cX3_takesBack 235 = .ok (.dup2, 1) := dk_92 (dk_at dksX3_takesBack_10 2 rfl rfl)
theorem dX3_takesBack_236 : decode cX3_takesBack 236 = .ok (.iaload, 1) := dk_46 (dk_at dksX3_takesBack_10 3 rfl rfl)
theorem dX3_takesBack_237 : decode cX3_takesBack 237 = .ok (.iload 5, 2) := dk_21 5 (dk_at dksX3_takesBack_10 4 rfl rfl)
theorem dX3_takesBack_239 : decode cX3_takesBack 239 = .ok (.iadd, 1) := dk_96 (dk_at dksX3_takesBack_10 6 rfl rfl)
theorem dX3_takesBack_240 : decode cX3_takesBack 240 = .ok (.iastore, 1) := dk_79 (dk_at dksX3_takesBack_10 7 rfl rfl)
theorem dX3_takesBack_241 : decode cX3_takesBack 241 = .ok (.aload_n 0, 1) := dk_42 (dk_at dksX3_takesBack_10 8 rfl rfl)
theorem dX3_takesBack_242 : decode cX3_takesBack 242 = .ok (.getfield 9, 3) := dk_180 0 9 (dk_at dksX3_takesBack_10 9 rfl rfl)
theorem dX3_takesBack_245 : decode cX3_takesBack 245 = .ok (.bipush 8, 2) := dk_16 8 (dk_at dksX3_takesBack_10 12 rfl rfl)
theorem dX3_takesBack_247 : decode cX3_takesBack 247 = .ok (.dup2, 1) := dk_92 (dk_at dksX3_takesBack_10 14 rfl rfl)
theorem dX3_takesBack_248 : decode cX3_takesBack 248 = .ok (.iaload, 1) := dk_46 (dk_at dksX3_takesBack_10 15 rfl rfl)
theorem dX3_takesBack_249 : decode cX3_takesBack 249 = .ok (.iload 5, 2) := dk_21 5 (dk_at dksX3_takesBack_10 16 rfl rfl)
theorem dX3_takesBack_251 : decode cX3_takesBack 251 = .ok (.iload 7, 2) := dk_21 7 (dk_at dksX3_takesBack_10 18 rfl rfl)
theorem dX3_takesBack_253 : decode cX3_takesBack 253 = .ok (.isub, 1) := dk_100 (dk_at dksX3_takesBack_10 20 rfl rfl)
theorem dX3_takesBack_254 : decode cX3_takesBack 254 = .ok (.iadd, 1) := dk_96 (dk_at dksX3_takesBack_10 21 rfl rfl)
theorem dX3_takesBack_255 : decode cX3_takesBack 255 = .ok (.iastore, 1) := dk_79 (dk_at dksX3_takesBack_10 22 rfl rfl)
theorem dX3_takesBack_256 : decode cX3_takesBack 256 = .ok (.aload_n 0, 1) := dk_42 (dk_at dksX3_takesBack_10 23 rfl rfl)
theorem dX3_takesBack_257 : decode cX3_takesBack 257 = .ok (.getfield 9, 3) := dk_180 0 9 (dk_at dksX3_takesBack_11 0 rfl rfl)
theorem dX3_takesBack_260 : decode cX3_takesBack 260 = .ok (.iconst 4, 1) := dk_7 (dk_at dksX3_takesBack_11 3 rfl rfl)
theorem dX3_takesBack_261 : decode cX3_takesBack 261 = .ok (.dup2, 1) := dk_92 (dk_at dksX3_takesBack_11 4 rfl rfl)
theorem dX3_takesBack_262 : decode cX3_takesBack 262 = .ok (.iaload, 1) := dk_46 (dk_at dksX3_takesBack_11 5 rfl rfl)
theorem dX3_takesBack_263 : decode cX3_takesBack 263 = .ok (.iload 6, 2) := dk_21 6 (dk_at dksX3_takesBack_11 6 rfl rfl)
theorem dX3_takesBack_265 : decode cX3_takesBack 265 = .ok (.isub, 1) := dk_100 (dk_at dksX3_takesBack_11 8 rfl rfl)
theorem dX3_takesBack_266 : decode cX3_takesBack 266 = .ok (.iastore, 1) := dk_79 (dk_at dksX3_takesBack_11 9 rfl rfl)
theorem dX3_takesBack_267 : decode cX3_takesBack 267 = .ok (.aload_n 0, 1) := dk_42 (dk_at dksX3_takesBack_11 10 rfl rfl)
theorem dX3_takesBack_268 : decode cX3_takesBack 268 = .ok (.getfield 9, 3) := dk_180 0 9 (dk_at dksX3_takesBack_11 11 rfl rfl)
theorem dX3_takesBack_271 : decode cX3_takesBack 271 = .ok (.bipush 10, 2) := dk_16 10 (dk_at dksX3_takesBack_11 14 rfl rfl)
theorem dX3_takesBack_273 : decode cX3_takesBack 273 = .ok (.dup2, 1) := dk_92 (dk_at dksX3_takesBack_11 16 rfl rfl)
theorem dX3_takesBack_274 : decode cX3_takesBack 274 = .ok (.iaload, 1) := dk_46 (dk_at dksX3_takesBack_11 17 rfl rfl)
theorem dX3_takesBack_275 : decode cX3_takesBack 275 = .ok (.iload 6, 2) := dk_21 6 (dk_at dksX3_takesBack_11 18 rfl rfl)
theorem dX3_takesBack_277 : decode cX3_takesBack 277 = .ok (.iadd, 1) := dk_96 (dk_at dksX3_takesBack_11 20 rfl rfl)
theorem dX3_takesBack_278 : decode cX3_takesBack 278 = .ok (.iastore, 1) := dk_79 (dk_at dksX3_takesBack_11 21 rfl rfl)
theorem dX3_takesBack_279 : decode cX3_takesBack 279 = .ok (.aload_n 0, 1) := dk_42 (dk_at dksX3_takesBack_11 22 rfl rfl)
theorem dX3_takesBack_280 : decode cX3_takesBack 280 = .ok (.iload 4, 2) := dk_21 4 (dk_at dksX3_takesBack_12 0 rfl rfl)
theorem dX3_takesBack_282 : decode cX3_takesBack 282 = .ok (.iconst 2, 1) := dk_5 (dk_at dksX3_takesBack_12 2 rfl rfl)
theorem dX3_takesBack_283 : decode cX3_takesBack 283 = .ok (.invokevirtual 136, 3) := dk_182 0 136 (dk_at dksX3_takesBack_12 3 rfl rfl)
theorem dX3_takesBack_286 : decode cX3_takesBack 286 = .ok (.aload_n 0, 1) := dk_42 (dk_at dksX3_takesBack_12 6 rfl rfl)
theorem dX3_takesBack_287 : decode cX3_takesBack 287 = .ok (.getfield 9, 3) := dk_180 0 9 (dk_at dksX3_takesBack_12 7 rfl rfl)
theorem dX3_takesBack_290 : decode cX3_takesBack 290 = .ok (.iload_n 2, 1) := dk_28 (dk_at dksX3_takesBack_12 10 rfl rfl)
theorem dX3_takesBack_291 : decode cX3_takesBack 291 = .ok (.bipush 6, 2) := dk_16 6 (dk_at dksX3_takesBack_12 11 rfl rfl)
theorem dX3_takesBack_293 : decode cX3_takesBack 293 = .ok (.iadd, 1) := dk_96 (dk_at dksX3_takesBack_12 13 rfl rfl)
theorem dX3_takesBack_294 : decode cX3_takesBack 294 = .ok (.iconst 1, 1) := dk_4 (dk_at dksX3_takesBack_12 14 rfl rfl)
theorem dX3_takesBack_295 : decode cX3_takesBack 295 = .ok (.iastore, 1) := dk_79 (dk_at dksX3_takesBack_12 15 rfl rfl)
theorem dX3_takesBack_296 : decode cX3_takesBack 296 = .ok (.aload_n 0, 1) := dk_42 (dk_at dksX3_takesBack_12 16 rfl rfl)
theorem dX3_takesBack_297 : decode cX3_takesBack 297 = .ok (.iload 6, 2) := dk_21 6 (dk_at dksX3_takesBack_12 17 rfl rfl)
theorem dX3_takesBack_299 : decode cX3_takesBack 299 = .ok (.invokevirtual 97, 3) := dk_182 0 97 (dk_at dksX3_takesBack_12 19 rfl rfl)
theorem dX3_takesBack_302 : decode cX3_takesBack 302 = .ok (.ireturn, 1) := dk_172 (dk_at dksX3_takesBack_12 22 rfl rfl)
abbrev cX3_saleOf : ByteArray := prog_12_method_45_code
def yX3_saleOf : MethodName := ⟨RX3, "saleOf", "(II)I"⟩
def dkwX3_saleOf_2 : List UInt8 := [16, 244, 172]
abbrev dktX3_saleOf_2 : List UInt8 := dkwX3_saleOf_2 ++ []
def dkwX3_saleOf_1 : List UInt8 := [184, 0, 48, 153, 0, 21, 42, 180, 0, 9, 17, 0, 133, 16, 7, 27, 104, 96, 28, 96, 46, 167, 0, 5]
abbrev dktX3_saleOf_1 : List UInt8 := dkwX3_saleOf_1 ++ dktX3_saleOf_2
def dkwX3_saleOf_0 : List UInt8 := [27, 3, 42, 180, 0, 9, 6, 46, 4, 100, 184, 0, 48, 154, 0, 6, 16, 245, 172, 28, 3, 16, 6]
abbrev dktX3_saleOf_0 : List UInt8 := dkwX3_saleOf_0 ++ dktX3_saleOf_1
theorem dksX3_saleOf_0 : cX3_saleOf.data.toList.drop 0 = dktX3_saleOf_0 := by decide +kernel
theorem dksX3_saleOf_1 : cX3_saleOf.data.toList.drop 23 = dktX3_saleOf_1 := dk_seg dksX3_saleOf_0 23 rfl rfl
theorem dksX3_saleOf_2 : cX3_saleOf.data.toList.drop 47 = dktX3_saleOf_2 := dk_seg dksX3_saleOf_1 24 rfl rfl
theorem dX3_saleOf_0 : decode cX3_saleOf 0 = .ok (.iload_n 1, 1) := dk_27 (dk_at dksX3_saleOf_0 0 rfl rfl)
theorem dX3_saleOf_1 : decode cX3_saleOf 1 = .ok (.iconst 0, 1) := dk_3 (dk_at dksX3_saleOf_0 1 rfl rfl)
theorem dX3_saleOf_2 : decode cX3_saleOf 2 = .ok (.aload_n 0, 1) := dk_42 (dk_at dksX3_saleOf_0 2 rfl rfl)
theorem dX3_saleOf_3 : decode cX3_saleOf 3 = .ok (.getfield 9, 3) := dk_180 0 9 (dk_at dksX3_saleOf_0 3 rfl rfl)
theorem dX3_saleOf_6 : decode cX3_saleOf 6 = .ok (.iconst 3, 1) := dk_6 (dk_at dksX3_saleOf_0 6 rfl rfl)
theorem dX3_saleOf_7 : decode cX3_saleOf 7 = .ok (.iaload, 1) := dk_46 (dk_at dksX3_saleOf_0 7 rfl rfl)
theorem dX3_saleOf_8 : decode cX3_saleOf 8 = .ok (.iconst 1, 1) := dk_4 (dk_at dksX3_saleOf_0 8 rfl rfl)
theorem dX3_saleOf_9 : decode cX3_saleOf 9 = .ok (.isub, 1) := dk_100 (dk_at dksX3_saleOf_0 9 rfl rfl)
theorem dX3_saleOf_10 : decode cX3_saleOf 10 = .ok (.invokestatic 48, 3) := dk_184 0 48 (dk_at dksX3_saleOf_0 10 rfl rfl)
theorem dX3_saleOf_13 : decode cX3_saleOf 13 = .ok (.ifCond .ne 6, 3) := dk_154 0 6 (dk_at dksX3_saleOf_0 13 rfl rfl)
theorem dX3_saleOf_16 : decode cX3_saleOf 16 = .ok (.bipush (-11), 2) := dk_16 245 (dk_at dksX3_saleOf_0 16 rfl rfl)
theorem dX3_saleOf_18 : decode cX3_saleOf 18 = .ok (.ireturn, 1) := dk_172 (dk_at dksX3_saleOf_0 18 rfl rfl)
theorem dX3_saleOf_19 : decode cX3_saleOf 19 = .ok (.iload_n 2, 1) := dk_28 (dk_at dksX3_saleOf_0 19 rfl rfl)
theorem dX3_saleOf_20 : decode cX3_saleOf 20 = .ok (.iconst 0, 1) := dk_3 (dk_at dksX3_saleOf_0 20 rfl rfl)
theorem dX3_saleOf_21 : decode cX3_saleOf 21 = .ok (.bipush 6, 2) := dk_16 6 (dk_at dksX3_saleOf_0 21 rfl rfl)
theorem dX3_saleOf_23 : decode cX3_saleOf 23 = .ok (.invokestatic 48, 3) := dk_184 0 48 (dk_at dksX3_saleOf_1 0 rfl rfl)
theorem dX3_saleOf_26 : decode cX3_saleOf 26 = .ok (.ifCond .eq 21, 3) := dk_153 0 21 (dk_at dksX3_saleOf_1 3 rfl rfl)
theorem dX3_saleOf_29 : decode cX3_saleOf 29 = .ok (.aload_n 0, 1) := dk_42 (dk_at dksX3_saleOf_1 6 rfl rfl)
theorem dX3_saleOf_30 : decode cX3_saleOf 30 = .ok (.getfield 9, 3) := dk_180 0 9 (dk_at dksX3_saleOf_1 7 rfl rfl)
theorem dX3_saleOf_33 : decode cX3_saleOf 33 = .ok (.sipush 133, 3) := dk_17 0 133 (dk_at dksX3_saleOf_1 10 rfl rfl)
theorem dX3_saleOf_36 : decode cX3_saleOf 36 = .ok (.bipush 7, 2) := dk_16 7 (dk_at dksX3_saleOf_1 13 rfl rfl)
theorem dX3_saleOf_38 : decode cX3_saleOf 38 = .ok (.iload_n 1, 1) := dk_27 (dk_at dksX3_saleOf_1 15 rfl rfl)
theorem dX3_saleOf_39 : decode cX3_saleOf 39 = .ok (.imul, 1) := dk_104 (dk_at dksX3_saleOf_1 16 rfl rfl)
theorem dX3_saleOf_40 : decode cX3_saleOf 40 = .ok (.iadd, 1) := dk_96 (dk_at dksX3_saleOf_1 17 rfl rfl)
theorem dX3_saleOf_41 : decode cX3_saleOf 41 = .ok (.iload_n 2, 1) := dk_28 (dk_at dksX3_saleOf_1 18 rfl rfl)
theorem dX3_saleOf_42 : decode cX3_saleOf 42 = .ok (.iadd, 1) := dk_96 (dk_at dksX3_saleOf_1 19 rfl rfl)
theorem dX3_saleOf_43 : decode cX3_saleOf 43 = .ok (.iaload, 1) := dk_46 (dk_at dksX3_saleOf_1 20 rfl rfl)
theorem dX3_saleOf_44 : decode cX3_saleOf 44 = .ok (.goto 5, 3) := dk_167 0 5 (dk_at dksX3_saleOf_1 21 rfl rfl)
theorem dX3_saleOf_47 : decode cX3_saleOf 47 = .ok (.bipush (-12), 2) := dk_16 244 (dk_at dksX3_saleOf_2 0 rfl rfl)
theorem dX3_saleOf_49 : decode cX3_saleOf 49 = .ok (.ireturn, 1) := dk_172 (dk_at dksX3_saleOf_2 2 rfl rfl)
abbrev cX3_day : ByteArray := prog_12_method_47_code
def yX3_day : MethodName := ⟨RX3, "day", "()I"⟩
def dkwX3_day_0 : List UInt8 := [42, 182, 0, 64, 42, 42, 182, 0, 146, 182, 0, 104, 172]
abbrev dktX3_day_0 : List UInt8 := dkwX3_day_0 ++ []
theorem dksX3_day_0 : cX3_day.data.toList.drop 0 = dktX3_day_0 := by decide +kernel
theorem dX3_day_0 : decode cX3_day 0 = .ok (.aload_n 0, 1) := dk_42 (dk_at dksX3_day_0 0 rfl rfl)
theorem dX3_day_1 : decode cX3_day 1 = .ok (.invokevirtual 64, 3) := dk_182 0 64 (dk_at dksX3_day_0 1 rfl rfl)
theorem dX3_day_4 : decode cX3_day 4 = .ok (.aload_n 0, 1) := dk_42 (dk_at dksX3_day_0 4 rfl rfl)
theorem dX3_day_5 : decode cX3_day 5 = .ok (.aload_n 0, 1) := dk_42 (dk_at dksX3_day_0 5 rfl rfl)
theorem dX3_day_6 : decode cX3_day 6 = .ok (.invokevirtual 146, 3) := dk_182 0 146 (dk_at dksX3_day_0 6 rfl rfl)
theorem dX3_day_9 : decode cX3_day 9 = .ok (.invokevirtual 104, 3) := dk_182 0 104 (dk_at dksX3_day_0 9 rfl rfl)
theorem dX3_day_12 : decode cX3_day 12 = .ok (.ireturn, 1) := dk_172 (dk_at dksX3_day_0 12 rfl rfl)
abbrev cX3_passes : ByteArray := prog_12_method_46_code
def yX3_passes : MethodName := ⟨RX3, "passes", "()I"⟩
def dkwX3_passes_4 : List UInt8 := [132, 1, 1, 167, 255, 178, 42, 42, 180, 0, 9, 3, 46, 182, 0, 97, 172]
abbrev dktX3_passes_4 : List UInt8 := dkwX3_passes_4 ++ []
def dkwX3_passes_3 : List UInt8 := [104, 96, 4, 96, 92, 46, 4, 96, 79, 42, 27, 182, 0, 52, 8, 162, 0, 9, 42, 27, 4, 182, 0, 136]
abbrev dktX3_passes_3 : List UInt8 := dkwX3_passes_3 ++ dktX3_passes_4
def dkwX3_passes_2 : List UInt8 := [4, 96, 92, 46, 4, 100, 79, 28, 3, 7, 184, 0, 48, 153, 0, 20, 42, 180, 0, 9, 16, 53, 7, 27]
abbrev dktX3_passes_2 : List UInt8 := dkwX3_passes_2 ++ dktX3_passes_3
def dkwX3_passes_1 : List UInt8 := [162, 0, 78, 42, 27, 182, 0, 70, 61, 28, 8, 164, 0, 20, 42, 180, 0, 9, 16, 53, 7, 27, 104, 96]
abbrev dktX3_passes_1 : List UInt8 := dkwX3_passes_1 ++ dktX3_passes_2
def dkwX3_passes_0 : List UInt8 := [42, 180, 0, 9, 3, 92, 46, 4, 96, 79, 42, 180, 0, 9, 4, 3, 79, 3, 60, 27, 16, 20]
abbrev dktX3_passes_0 : List UInt8 := dkwX3_passes_0 ++ dktX3_passes_1
theorem dksX3_passes_0 : cX3_passes.data.toList.drop 0 = dktX3_passes_0 := by decide +kernel
theorem dksX3_passes_1 : cX3_passes.data.toList.drop 22 = dktX3_passes_1 := dk_seg dksX3_passes_0 22 rfl rfl
theorem dksX3_passes_2 : cX3_passes.data.toList.drop 46 = dktX3_passes_2 := dk_seg dksX3_passes_1 24 rfl rfl
theorem dksX3_passes_3 : cX3_passes.data.toList.drop 70 = dktX3_passes_3 := dk_seg dksX3_passes_2 24 rfl rfl
theorem dksX3_passes_4 : cX3_passes.data.toList.drop 94 = dktX3_passes_4 := dk_seg dksX3_passes_3 24 rfl rfl
theorem dX3_passes_0 : decode cX3_passes 0 = .ok (.aload_n 0, 1) := dk_42 (dk_at dksX3_passes_0 0 rfl rfl)
theorem dX3_passes_1 : decode cX3_passes 1 = .ok (.getfield 9, 3) := dk_180 0 9 (dk_at dksX3_passes_0 1 rfl rfl)
theorem dX3_passes_4 : decode cX3_passes 4 = .ok (.iconst 0, 1) := dk_3 (dk_at dksX3_passes_0 4 rfl rfl)
theorem dX3_passes_5 : decode cX3_passes 5 = .ok (.dup2, 1) := dk_92 (dk_at dksX3_passes_0 5 rfl rfl)
theorem dX3_passes_6 : decode cX3_passes 6 = .ok (.iaload, 1) := dk_46 (dk_at dksX3_passes_0 6 rfl rfl)
theorem dX3_passes_7 : decode cX3_passes 7 = .ok (.iconst 1, 1) := dk_4 (dk_at dksX3_passes_0 7 rfl rfl)
theorem dX3_passes_8 : decode cX3_passes 8 = .ok (.iadd, 1) := dk_96 (dk_at dksX3_passes_0 8 rfl rfl)
theorem dX3_passes_9 : decode cX3_passes 9 = .ok (.iastore, 1) := dk_79 (dk_at dksX3_passes_0 9 rfl rfl)
theorem dX3_passes_10 : decode cX3_passes 10 = .ok (.aload_n 0, 1) := dk_42 (dk_at dksX3_passes_0 10 rfl rfl)
theorem dX3_passes_11 : decode cX3_passes 11 = .ok (.getfield 9, 3) := dk_180 0 9 (dk_at dksX3_passes_0 11 rfl rfl)
theorem dX3_passes_14 : decode cX3_passes 14 = .ok (.iconst 1, 1) := dk_4 (dk_at dksX3_passes_0 14 rfl rfl)
theorem dX3_passes_15 : decode cX3_passes 15 = .ok (.iconst 0, 1) := dk_3 (dk_at dksX3_passes_0 15 rfl rfl)
theorem dX3_passes_16 : decode cX3_passes 16 = .ok (.iastore, 1) := dk_79 (dk_at dksX3_passes_0 16 rfl rfl)
theorem dX3_passes_17 : decode cX3_passes 17 = .ok (.iconst 0, 1) := dk_3 (dk_at dksX3_passes_0 17 rfl rfl)
theorem dX3_passes_18 : decode cX3_passes 18 = .ok (.istore_n 1, 1) := dk_60 (dk_at dksX3_passes_0 18 rfl rfl)
theorem dX3_passes_19 : decode cX3_passes 19 = .ok (.iload_n 1, 1) := dk_27 (dk_at dksX3_passes_0 19 rfl rfl)
theorem dX3_passes_20 : decode cX3_passes 20 = .ok (.bipush 20, 2) := dk_16 20 (dk_at dksX3_passes_0 20 rfl rfl)
theorem dX3_passes_22 : decode cX3_passes 22 = .ok (.if_icmp .ge 78, 3) := dk_162 0 78 (dk_at dksX3_passes_1 0 rfl rfl)
theorem dX3_passes_25 : decode cX3_passes 25 = .ok (.aload_n 0, 1) := dk_42 (dk_at dksX3_passes_1 3 rfl rfl)
theorem dX3_passes_26 : decode cX3_passes 26 = .ok (.iload_n 1, 1) := dk_27 (dk_at dksX3_passes_1 4 rfl rfl)
theorem dX3_passes_27 : decode cX3_passes 27 = .ok (.invokevirtual 70, 3) := dk_182 0 70 (dk_at dksX3_passes_1 5 rfl rfl)
theorem dX3_passes_30 : decode cX3_passes 30 = .ok (.istore_n 2, 1) := dk_61 (dk_at dksX3_passes_1 8 rfl rfl)
theorem dX3_passes_31 : decode cX3_passes 31 = .ok (.iload_n 2, 1) := dk_28 (dk_at dksX3_passes_1 9 rfl rfl)
theorem dX3_passes_32 : decode cX3_passes 32 = .ok (.iconst 5, 1) := dk_8 (dk_at dksX3_passes_1 10 rfl rfl)
theorem dX3_passes_33 : decode cX3_passes 33 = .ok (.if_icmp .le 20, 3) := dk_164 0 20 (dk_at dksX3_passes_1 11 rfl rfl)
theorem dX3_passes_36 : decode cX3_passes 36 = .ok (.aload_n 0, 1) := dk_42 (dk_at dksX3_passes_1 14 rfl rfl)
theorem dX3_passes_37 : decode cX3_passes 37 = .ok (.getfield 9, 3) := dk_180 0 9 (dk_at dksX3_passes_1 15 rfl rfl)
theorem dX3_passes_40 : decode cX3_passes 40 = .ok (.bipush 53, 2) := dk_16 53 (dk_at dksX3_passes_1 18 rfl rfl)
theorem dX3_passes_42 : decode cX3_passes 42 = .ok (.iconst 4, 1) := dk_7 (dk_at dksX3_passes_1 20 rfl rfl)
theorem dX3_passes_43 : decode cX3_passes 43 = .ok (.iload_n 1, 1) := dk_27 (dk_at dksX3_passes_1 21 rfl rfl)
theorem dX3_passes_44 : decode cX3_passes 44 = .ok (.imul, 1) := dk_104 (dk_at dksX3_passes_1 22 rfl rfl)
theorem dX3_passes_45 : decode cX3_passes 45 = .ok (.iadd, 1) := dk_96 (dk_at dksX3_passes_1 23 rfl rfl)
theorem dX3_passes_46 : decode cX3_passes 46 = .ok (.iconst 1, 1) := dk_4 (dk_at dksX3_passes_2 0 rfl rfl)
theorem dX3_passes_47 : decode cX3_passes 47 = .ok (.iadd, 1) := dk_96 (dk_at dksX3_passes_2 1 rfl rfl)
theorem dX3_passes_48 : decode cX3_passes 48 = .ok (.dup2, 1) := dk_92 (dk_at dksX3_passes_2 2 rfl rfl)
theorem dX3_passes_49 : decode cX3_passes 49 = .ok (.iaload, 1) := dk_46 (dk_at dksX3_passes_2 3 rfl rfl)
theorem dX3_passes_50 : decode cX3_passes 50 = .ok (.iconst 1, 1) := dk_4 (dk_at dksX3_passes_2 4 rfl rfl)
theorem dX3_passes_51 : decode cX3_passes 51 = .ok (.isub, 1) := dk_100 (dk_at dksX3_passes_2 5 rfl rfl)
theorem dX3_passes_52 : decode cX3_passes 52 = .ok (.iastore, 1) := dk_79 (dk_at dksX3_passes_2 6 rfl rfl)
theorem dX3_passes_53 : decode cX3_passes 53 = .ok (.iload_n 2, 1) := dk_28 (dk_at dksX3_passes_2 7 rfl rfl)
theorem dX3_passes_54 : decode cX3_passes 54 = .ok (.iconst 0, 1) := dk_3 (dk_at dksX3_passes_2 8 rfl rfl)
theorem dX3_passes_55 : decode cX3_passes 55 = .ok (.iconst 4, 1) := dk_7 (dk_at dksX3_passes_2 9 rfl rfl)
theorem dX3_passes_56 : decode cX3_passes 56 = .ok (.invokestatic 48, 3) := dk_184 0 48 (dk_at dksX3_passes_2 10 rfl rfl)
theorem dX3_passes_59 : decode cX3_passes 59 = .ok (.ifCond .eq 20, 3) := dk_153 0 20 (dk_at dksX3_passes_2 13 rfl rfl)
theorem dX3_passes_62 : decode cX3_passes 62 = .ok (.aload_n 0, 1) := dk_42 (dk_at dksX3_passes_2 16 rfl rfl)
theorem dX3_passes_63 : decode cX3_passes 63 = .ok (.getfield 9, 3) := dk_180 0 9 (dk_at dksX3_passes_2 17 rfl rfl)
theorem dX3_passes_66 : decode cX3_passes 66 = .ok (.bipush 53, 2) := dk_16 53 (dk_at dksX3_passes_2 20 rfl rfl)
theorem dX3_passes_68 : decode cX3_passes 68 = .ok (.iconst 4, 1) := dk_7 (dk_at dksX3_passes_2 22 rfl rfl)
theorem dX3_passes_69 : decode cX3_passes 69 = .ok (.iload_n 1, 1) := dk_27 (dk_at dksX3_passes_2 23 rfl rfl)
theorem dX3_passes_70 : decode cX3_passes 70 = .ok (.imul, 1) := dk_104 (dk_at dksX3_passes_3 0 rfl rfl)
theorem dX3_passes_71 : decode cX3_passes 71 = .ok (.iadd, 1) := dk_96 (dk_at dksX3_passes_3 1 rfl rfl)
theorem dX3_passes_72 : decode cX3_passes 72 = .ok (.iconst 1, 1) := dk_4 (dk_at dksX3_passes_3 2 rfl rfl)
theorem dX3_passes_73 : decode cX3_passes 73 = .ok (.iadd, 1) := dk_96 (dk_at dksX3_passes_3 3 rfl rfl)
theorem dX3_passes_74 : decode cX3_passes 74 = .ok (.dup2, 1) := dk_92 (dk_at dksX3_passes_3 4 rfl rfl)
theorem dX3_passes_75 : decode cX3_passes 75 = .ok (.iaload, 1) := dk_46 (dk_at dksX3_passes_3 5 rfl rfl)
theorem dX3_passes_76 : decode cX3_passes 76 = .ok (.iconst 1, 1) := dk_4 (dk_at dksX3_passes_3 6 rfl rfl)
theorem dX3_passes_77 : decode cX3_passes 77 = .ok (.iadd, 1) := dk_96 (dk_at dksX3_passes_3 7 rfl rfl)
theorem dX3_passes_78 : decode cX3_passes 78 = .ok (.iastore, 1) := dk_79 (dk_at dksX3_passes_3 8 rfl rfl)
theorem dX3_passes_79 : decode cX3_passes 79 = .ok (.aload_n 0, 1) := dk_42 (dk_at dksX3_passes_3 9 rfl rfl)
theorem dX3_passes_80 : decode cX3_passes 80 = .ok (.iload_n 1, 1) := dk_27 (dk_at dksX3_passes_3 10 rfl rfl)
theorem dX3_passes_81 : decode cX3_passes 81 = .ok (.invokevirtual 52, 3) := dk_182 0 52 (dk_at dksX3_passes_3 11 rfl rfl)
theorem dX3_passes_84 : decode cX3_passes 84 = .ok (.iconst 5, 1) := dk_8 (dk_at dksX3_passes_3 14 rfl rfl)
theorem dX3_passes_85 : decode cX3_passes 85 = .ok (.if_icmp .ge 9, 3) := dk_162 0 9 (dk_at dksX3_passes_3 15 rfl rfl)
theorem dX3_passes_88 : decode cX3_passes 88 = .ok (.aload_n 0, 1) := dk_42 (dk_at dksX3_passes_3 18 rfl rfl)
theorem dX3_passes_89 : decode cX3_passes 89 = .ok (.iload_n 1, 1) := dk_27 (dk_at dksX3_passes_3 19 rfl rfl)
theorem dX3_passes_90 : decode cX3_passes 90 = .ok (.iconst 1, 1) := dk_4 (dk_at dksX3_passes_3 20 rfl rfl)
theorem dX3_passes_91 : decode cX3_passes 91 = .ok (.invokevirtual 136, 3) := dk_182 0 136 (dk_at dksX3_passes_3 21 rfl rfl)
theorem dX3_passes_94 : decode cX3_passes 94 = .ok (.iinc 1 1, 3) := dk_132 1 1 (dk_at dksX3_passes_4 0 rfl rfl)
theorem dX3_passes_97 : decode cX3_passes 97 = .ok (.goto (-78), 3) := dk_167 255 178 (dk_at dksX3_passes_4 3 rfl rfl)
theorem dX3_passes_100 : decode cX3_passes 100 = .ok (.aload_n 0, 1) := dk_42 (dk_at dksX3_passes_4 6 rfl rfl)
theorem dX3_passes_101 : decode cX3_passes 101 = .ok (.aload_n 0, 1) := dk_42 (dk_at dksX3_passes_4 7 rfl rfl)
theorem dX3_passes_102 : decode cX3_passes 102 = .ok (.getfield 9, 3) := dk_180 0 9 (dk_at dksX3_passes_4 8 rfl rfl)
theorem dX3_passes_105 : decode cX3_passes 105 = .ok (.iconst 0, 1) := dk_3 (dk_at dksX3_passes_4 11 rfl rfl)
theorem dX3_passes_106 : decode cX3_passes 106 = .ok (.iaload, 1) := dk_46 (dk_at dksX3_passes_4 12 rfl rfl)
theorem dX3_passes_107 : decode cX3_passes 107 = .ok (.invokevirtual 97, 3) := dk_182 0 97 (dk_at dksX3_passes_4 13 rfl rfl)
theorem dX3_passes_110 : decode cX3_passes 110 = .ok (.ireturn, 1) := dk_172 (dk_at dksX3_passes_4 16 rfl rfl)
abbrev cX3_append : ByteArray := prog_12_method_48_code
def yX3_append : MethodName := ⟨RX3, "append", "(I)I"⟩
def dkwX3_append_2 : List UInt8 := [172]
abbrev dktX3_append_2 : List UInt8 := dkwX3_append_2 ++ []
def dkwX3_append_1 : List UInt8 := [16, 243, 172, 42, 180, 0, 25, 42, 89, 180, 0, 149, 90, 4, 96, 181, 0, 149, 27, 79, 42, 180, 0, 149]
abbrev dktX3_append_1 : List UInt8 := dkwX3_append_1 ++ dktX3_append_2
def dkwX3_append_0 : List UInt8 := [27, 16, 32, 16, 126, 184, 0, 48, 154, 0, 6, 16, 244, 172, 42, 180, 0, 149, 16, 60, 160, 0, 6]
abbrev dktX3_append_0 : List UInt8 := dkwX3_append_0 ++ dktX3_append_1
theorem dksX3_append_0 : cX3_append.data.toList.drop 0 = dktX3_append_0 := by decide +kernel
theorem dksX3_append_1 : cX3_append.data.toList.drop 23 = dktX3_append_1 := dk_seg dksX3_append_0 23 rfl rfl
theorem dksX3_append_2 : cX3_append.data.toList.drop 47 = dktX3_append_2 := dk_seg dksX3_append_1 24 rfl rfl
theorem dX3_append_0 : decode cX3_append 0 = .ok (.iload_n 1, 1) := dk_27 (dk_at dksX3_append_0 0 rfl rfl)
theorem dX3_append_1 : decode cX3_append 1 = .ok (.bipush 32, 2) := dk_16 32 (dk_at dksX3_append_0 1 rfl rfl)
theorem dX3_append_3 : decode cX3_append 3 = .ok (.bipush 126, 2) := dk_16 126 (dk_at dksX3_append_0 3 rfl rfl)
theorem dX3_append_5 : decode cX3_append 5 = .ok (.invokestatic 48, 3) := dk_184 0 48 (dk_at dksX3_append_0 5 rfl rfl)
theorem dX3_append_8 : decode cX3_append 8 = .ok (.ifCond .ne 6, 3) := dk_154 0 6 (dk_at dksX3_append_0 8 rfl rfl)
theorem dX3_append_11 : decode cX3_append 11 = .ok (.bipush (-12), 2) := dk_16 244 (dk_at dksX3_append_0 11 rfl rfl)
theorem dX3_append_13 : decode cX3_append 13 = .ok (.ireturn, 1) := dk_172 (dk_at dksX3_append_0 13 rfl rfl)
theorem dX3_append_14 : decode cX3_append 14 = .ok (.aload_n 0, 1) := dk_42 (dk_at dksX3_append_0 14 rfl rfl)
theorem dX3_append_15 : decode cX3_append 15 = .ok (.getfield 149, 3) := dk_180 0 149 (dk_at dksX3_append_0 15 rfl rfl)
theorem dX3_append_18 : decode cX3_append 18 = .ok (.bipush 60, 2) := dk_16 60 (dk_at dksX3_append_0 18 rfl rfl)
theorem dX3_append_20 : decode cX3_append 20 = .ok (.if_icmp .ne 6, 3) := dk_160 0 6 (dk_at dksX3_append_0 20 rfl rfl)
theorem dX3_append_23 : decode cX3_append 23 = .ok (.bipush (-13), 2) := dk_16 243 (dk_at dksX3_append_1 0 rfl rfl)
theorem dX3_append_25 : decode cX3_append 25 = .ok (.ireturn, 1) := dk_172 (dk_at dksX3_append_1 2 rfl rfl)
theorem dX3_append_26 : decode cX3_append 26 = .ok (.aload_n 0, 1) := dk_42 (dk_at dksX3_append_1 3 rfl rfl)
theorem dX3_append_27 : decode cX3_append 27 = .ok (.getfield 25, 3) := dk_180 0 25 (dk_at dksX3_append_1 4 rfl rfl)
theorem dX3_append_30 : decode cX3_append 30 = .ok (.aload_n 0, 1) := dk_42 (dk_at dksX3_append_1 7 rfl rfl)
theorem dX3_append_31 : decode cX3_append 31 = .ok (.dup, 1) := dk_89 (dk_at dksX3_append_1 8 rfl rfl)
theorem dX3_append_32 : decode cX3_append 32 = .ok (.getfield 149, 3) := dk_180 0 149 (dk_at dksX3_append_1 9 rfl rfl)
theorem dX3_append_35 : decode cX3_append 35 = .ok (.dup_x1, 1) := dk_90 (dk_at dksX3_append_1 12 rfl rfl)
theorem dX3_append_36 : decode cX3_append 36 = .ok (.iconst 1, 1) := dk_4 (dk_at dksX3_append_1 13 rfl rfl)
theorem dX3_append_37 : decode cX3_append 37 = .ok (.iadd, 1) := dk_96 (dk_at dksX3_append_1 14 rfl rfl)
theorem dX3_append_38 : decode cX3_append 38 = .ok (.putfield 149, 3) := dk_181 0 149 (dk_at dksX3_append_1 15 rfl rfl)
theorem dX3_append_41 : decode cX3_append 41 = .ok (.iload_n 1, 1) := dk_27 (dk_at dksX3_append_1 18 rfl rfl)
theorem dX3_append_42 : decode cX3_append 42 = .ok (.iastore, 1) := dk_79 (dk_at dksX3_append_1 19 rfl rfl)
theorem dX3_append_43 : decode cX3_append 43 = .ok (.aload_n 0, 1) := dk_42 (dk_at dksX3_append_1 20 rfl rfl)
theorem dX3_append_44 : decode cX3_append 44 = .ok (.getfield 149, 3) := dk_180 0 149 (dk_at dksX3_append_1 21 rfl rfl)
theorem dX3_append_47 : decode cX3_append 47 = .ok (.ireturn, 1) := dk_172 (dk_at dksX3_append_2 0 rfl rfl)
abbrev cX3_run : ByteArray := prog_12_method_54_code
def yX3_run : MethodName := ⟨RX3, "run", "()I"⟩
def dkwX3_run_6 : List UInt8 := [182, 0, 44, 172, 42, 182, 0, 207, 42, 16, 14, 28, 182, 0, 67, 172]
abbrev dktX3_run_6 : List UInt8 := dkwX3_run_6 ++ []
def dkwX3_run_5 : List UInt8 := [153, 0, 7, 4, 167, 0, 4, 3, 54, 4, 167, 255, 214, 42, 3, 181, 0, 149, 29, 154, 0, 9, 42, 28]
abbrev dktX3_run_5 : List UInt8 := dkwX3_run_5 ++ dktX3_run_6
def dkwX3_run_4 : List UInt8 := [42, 182, 0, 204, 62, 29, 154, 0, 6, 132, 2, 1, 29, 154, 0, 16, 42, 18, 202, 182, 0, 165]
abbrev dktX3_run_4 : List UInt8 := dkwX3_run_4 ++ dktX3_run_5
def dkwX3_run_3 : List UInt8 := [100, 172, 42, 3, 181, 0, 156, 3, 61, 3, 62, 4, 54, 4, 21, 4, 153, 0, 43, 42, 182, 0, 198, 60]
abbrev dktX3_run_3 : List UInt8 := dkwX3_run_3 ++ dktX3_run_4
def dkwX3_run_2 : List UInt8 := [167, 0, 4, 3, 60, 167, 255, 219, 27, 154, 0, 17, 42, 3, 181, 0, 149, 17, 252, 24, 42, 180, 0, 156]
abbrev dktX3_run_2 : List UInt8 := dkwX3_run_2 ++ dktX3_run_3
def dkwX3_run_1 : List UInt8 := [180, 0, 149, 162, 0, 28, 42, 18, 202, 182, 0, 165, 153, 0, 14, 42, 182, 0, 198, 153, 0, 7, 4]
abbrev dktX3_run_1 : List UInt8 := dkwX3_run_1 ++ dktX3_run_2
def dkwX3_run_0 : List UInt8 := [42, 182, 0, 64, 42, 3, 181, 0, 156, 42, 182, 0, 198, 60, 27, 153, 0, 39, 42, 180, 0, 156, 42]
abbrev dktX3_run_0 : List UInt8 := dkwX3_run_0 ++ dktX3_run_1
theorem dksX3_run_0 : cX3_run.data.toList.drop 0 = dktX3_run_0 := by decide +kernel
theorem dksX3_run_1 : cX3_run.data.toList.drop 23 = dktX3_run_1 := dk_seg dksX3_run_0 23 rfl rfl
theorem dksX3_run_2 : cX3_run.data.toList.drop 46 = dktX3_run_2 := dk_seg dksX3_run_1 23 rfl rfl
theorem dksX3_run_3 : cX3_run.data.toList.drop 70 = dktX3_run_3 := dk_seg dksX3_run_2 24 rfl rfl
theorem dksX3_run_4 : cX3_run.data.toList.drop 94 = dktX3_run_4 := dk_seg dksX3_run_3 24 rfl rfl
theorem dksX3_run_5 : cX3_run.data.toList.drop 116 = dktX3_run_5 := dk_seg dksX3_run_4 22 rfl rfl
theorem dksX3_run_6 : cX3_run.data.toList.drop 140 = dktX3_run_6 := dk_seg dksX3_run_5 24 rfl rfl
theorem dX3_run_0 : decode cX3_run 0 = .ok (.aload_n 0, 1) := dk_42 (dk_at dksX3_run_0 0 rfl rfl)
theorem dX3_run_1 : decode cX3_run 1 = .ok (.invokevirtual 64, 3) := dk_182 0 64 (dk_at dksX3_run_0 1 rfl rfl)
theorem dX3_run_4 : decode cX3_run 4 = .ok (.aload_n 0, 1) := dk_42 (dk_at dksX3_run_0 4 rfl rfl)
theorem dX3_run_5 : decode cX3_run 5 = .ok (.iconst 0, 1) := dk_3 (dk_at dksX3_run_0 5 rfl rfl)
theorem dX3_run_6 : decode cX3_run 6 = .ok (.putfield 156, 3) := dk_181 0 156 (dk_at dksX3_run_0 6 rfl rfl)
theorem dX3_run_9 : decode cX3_run 9 = .ok (.aload_n 0, 1) := dk_42 (dk_at dksX3_run_0 9 rfl rfl)
theorem dX3_run_10 : decode cX3_run 10 = .ok (.invokevirtual 198, 3) := dk_182 0 198 (dk_at dksX3_run_0 10 rfl rfl)
theorem dX3_run_13 : decode cX3_run 13 = .ok (.istore_n 1, 1) := dk_60 (dk_at dksX3_run_0 13 rfl rfl)
theorem dX3_run_14 : decode cX3_run 14 = .ok (.iload_n 1, 1) := dk_27 (dk_at dksX3_run_0 14 rfl rfl)
theorem dX3_run_15 : decode cX3_run 15 = .ok (.ifCond .eq 39, 3) := dk_153 0 39 (dk_at dksX3_run_0 15 rfl rfl)
theorem dX3_run_18 : decode cX3_run 18 = .ok (.aload_n 0, 1) := dk_42 (dk_at dksX3_run_0 18 rfl rfl)
theorem dX3_run_19 : decode cX3_run 19 = .ok (.getfield 156, 3) := dk_180 0 156 (dk_at dksX3_run_0 19 rfl rfl)
theorem dX3_run_22 : decode cX3_run 22 = .ok (.aload_n 0, 1) := dk_42 (dk_at dksX3_run_0 22 rfl rfl)
theorem dX3_run_23 : decode cX3_run 23 = .ok (.getfield 149, 3) := dk_180 0 149 (dk_at dksX3_run_1 0 rfl rfl)
theorem dX3_run_26 : decode cX3_run 26 = .ok (.if_icmp .ge 28, 3) := dk_162 0 28 (dk_at dksX3_run_1 3 rfl rfl)
theorem dX3_run_29 : decode cX3_run 29 = .ok (.aload_n 0, 1) := dk_42 (dk_at dksX3_run_1 6 rfl rfl)
theorem dX3_run_30 : decode cX3_run 30 = .ok (.ldc 202, 2) := dk_18 202 (dk_at dksX3_run_1 7 rfl rfl)
theorem dX3_run_32 : decode cX3_run 32 = .ok (.invokevirtual 165, 3) := dk_182 0 165 (dk_at dksX3_run_1 9 rfl rfl)
theorem dX3_run_35 : decode cX3_run 35 = .ok (.ifCond .eq 14, 3) := dk_153 0 14 (dk_at dksX3_run_1 12 rfl rfl)
theorem dX3_run_38 : decode cX3_run 38 = .ok (.aload_n 0, 1) := dk_42 (dk_at dksX3_run_1 15 rfl rfl)
theorem dX3_run_39 : decode cX3_run 39 = .ok (.invokevirtual 198, 3) := dk_182 0 198 (dk_at dksX3_run_1 16 rfl rfl)
theorem dX3_run_42 : decode cX3_run 42 = .ok (.ifCond .eq 7, 3) := dk_153 0 7 (dk_at dksX3_run_1 19 rfl rfl)
theorem dX3_run_45 : decode cX3_run 45 = .ok (.iconst 1, 1) := dk_4 (dk_at dksX3_run_1 22 rfl rfl)
theorem dX3_run_46 : decode cX3_run 46 = .ok (.goto 4, 3) := dk_167 0 4 (dk_at dksX3_run_2 0 rfl rfl)
theorem dX3_run_49 : decode cX3_run 49 = .ok (.iconst 0, 1) := dk_3 (dk_at dksX3_run_2 3 rfl rfl)
theorem dX3_run_50 : decode cX3_run 50 = .ok (.istore_n 1, 1) := dk_60 (dk_at dksX3_run_2 4 rfl rfl)
theorem dX3_run_51 : decode cX3_run 51 = .ok (.goto (-37), 3) := dk_167 255 219 (dk_at dksX3_run_2 5 rfl rfl)
theorem dX3_run_54 : decode cX3_run 54 = .ok (.iload_n 1, 1) := dk_27 (dk_at dksX3_run_2 8 rfl rfl)
theorem dX3_run_55 : decode cX3_run 55 = .ok (.ifCond .ne 17, 3) := dk_154 0 17 (dk_at dksX3_run_2 9 rfl rfl)
theorem dX3_run_58 : decode cX3_run 58 = .ok (.aload_n 0, 1) := dk_42 (dk_at dksX3_run_2 12 rfl rfl)
theorem dX3_run_59 : decode cX3_run 59 = .ok (.iconst 0, 1) := dk_3 (dk_at dksX3_run_2 13 rfl rfl)
theorem dX3_run_60 : decode cX3_run 60 = .ok (.putfield 149, 3) := dk_181 0 149 (dk_at dksX3_run_2 14 rfl rfl)
theorem dX3_run_63 : decode cX3_run 63 = .ok (.sipush (-1000), 3) := dk_17 252 24 (dk_at dksX3_run_2 17 rfl rfl)
theorem dX3_run_66 : decode cX3_run 66 = .ok (.aload_n 0, 1) := dk_42 (dk_at dksX3_run_2 20 rfl rfl)
theorem dX3_run_67 : decode cX3_run 67 = .ok (.getfield 156, 3) := dk_180 0 156 (dk_at dksX3_run_2 21 rfl rfl)
theorem dX3_run_70 : decode cX3_run 70 = .ok (.isub, 1) := dk_100 (dk_at dksX3_run_3 0 rfl rfl)
theorem dX3_run_71 : decode cX3_run 71 = .ok (.ireturn, 1) := dk_172 (dk_at dksX3_run_3 1 rfl rfl)
theorem dX3_run_72 : decode cX3_run 72 = .ok (.aload_n 0, 1) := dk_42 (dk_at dksX3_run_3 2 rfl rfl)
theorem dX3_run_73 : decode cX3_run 73 = .ok (.iconst 0, 1) := dk_3 (dk_at dksX3_run_3 3 rfl rfl)
theorem dX3_run_74 : decode cX3_run 74 = .ok (.putfield 156, 3) := dk_181 0 156 (dk_at dksX3_run_3 4 rfl rfl)
theorem dX3_run_77 : decode cX3_run 77 = .ok (.iconst 0, 1) := dk_3 (dk_at dksX3_run_3 7 rfl rfl)
theorem dX3_run_78 : decode cX3_run 78 = .ok (.istore_n 2, 1) := dk_61 (dk_at dksX3_run_3 8 rfl rfl)
theorem dX3_run_79 : decode cX3_run 79 = .ok (.iconst 0, 1) := dk_3 (dk_at dksX3_run_3 9 rfl rfl)
theorem dX3_run_80 : decode cX3_run 80 = .ok (.istore_n 3, 1) := dk_62 (dk_at dksX3_run_3 10 rfl rfl)
theorem dX3_run_81 : decode cX3_run 81 = .ok (.iconst 1, 1) := dk_4 (dk_at dksX3_run_3 11 rfl rfl)
theorem dX3_run_82 : decode cX3_run 82 = .ok (.istore 4, 2) := dk_54 4 (dk_at dksX3_run_3 12 rfl rfl)
theorem dX3_run_84 : decode cX3_run 84 = .ok (.iload 4, 2) := dk_21 4 (dk_at dksX3_run_3 14 rfl rfl)
theorem dX3_run_86 : decode cX3_run 86 = .ok (.ifCond .eq 43, 3) := dk_153 0 43 (dk_at dksX3_run_3 16 rfl rfl)
theorem dX3_run_89 : decode cX3_run 89 = .ok (.aload_n 0, 1) := dk_42 (dk_at dksX3_run_3 19 rfl rfl)
theorem dX3_run_90 : decode cX3_run 90 = .ok (.invokevirtual 198, 3) := dk_182 0 198 (dk_at dksX3_run_3 20 rfl rfl)
theorem dX3_run_93 : decode cX3_run 93 = .ok (.istore_n 1, 1) := dk_60 (dk_at dksX3_run_3 23 rfl rfl)
theorem dX3_run_94 : decode cX3_run 94 = .ok (.aload_n 0, 1) := dk_42 (dk_at dksX3_run_4 0 rfl rfl)
theorem dX3_run_95 : decode cX3_run 95 = .ok (.invokevirtual 204, 3) := dk_182 0 204 (dk_at dksX3_run_4 1 rfl rfl)
theorem dX3_run_98 : decode cX3_run 98 = .ok (.istore_n 3, 1) := dk_62 (dk_at dksX3_run_4 4 rfl rfl)
theorem dX3_run_99 : decode cX3_run 99 = .ok (.iload_n 3, 1) := dk_29 (dk_at dksX3_run_4 5 rfl rfl)
theorem dX3_run_100 : decode cX3_run 100 = .ok (.ifCond .ne 6, 3) := dk_154 0 6 (dk_at dksX3_run_4 6 rfl rfl)
theorem dX3_run_103 : decode cX3_run 103 = .ok (.iinc 2 1, 3) := dk_132 2 1 (dk_at dksX3_run_4 9 rfl rfl)
theorem dX3_run_106 : decode cX3_run 106 = .ok (.iload_n 3, 1) := dk_29 (dk_at dksX3_run_4 12 rfl rfl)
theorem dX3_run_107 : decode cX3_run 107 = .ok (.ifCond .ne 16, 3) := dk_154 0 16 (dk_at dksX3_run_4 13 rfl rfl)
theorem dX3_run_110 : decode cX3_run 110 = .ok (.aload_n 0, 1) := dk_42 (dk_at dksX3_run_4 16 rfl rfl)
theorem dX3_run_111 : decode cX3_run 111 = .ok (.ldc 202, 2) := dk_18 202 (dk_at dksX3_run_4 17 rfl rfl)
theorem dX3_run_113 : decode cX3_run 113 = .ok (.invokevirtual 165, 3) := dk_182 0 165 (dk_at dksX3_run_4 19 rfl rfl)
theorem dX3_run_116 : decode cX3_run 116 = .ok (.ifCond .eq 7, 3) := dk_153 0 7 (dk_at dksX3_run_5 0 rfl rfl)
theorem dX3_run_119 : decode cX3_run 119 = .ok (.iconst 1, 1) := dk_4 (dk_at dksX3_run_5 3 rfl rfl)
theorem dX3_run_120 : decode cX3_run 120 = .ok (.goto 4, 3) := dk_167 0 4 (dk_at dksX3_run_5 4 rfl rfl)
theorem dX3_run_123 : decode cX3_run 123 = .ok (.iconst 0, 1) := dk_3 (dk_at dksX3_run_5 7 rfl rfl)
theorem dX3_run_124 : decode cX3_run 124 = .ok (.istore 4, 2) := dk_54 4 (dk_at dksX3_run_5 8 rfl rfl)
theorem dX3_run_126 : decode cX3_run 126 = .ok (.goto (-42), 3) := dk_167 255 214 (dk_at dksX3_run_5 10 rfl rfl)
theorem dX3_run_129 : decode cX3_run 129 = .ok (.aload_n 0, 1) := dk_42 (dk_at dksX3_run_5 13 rfl rfl)
theorem dX3_run_130 : decode cX3_run 130 = .ok (.iconst 0, 1) := dk_3 (dk_at dksX3_run_5 14 rfl rfl)
theorem dX3_run_131 : decode cX3_run 131 = .ok (.putfield 149, 3) := dk_181 0 149 (dk_at dksX3_run_5 15 rfl rfl)
theorem dX3_run_134 : decode cX3_run 134 = .ok (.iload_n 3, 1) := dk_29 (dk_at dksX3_run_5 18 rfl rfl)
theorem dX3_run_135 : decode cX3_run 135 = .ok (.ifCond .ne 9, 3) := dk_154 0 9 (dk_at dksX3_run_5 19 rfl rfl)
theorem dX3_run_138 : decode cX3_run 138 = .ok (.aload_n 0, 1) := dk_42 (dk_at dksX3_run_5 22 rfl rfl)
theorem dX3_run_139 : decode cX3_run 139 = .ok (.iload_n 2, 1) := dk_28 (dk_at dksX3_run_5 23 rfl rfl)
theorem dX3_run_140 : decode cX3_run 140 = .ok (.invokevirtual 44, 3) := dk_182 0 44 (dk_at dksX3_run_6 0 rfl rfl)
theorem dX3_run_143 : decode cX3_run 143 = .ok (.ireturn, 1) := dk_172 (dk_at dksX3_run_6 3 rfl rfl)
theorem dX3_run_144 : decode cX3_run 144 = .ok (.aload_n 0, 1) := dk_42 (dk_at dksX3_run_6 4 rfl rfl)
theorem dX3_run_145 : decode cX3_run 145 = .ok (.invokevirtual 207, 3) := dk_182 0 207 (dk_at dksX3_run_6 5 rfl rfl)
theorem dX3_run_148 : decode cX3_run 148 = .ok (.aload_n 0, 1) := dk_42 (dk_at dksX3_run_6 8 rfl rfl)
theorem dX3_run_149 : decode cX3_run 149 = .ok (.bipush 14, 2) := dk_16 14 (dk_at dksX3_run_6 9 rfl rfl)
theorem dX3_run_151 : decode cX3_run 151 = .ok (.iload_n 2, 1) := dk_28 (dk_at dksX3_run_6 11 rfl rfl)
theorem dX3_run_152 : decode cX3_run 152 = .ok (.invokevirtual 67, 3) := dk_182 0 67 (dk_at dksX3_run_6 12 rfl rfl)
theorem dX3_run_155 : decode cX3_run 155 = .ok (.ireturn, 1) := dk_172 (dk_at dksX3_run_6 15 rfl rfl)
abbrev cX3_isOrder : ByteArray := prog_12_method_52_code
def yX3_isOrder : MethodName := ⟨RX3, "isOrder", "()Z"⟩
def dkwX3_isOrder_12 : List UInt8 := [153, 0, 7, 4, 167, 0, 4, 3, 172, 42, 18, 196, 182, 0, 165, 172, 3, 172]
abbrev dktX3_isOrder_12 : List UInt8 := dkwX3_isOrder_12 ++ []
def dkwX3_isOrder_11 : List UInt8 := [153, 0, 7, 4, 167, 0, 4, 3, 172, 42, 18, 194, 182, 0, 165, 153, 0, 16, 42, 3, 4, 182, 0, 169]
abbrev dktX3_isOrder_11 : List UInt8 := dkwX3_isOrder_11 ++ dktX3_isOrder_12
def dkwX3_isOrder_10 : List UInt8 := [153, 0, 7, 4, 167, 0, 4, 3, 172, 42, 18, 192, 182, 0, 165, 153, 0, 16, 42, 3, 5, 182, 0, 169]
abbrev dktX3_isOrder_10 : List UInt8 := dkwX3_isOrder_10 ++ dktX3_isOrder_11
def dkwX3_isOrder_9 : List UInt8 := [42, 18, 181, 182, 0, 165, 153, 0, 24, 42, 4, 4, 182, 0, 169, 153, 0, 15, 42, 5, 182, 0, 189]
abbrev dktX3_isOrder_9 : List UInt8 := dkwX3_isOrder_9 ++ dktX3_isOrder_10
def dkwX3_isOrder_8 : List UInt8 := [4, 167, 0, 4, 3, 172, 42, 18, 187, 182, 0, 165, 153, 0, 42, 42, 3, 4, 182, 0, 169, 153, 0, 33]
abbrev dktX3_isOrder_8 : List UInt8 := dkwX3_isOrder_8 ++ dktX3_isOrder_9
def dkwX3_isOrder_7 : List UInt8 := [4, 167, 0, 4, 3, 172, 42, 18, 185, 182, 0, 165, 153, 0, 16, 42, 3, 4, 182, 0, 169, 153, 0, 7]
abbrev dktX3_isOrder_7 : List UInt8 := dkwX3_isOrder_7 ++ dktX3_isOrder_8
def dkwX3_isOrder_6 : List UInt8 := [182, 0, 169, 153, 0, 25, 42, 18, 183, 182, 0, 165, 153, 0, 16, 42, 5, 5, 182, 0, 169, 153, 0, 7]
abbrev dktX3_isOrder_6 : List UInt8 := dkwX3_isOrder_6 ++ dktX3_isOrder_7
def dkwX3_isOrder_5 : List UInt8 := [153, 0, 52, 42, 3, 4, 182, 0, 169, 153, 0, 43, 42, 18, 181, 182, 0, 165, 153, 0, 34, 42, 4, 4]
abbrev dktX3_isOrder_5 : List UInt8 := dkwX3_isOrder_5 ++ dktX3_isOrder_6
def dkwX3_isOrder_4 : List UInt8 := [153, 0, 16, 42, 4, 5, 182, 0, 169, 153, 0, 7, 4, 167, 0, 4, 3, 172, 42, 18, 179, 182, 0, 165]
abbrev dktX3_isOrder_4 : List UInt8 := dkwX3_isOrder_4 ++ dktX3_isOrder_5
def dkwX3_isOrder_3 : List UInt8 := [42, 18, 175, 182, 0, 165, 153, 0, 34, 42, 3, 4, 182, 0, 169, 153, 0, 25, 42, 18, 177, 182, 0, 165]
abbrev dktX3_isOrder_3 : List UInt8 := dkwX3_isOrder_3 ++ dktX3_isOrder_4
def dkwX3_isOrder_2 : List UInt8 := [170, 0, 0, 0, 1, 65, 0, 0, 0, 98, 0, 0, 0, 116, 0, 0, 1, 10, 0, 0, 1, 65, 0, 0, 1, 58, 0, 0, 1, 65, 0, 0, 1, 65, 0, 0, 0, 90, 0, 0, 1, 65, 0, 0, 1, 65, 0, 0, 1, 65, 0, 0, 1, 65, 0, 0, 1, 65, 0, 0, 1, 65, 0, 0, 1, 65, 0, 0, 1, 65, 0, 0, 0, 192, 0, 0, 1, 65, 0, 0, 0, 132, 0, 0, 1, 34, 0, 0, 0, 216]
abbrev dktX3_isOrder_2 : List UInt8 := dkwX3_isOrder_2 ++ dktX3_isOrder_3
def dkwX3_isOrder_1 : List UInt8 := [181, 0, 172, 42, 180, 0, 172]
abbrev dktX3_isOrder_1 : List UInt8 := dkwX3_isOrder_1 ++ dktX3_isOrder_2
def dkwX3_isOrder_0 : List UInt8 := [42, 180, 0, 156, 42, 180, 0, 149, 160, 0, 5, 3, 172, 42, 42, 180, 0, 25, 42, 180, 0, 156, 46]
abbrev dktX3_isOrder_0 : List UInt8 := dkwX3_isOrder_0 ++ dktX3_isOrder_1
theorem dksX3_isOrder_0 : cX3_isOrder.data.toList.drop 0 = dktX3_isOrder_0 := by decide +kernel
theorem dksX3_isOrder_1 : cX3_isOrder.data.toList.drop 23 = dktX3_isOrder_1 := dk_seg dksX3_isOrder_0 23 rfl rfl
theorem dksX3_isOrder_2 : cX3_isOrder.data.toList.drop 30 = dktX3_isOrder_2 := dk_seg dksX3_isOrder_1 7 rfl rfl
theorem dksX3_isOrder_3 : cX3_isOrder.data.toList.drop 120 = dktX3_isOrder_3 := dk_seg dksX3_isOrder_2 90 rfl rfl
theorem dksX3_isOrder_4 : cX3_isOrder.data.toList.drop 144 = dktX3_isOrder_4 := dk_seg dksX3_isOrder_3 24 rfl rfl
theorem dksX3_isOrder_5 : cX3_isOrder.data.toList.drop 168 = dktX3_isOrder_5 := dk_seg dksX3_isOrder_4 24 rfl rfl
theorem dksX3_isOrder_6 : cX3_isOrder.data.toList.drop 192 = dktX3_isOrder_6 := dk_seg dksX3_isOrder_5 24 rfl rfl
theorem dksX3_isOrder_7 : cX3_isOrder.data.toList.drop 216 = dktX3_isOrder_7 := dk_seg dksX3_isOrder_6 24 rfl rfl
theorem dksX3_isOrder_8 : cX3_isOrder.data.toList.drop 240 = dktX3_isOrder_8 := dk_seg dksX3_isOrder_7 24 rfl rfl
theorem dksX3_isOrder_9 : cX3_isOrder.data.toList.drop 264 = dktX3_isOrder_9 := dk_seg dksX3_isOrder_8 24 rfl rfl
theorem dksX3_isOrder_10 : cX3_isOrder.data.toList.drop 287 = dktX3_isOrder_10 := dk_seg dksX3_isOrder_9 23 rfl rfl
theorem dksX3_isOrder_11 : cX3_isOrder.data.toList.drop 311 = dktX3_isOrder_11 := dk_seg dksX3_isOrder_10 24 rfl rfl
theorem dksX3_isOrder_12 : cX3_isOrder.data.toList.drop 335 = dktX3_isOrder_12 := dk_seg dksX3_isOrder_11 24 rfl rfl
theorem dX3_isOrder_0 : decode cX3_isOrder 0 = .ok (.aload_n 0, 1) := dk_42 (dk_at dksX3_isOrder_0 0 rfl rfl)
theorem dX3_isOrder_1 : decode cX3_isOrder 1 = .ok (.getfield 156, 3) := dk_180 0 156 (dk_at dksX3_isOrder_0 1 rfl rfl)
theorem dX3_isOrder_4 : decode cX3_isOrder 4 = .ok (.aload_n 0, 1) := dk_42 (dk_at dksX3_isOrder_0 4 rfl rfl)
theorem dX3_isOrder_5 : decode cX3_isOrder 5 = .ok (.getfield 149, 3) := dk_180 0 149 (dk_at dksX3_isOrder_0 5 rfl rfl)
theorem dX3_isOrder_8 : decode cX3_isOrder 8 = .ok (.if_icmp .ne 5, 3) := dk_160 0 5 (dk_at dksX3_isOrder_0 8 rfl rfl)
theorem dX3_isOrder_11 : decode cX3_isOrder 11 = .ok (.iconst 0, 1) := dk_3 (dk_at dksX3_isOrder_0 11 rfl rfl)
theorem dX3_isOrder_12 : decode cX3_isOrder 12 = .ok (.ireturn, 1) := dk_172 (dk_at dksX3_isOrder_0 12 rfl rfl)
theorem dX3_isOrder_13 : decode cX3_isOrder 13 = .ok (.aload_n 0, 1) := dk_42 (dk_at dksX3_isOrder_0 13 rfl rfl)
theorem dX3_isOrder_14 : decode cX3_isOrder 14 = .ok (.aload_n 0, 1) := dk_42 (dk_at dksX3_isOrder_0 14 rfl rfl)
theorem dX3_isOrder_15 : decode cX3_isOrder 15 = .ok (.getfield 25, 3) := dk_180 0 25 (dk_at dksX3_isOrder_0 15 rfl rfl)
theorem dX3_isOrder_18 : decode cX3_isOrder 18 = .ok (.aload_n 0, 1) := dk_42 (dk_at dksX3_isOrder_0 18 rfl rfl)
theorem dX3_isOrder_19 : decode cX3_isOrder 19 = .ok (.getfield 156, 3) := dk_180 0 156 (dk_at dksX3_isOrder_0 19 rfl rfl)
theorem dX3_isOrder_22 : decode cX3_isOrder 22 = .ok (.iaload, 1) := dk_46 (dk_at dksX3_isOrder_0 22 rfl rfl)
theorem dX3_isOrder_23 : decode cX3_isOrder 23 = .ok (.putfield 172, 3) := dk_181 0 172 (dk_at dksX3_isOrder_1 0 rfl rfl)
theorem dX3_isOrder_26 : decode cX3_isOrder 26 = .ok (.aload_n 0, 1) := dk_42 (dk_at dksX3_isOrder_1 3 rfl rfl)
theorem dX3_isOrder_27 : decode cX3_isOrder 27 = .ok (.getfield 172, 3) := dk_180 0 172 (dk_at dksX3_isOrder_1 4 rfl rfl)
theorem dX3_isOrder_30 : decode cX3_isOrder 30 = .ok (.tableswitch 321 98 116 #[266, 321, 314, 321, 321, 90, 321, 321, 321, 321, 321, 321, 321, 321, 192, 321, 132, 290, 216], 90) := by decide +kernel
theorem dX3_isOrder_120 : decode cX3_isOrder 120 = .ok (.aload_n 0, 1) := dk_42 (dk_at dksX3_isOrder_3 0 rfl rfl)
theorem dX3_isOrder_121 : decode cX3_isOrder 121 = .ok (.ldc 175, 2) := dk_18 175 (dk_at dksX3_isOrder_3 1 rfl rfl)
theorem dX3_isOrder_123 : decode cX3_isOrder 123 = .ok (.invokevirtual 165, 3) := dk_182 0 165 (dk_at dksX3_isOrder_3 3 rfl rfl)
theorem dX3_isOrder_126 : decode cX3_isOrder 126 = .ok (.ifCond .eq 34, 3) := dk_153 0 34 (dk_at dksX3_isOrder_3 6 rfl rfl)
theorem dX3_isOrder_129 : decode cX3_isOrder 129 = .ok (.aload_n 0, 1) := dk_42 (dk_at dksX3_isOrder_3 9 rfl rfl)
theorem dX3_isOrder_130 : decode cX3_isOrder 130 = .ok (.iconst 0, 1) := dk_3 (dk_at dksX3_isOrder_3 10 rfl rfl)
theorem dX3_isOrder_131 : decode cX3_isOrder 131 = .ok (.iconst 1, 1) := dk_4 (dk_at dksX3_isOrder_3 11 rfl rfl)
theorem dX3_isOrder_132 : decode cX3_isOrder 132 = .ok (.invokevirtual 169, 3) := dk_182 0 169 (dk_at dksX3_isOrder_3 12 rfl rfl)
theorem dX3_isOrder_135 : decode cX3_isOrder 135 = .ok (.ifCond .eq 25, 3) := dk_153 0 25 (dk_at dksX3_isOrder_3 15 rfl rfl)
theorem dX3_isOrder_138 : decode cX3_isOrder 138 = .ok (.aload_n 0, 1) := dk_42 (dk_at dksX3_isOrder_3 18 rfl rfl)
theorem dX3_isOrder_139 : decode cX3_isOrder 139 = .ok (.ldc 177, 2) := dk_18 177 (dk_at dksX3_isOrder_3 19 rfl rfl)
theorem dX3_isOrder_141 : decode cX3_isOrder 141 = .ok (.invokevirtual 165, 3) := dk_182 0 165 (dk_at dksX3_isOrder_3 21 rfl rfl)
theorem dX3_isOrder_144 : decode cX3_isOrder 144 = .ok (.ifCond .eq 16, 3) := dk_153 0 16 (dk_at dksX3_isOrder_4 0 rfl rfl)
theorem dX3_isOrder_147 : decode cX3_isOrder 147 = .ok (.aload_n 0, 1) := dk_42 (dk_at dksX3_isOrder_4 3 rfl rfl)
theorem dX3_isOrder_148 : decode cX3_isOrder 148 = .ok (.iconst 1, 1) := dk_4 (dk_at dksX3_isOrder_4 4 rfl rfl)
theorem dX3_isOrder_149 : decode cX3_isOrder 149 = .ok (.iconst 2, 1) := dk_5 (dk_at dksX3_isOrder_4 5 rfl rfl)
theorem dX3_isOrder_150 : decode cX3_isOrder 150 = .ok (.invokevirtual 169, 3) := dk_182 0 169 (dk_at dksX3_isOrder_4 6 rfl rfl)
theorem dX3_isOrder_153 : decode cX3_isOrder 153 = .ok (.ifCond .eq 7, 3) := dk_153 0 7 (dk_at dksX3_isOrder_4 9 rfl rfl)
theorem dX3_isOrder_156 : decode cX3_isOrder 156 = .ok (.iconst 1, 1) := dk_4 (dk_at dksX3_isOrder_4 12 rfl rfl)
theorem dX3_isOrder_157 : decode cX3_isOrder 157 = .ok (.goto 4, 3) := dk_167 0 4 (dk_at dksX3_isOrder_4 13 rfl rfl)
theorem dX3_isOrder_160 : decode cX3_isOrder 160 = .ok (.iconst 0, 1) := dk_3 (dk_at dksX3_isOrder_4 16 rfl rfl)
theorem dX3_isOrder_161 : decode cX3_isOrder 161 = .ok (.ireturn, 1) := dk_172 (dk_at dksX3_isOrder_4 17 rfl rfl)
theorem dX3_isOrder_162 : decode cX3_isOrder 162 = .ok (.aload_n 0, 1) := dk_42 (dk_at dksX3_isOrder_4 18 rfl rfl)
theorem dX3_isOrder_163 : decode cX3_isOrder 163 = .ok (.ldc 179, 2) := dk_18 179 (dk_at dksX3_isOrder_4 19 rfl rfl)
theorem dX3_isOrder_165 : decode cX3_isOrder 165 = .ok (.invokevirtual 165, 3) := dk_182 0 165 (dk_at dksX3_isOrder_4 21 rfl rfl)
theorem dX3_isOrder_168 : decode cX3_isOrder 168 = .ok (.ifCond .eq 52, 3) := dk_153 0 52 (dk_at dksX3_isOrder_5 0 rfl rfl)
theorem dX3_isOrder_171 : decode cX3_isOrder 171 = .ok (.aload_n 0, 1) := dk_42 (dk_at dksX3_isOrder_5 3 rfl rfl)
theorem dX3_isOrder_172 : decode cX3_isOrder 172 = .ok (.iconst 0, 1) := dk_3 (dk_at dksX3_isOrder_5 4 rfl rfl)
theorem dX3_isOrder_173 : decode cX3_isOrder 173 = .ok (.iconst 1, 1) := dk_4 (dk_at dksX3_isOrder_5 5 rfl rfl)
theorem dX3_isOrder_174 : decode cX3_isOrder 174 = .ok (.invokevirtual 169, 3) := dk_182 0 169 (dk_at dksX3_isOrder_5 6 rfl rfl)
theorem dX3_isOrder_177 : decode cX3_isOrder 177 = .ok (.ifCond .eq 43, 3) := dk_153 0 43 (dk_at dksX3_isOrder_5 9 rfl rfl)
theorem dX3_isOrder_180 : decode cX3_isOrder 180 = .ok (.aload_n 0, 1) := dk_42 (dk_at dksX3_isOrder_5 12 rfl rfl)
theorem dX3_isOrder_181 : decode cX3_isOrder 181 = .ok (.ldc 181, 2) := dk_18 181 (dk_at dksX3_isOrder_5 13 rfl rfl)
theorem dX3_isOrder_183 : decode cX3_isOrder 183 = .ok (.invokevirtual 165, 3) := dk_182 0 165 (dk_at dksX3_isOrder_5 15 rfl rfl)
theorem dX3_isOrder_186 : decode cX3_isOrder 186 = .ok (.ifCond .eq 34, 3) := dk_153 0 34 (dk_at dksX3_isOrder_5 18 rfl rfl)
theorem dX3_isOrder_189 : decode cX3_isOrder 189 = .ok (.aload_n 0, 1) := dk_42 (dk_at dksX3_isOrder_5 21 rfl rfl)
theorem dX3_isOrder_190 : decode cX3_isOrder 190 = .ok (.iconst 1, 1) := dk_4 (dk_at dksX3_isOrder_5 22 rfl rfl)
theorem dX3_isOrder_191 : decode cX3_isOrder 191 = .ok (.iconst 1, 1) := dk_4 (dk_at dksX3_isOrder_5 23 rfl rfl)
theorem dX3_isOrder_192 : decode cX3_isOrder 192 = .ok (.invokevirtual 169, 3) := dk_182 0 169 (dk_at dksX3_isOrder_6 0 rfl rfl)
theorem dX3_isOrder_195 : decode cX3_isOrder 195 = .ok (.ifCond .eq 25, 3) := dk_153 0 25 (dk_at dksX3_isOrder_6 3 rfl rfl)
theorem dX3_isOrder_198 : decode cX3_isOrder 198 = .ok (.aload_n 0, 1) := dk_42 (dk_at dksX3_isOrder_6 6 rfl rfl)
theorem dX3_isOrder_199 : decode cX3_isOrder 199 = .ok (.ldc 183, 2) := dk_18 183 (dk_at dksX3_isOrder_6 7 rfl rfl)
theorem dX3_isOrder_201 : decode cX3_isOrder 201 = .ok (.invokevirtual 165, 3) := dk_182 0 165 (dk_at dksX3_isOrder_6 9 rfl rfl)
theorem dX3_isOrder_204 : decode cX3_isOrder 204 = .ok (.ifCond .eq 16, 3) := dk_153 0 16 (dk_at dksX3_isOrder_6 12 rfl rfl)
theorem dX3_isOrder_207 : decode cX3_isOrder 207 = .ok (.aload_n 0, 1) := dk_42 (dk_at dksX3_isOrder_6 15 rfl rfl)
theorem dX3_isOrder_208 : decode cX3_isOrder 208 = .ok (.iconst 2, 1) := dk_5 (dk_at dksX3_isOrder_6 16 rfl rfl)
theorem dX3_isOrder_209 : decode cX3_isOrder 209 = .ok (.iconst 2, 1) := dk_5 (dk_at dksX3_isOrder_6 17 rfl rfl)
theorem dX3_isOrder_210 : decode cX3_isOrder 210 = .ok (.invokevirtual 169, 3) := dk_182 0 169 (dk_at dksX3_isOrder_6 18 rfl rfl)
theorem dX3_isOrder_213 : decode cX3_isOrder 213 = .ok (.ifCond .eq 7, 3) := dk_153 0 7 (dk_at dksX3_isOrder_6 21 rfl rfl)
theorem dX3_isOrder_216 : decode cX3_isOrder 216 = .ok (.iconst 1, 1) := dk_4 (dk_at dksX3_isOrder_7 0 rfl rfl)
theorem dX3_isOrder_217 : decode cX3_isOrder 217 = .ok (.goto 4, 3) := dk_167 0 4 (dk_at dksX3_isOrder_7 1 rfl rfl)
theorem dX3_isOrder_220 : decode cX3_isOrder 220 = .ok (.iconst 0, 1) := dk_3 (dk_at dksX3_isOrder_7 4 rfl rfl)
theorem dX3_isOrder_221 : decode cX3_isOrder 221 = .ok (.ireturn, 1) := dk_172 (dk_at dksX3_isOrder_7 5 rfl rfl)
theorem dX3_isOrder_222 : decode cX3_isOrder 222 = .ok (.aload_n 0, 1) := dk_42 (dk_at dksX3_isOrder_7 6 rfl rfl)
theorem dX3_isOrder_223 : decode cX3_isOrder 223 = .ok (.ldc 185, 2) := dk_18 185 (dk_at dksX3_isOrder_7 7 rfl rfl)
theorem dX3_isOrder_225 : decode cX3_isOrder 225 = .ok (.invokevirtual 165, 3) := dk_182 0 165 (dk_at dksX3_isOrder_7 9 rfl rfl)
theorem dX3_isOrder_228 : decode cX3_isOrder 228 = .ok (.ifCond .eq 16, 3) := dk_153 0 16 (dk_at dksX3_isOrder_7 12 rfl rfl)
theorem dX3_isOrder_231 : decode cX3_isOrder 231 = .ok (.aload_n 0, 1) := dk_42 (dk_at dksX3_isOrder_7 15 rfl rfl)
theorem dX3_isOrder_232 : decode cX3_isOrder 232 = .ok (.iconst 0, 1) := dk_3 (dk_at dksX3_isOrder_7 16 rfl rfl)
theorem dX3_isOrder_233 : decode cX3_isOrder 233 = .ok (.iconst 1, 1) := dk_4 (dk_at dksX3_isOrder_7 17 rfl rfl)
theorem dX3_isOrder_234 : decode cX3_isOrder 234 = .ok (.invokevirtual 169, 3) := dk_182 0 169 (dk_at dksX3_isOrder_7 18 rfl rfl)
theorem dX3_isOrder_237 : decode cX3_isOrder 237 = .ok (.ifCond .eq 7, 3) := dk_153 0 7 (dk_at dksX3_isOrder_7 21 rfl rfl)
theorem dX3_isOrder_240 : decode cX3_isOrder 240 = .ok (.iconst 1, 1) := dk_4 (dk_at dksX3_isOrder_8 0 rfl rfl)
theorem dX3_isOrder_241 : decode cX3_isOrder 241 = .ok (.goto 4, 3) := dk_167 0 4 (dk_at dksX3_isOrder_8 1 rfl rfl)
theorem dX3_isOrder_244 : decode cX3_isOrder 244 = .ok (.iconst 0, 1) := dk_3 (dk_at dksX3_isOrder_8 4 rfl rfl)
theorem dX3_isOrder_245 : decode cX3_isOrder 245 = .ok (.ireturn, 1) := dk_172 (dk_at dksX3_isOrder_8 5 rfl rfl)
theorem dX3_isOrder_246 : decode cX3_isOrder 246 = .ok (.aload_n 0, 1) := dk_42 (dk_at dksX3_isOrder_8 6 rfl rfl)
theorem dX3_isOrder_247 : decode cX3_isOrder 247 = .ok (.ldc 187, 2) := dk_18 187 (dk_at dksX3_isOrder_8 7 rfl rfl)
theorem dX3_isOrder_249 : decode cX3_isOrder 249 = .ok (.invokevirtual 165, 3) := dk_182 0 165 (dk_at dksX3_isOrder_8 9 rfl rfl)
theorem dX3_isOrder_252 : decode cX3_isOrder 252 = .ok (.ifCond .eq 42, 3) := dk_153 0 42 (dk_at dksX3_isOrder_8 12 rfl rfl)
theorem dX3_isOrder_255 : decode cX3_isOrder 255 = .ok (.aload_n 0, 1) := dk_42 (dk_at dksX3_isOrder_8 15 rfl rfl)
theorem dX3_isOrder_256 : decode cX3_isOrder 256 = .ok (.iconst 0, 1) := dk_3 (dk_at dksX3_isOrder_8 16 rfl rfl)
theorem dX3_isOrder_257 : decode cX3_isOrder 257 = .ok (.iconst 1, 1) := dk_4 (dk_at dksX3_isOrder_8 17 rfl rfl)
theorem dX3_isOrder_258 : decode cX3_isOrder 258 = .ok (.invokevirtual 169, 3) := dk_182 0 169 (dk_at dksX3_isOrder_8 18 rfl rfl)
theorem dX3_isOrder_261 : decode cX3_isOrder 261 = .ok (.ifCond .eq 33, 3) := dk_153 0 33 (dk_at dksX3_isOrder_8 21 rfl rfl)
theorem dX3_isOrder_264 : decode cX3_isOrder 264 = .ok (.aload_n 0, 1) := dk_42 (dk_at dksX3_isOrder_9 0 rfl rfl)
theorem dX3_isOrder_265 : decode cX3_isOrder 265 = .ok (.ldc 181, 2) := dk_18 181 (dk_at dksX3_isOrder_9 1 rfl rfl)
theorem dX3_isOrder_267 : decode cX3_isOrder 267 = .ok (.invokevirtual 165, 3) := dk_182 0 165 (dk_at dksX3_isOrder_9 3 rfl rfl)
theorem dX3_isOrder_270 : decode cX3_isOrder 270 = .ok (.ifCond .eq 24, 3) := dk_153 0 24 (dk_at dksX3_isOrder_9 6 rfl rfl)
theorem dX3_isOrder_273 : decode cX3_isOrder 273 = .ok (.aload_n 0, 1) := dk_42 (dk_at dksX3_isOrder_9 9 rfl rfl)
theorem dX3_isOrder_274 : decode cX3_isOrder 274 = .ok (.iconst 1, 1) := dk_4 (dk_at dksX3_isOrder_9 10 rfl rfl)
theorem dX3_isOrder_275 : decode cX3_isOrder 275 = .ok (.iconst 1, 1) := dk_4 (dk_at dksX3_isOrder_9 11 rfl rfl)
theorem dX3_isOrder_276 : decode cX3_isOrder 276 = .ok (.invokevirtual 169, 3) := dk_182 0 169 (dk_at dksX3_isOrder_9 12 rfl rfl)
theorem dX3_isOrder_279 : decode cX3_isOrder 279 = .ok (.ifCond .eq 15, 3) := dk_153 0 15 (dk_at dksX3_isOrder_9 15 rfl rfl)
theorem dX3_isOrder_282 : decode cX3_isOrder 282 = .ok (.aload_n 0, 1) := dk_42 (dk_at dksX3_isOrder_9 18 rfl rfl)
theorem dX3_isOrder_283 : decode cX3_isOrder 283 = .ok (.iconst 2, 1) := dk_5 (dk_at dksX3_isOrder_9 19 rfl rfl)
theorem dX3_isOrder_284 : decode cX3_isOrder 284 = .ok (.invokevirtual 189, 3) := dk_182 0 189 (dk_at dksX3_isOrder_9 20 rfl rfl)
theorem dX3_isOrder_287 : decode cX3_isOrder 287 = .ok (.ifCond .eq 7, 3) := dk_153 0 7 (dk_at dksX3_isOrder_10 0 rfl rfl)
theorem dX3_isOrder_290 : decode cX3_isOrder 290 = .ok (.iconst 1, 1) := dk_4 (dk_at dksX3_isOrder_10 3 rfl rfl)
theorem dX3_isOrder_291 : decode cX3_isOrder 291 = .ok (.goto 4, 3) := dk_167 0 4 (dk_at dksX3_isOrder_10 4 rfl rfl)
theorem dX3_isOrder_294 : decode cX3_isOrder 294 = .ok (.iconst 0, 1) := dk_3 (dk_at dksX3_isOrder_10 7 rfl rfl)
theorem dX3_isOrder_295 : decode cX3_isOrder 295 = .ok (.ireturn, 1) := dk_172 (dk_at dksX3_isOrder_10 8 rfl rfl)
theorem dX3_isOrder_296 : decode cX3_isOrder 296 = .ok (.aload_n 0, 1) := dk_42 (dk_at dksX3_isOrder_10 9 rfl rfl)
theorem dX3_isOrder_297 : decode cX3_isOrder 297 = .ok (.ldc 192, 2) := dk_18 192 (dk_at dksX3_isOrder_10 10 rfl rfl)
theorem dX3_isOrder_299 : decode cX3_isOrder 299 = .ok (.invokevirtual 165, 3) := dk_182 0 165 (dk_at dksX3_isOrder_10 12 rfl rfl)
theorem dX3_isOrder_302 : decode cX3_isOrder 302 = .ok (.ifCond .eq 16, 3) := dk_153 0 16 (dk_at dksX3_isOrder_10 15 rfl rfl)
theorem dX3_isOrder_305 : decode cX3_isOrder 305 = .ok (.aload_n 0, 1) := dk_42 (dk_at dksX3_isOrder_10 18 rfl rfl)
theorem dX3_isOrder_306 : decode cX3_isOrder 306 = .ok (.iconst 0, 1) := dk_3 (dk_at dksX3_isOrder_10 19 rfl rfl)
theorem dX3_isOrder_307 : decode cX3_isOrder 307 = .ok (.iconst 2, 1) := dk_5 (dk_at dksX3_isOrder_10 20 rfl rfl)
theorem dX3_isOrder_308 : decode cX3_isOrder 308 = .ok (.invokevirtual 169, 3) := dk_182 0 169 (dk_at dksX3_isOrder_10 21 rfl rfl)
theorem dX3_isOrder_311 : decode cX3_isOrder 311 = .ok (.ifCond .eq 7, 3) := dk_153 0 7 (dk_at dksX3_isOrder_11 0 rfl rfl)
theorem dX3_isOrder_314 : decode cX3_isOrder 314 = .ok (.iconst 1, 1) := dk_4 (dk_at dksX3_isOrder_11 3 rfl rfl)
theorem dX3_isOrder_315 : decode cX3_isOrder 315 = .ok (.goto 4, 3) := dk_167 0 4 (dk_at dksX3_isOrder_11 4 rfl rfl)
theorem dX3_isOrder_318 : decode cX3_isOrder 318 = .ok (.iconst 0, 1) := dk_3 (dk_at dksX3_isOrder_11 7 rfl rfl)
theorem dX3_isOrder_319 : decode cX3_isOrder 319 = .ok (.ireturn, 1) := dk_172 (dk_at dksX3_isOrder_11 8 rfl rfl)
theorem dX3_isOrder_320 : decode cX3_isOrder 320 = .ok (.aload_n 0, 1) := dk_42 (dk_at dksX3_isOrder_11 9 rfl rfl)
theorem dX3_isOrder_321 : decode cX3_isOrder 321 = .ok (.ldc 194, 2) := dk_18 194 (dk_at dksX3_isOrder_11 10 rfl rfl)
theorem dX3_isOrder_323 : decode cX3_isOrder 323 = .ok (.invokevirtual 165, 3) := dk_182 0 165 (dk_at dksX3_isOrder_11 12 rfl rfl)
theorem dX3_isOrder_326 : decode cX3_isOrder 326 = .ok (.ifCond .eq 16, 3) := dk_153 0 16 (dk_at dksX3_isOrder_11 15 rfl rfl)
theorem dX3_isOrder_329 : decode cX3_isOrder 329 = .ok (.aload_n 0, 1) := dk_42 (dk_at dksX3_isOrder_11 18 rfl rfl)
theorem dX3_isOrder_330 : decode cX3_isOrder 330 = .ok (.iconst 0, 1) := dk_3 (dk_at dksX3_isOrder_11 19 rfl rfl)
theorem dX3_isOrder_331 : decode cX3_isOrder 331 = .ok (.iconst 1, 1) := dk_4 (dk_at dksX3_isOrder_11 20 rfl rfl)
theorem dX3_isOrder_332 : decode cX3_isOrder 332 = .ok (.invokevirtual 169, 3) := dk_182 0 169 (dk_at dksX3_isOrder_11 21 rfl rfl)
theorem dX3_isOrder_335 : decode cX3_isOrder 335 = .ok (.ifCond .eq 7, 3) := dk_153 0 7 (dk_at dksX3_isOrder_12 0 rfl rfl)
theorem dX3_isOrder_338 : decode cX3_isOrder 338 = .ok (.iconst 1, 1) := dk_4 (dk_at dksX3_isOrder_12 3 rfl rfl)
theorem dX3_isOrder_339 : decode cX3_isOrder 339 = .ok (.goto 4, 3) := dk_167 0 4 (dk_at dksX3_isOrder_12 4 rfl rfl)
theorem dX3_isOrder_342 : decode cX3_isOrder 342 = .ok (.iconst 0, 1) := dk_3 (dk_at dksX3_isOrder_12 7 rfl rfl)
theorem dX3_isOrder_343 : decode cX3_isOrder 343 = .ok (.ireturn, 1) := dk_172 (dk_at dksX3_isOrder_12 8 rfl rfl)
theorem dX3_isOrder_344 : decode cX3_isOrder 344 = .ok (.aload_n 0, 1) := dk_42 (dk_at dksX3_isOrder_12 9 rfl rfl)
theorem dX3_isOrder_345 : decode cX3_isOrder 345 = .ok (.ldc 196, 2) := dk_18 196 (dk_at dksX3_isOrder_12 10 rfl rfl)
theorem dX3_isOrder_347 : decode cX3_isOrder 347 = .ok (.invokevirtual 165, 3) := dk_182 0 165 (dk_at dksX3_isOrder_12 12 rfl rfl)
theorem dX3_isOrder_350 : decode cX3_isOrder 350 = .ok (.ireturn, 1) := dk_172 (dk_at dksX3_isOrder_12 15 rfl rfl)
theorem dX3_isOrder_351 : decode cX3_isOrder 351 = .ok (.iconst 0, 1) := dk_3 (dk_at dksX3_isOrder_12 16 rfl rfl)
theorem dX3_isOrder_352 : decode cX3_isOrder 352 = .ok (.ireturn, 1) := dk_172 (dk_at dksX3_isOrder_12 17 rfl rfl)
abbrev cX3_word : ByteArray := prog_12_method_49_code
def yX3_word : MethodName := ⟨RX3, "word", "(Ljava/lang/String;)Z"⟩
def dkwX3_word_2 : List UInt8 := [96, 181, 0, 156, 132, 2, 1, 167, 255, 205, 4, 172]
abbrev dktX3_word_2 : List UInt8 := dkwX3_word_2 ++ []
def dkwX3_word_1 : List UInt8 := [180, 0, 25, 42, 180, 0, 156, 46, 43, 28, 182, 0, 159, 159, 0, 5, 3, 172, 42, 89, 180, 0, 156, 4]
abbrev dktX3_word_1 : List UInt8 := dkwX3_word_1 ++ dktX3_word_2
def dkwX3_word_0 : List UInt8 := [3, 61, 28, 43, 182, 0, 152, 162, 0, 49, 42, 180, 0, 156, 42, 180, 0, 149, 159, 0, 20, 42]
abbrev dktX3_word_0 : List UInt8 := dkwX3_word_0 ++ dktX3_word_1
theorem dksX3_word_0 : cX3_word.data.toList.drop 0 = dktX3_word_0 := by decide +kernel
theorem dksX3_word_1 : cX3_word.data.toList.drop 22 = dktX3_word_1 := dk_seg dksX3_word_0 22 rfl rfl
theorem dksX3_word_2 : cX3_word.data.toList.drop 46 = dktX3_word_2 := dk_seg dksX3_word_1 24 rfl rfl
theorem dX3_word_0 : decode cX3_word 0 = .ok (.iconst 0, 1) := dk_3 (dk_at dksX3_word_0 0 rfl rfl)
theorem dX3_word_1 : decode cX3_word 1 = .ok (.istore_n 2, 1) := dk_61 (dk_at dksX3_word_0 1 rfl rfl)
theorem dX3_word_2 : decode cX3_word 2 = .ok (.iload_n 2, 1) := dk_28 (dk_at dksX3_word_0 2 rfl rfl)
theorem dX3_word_3 : decode cX3_word 3 = .ok (.aload_n 1, 1) := dk_43 (dk_at dksX3_word_0 3 rfl rfl)
theorem dX3_word_4 : decode cX3_word 4 = .ok (.invokevirtual 152, 3) := dk_182 0 152 (dk_at dksX3_word_0 4 rfl rfl)
theorem dX3_word_7 : decode cX3_word 7 = .ok (.if_icmp .ge 49, 3) := dk_162 0 49 (dk_at dksX3_word_0 7 rfl rfl)
theorem dX3_word_10 : decode cX3_word 10 = .ok (.aload_n 0, 1) := dk_42 (dk_at dksX3_word_0 10 rfl rfl)
theorem dX3_word_11 : decode cX3_word 11 = .ok (.getfield 156, 3) := dk_180 0 156 (dk_at dksX3_word_0 11 rfl rfl)
theorem dX3_word_14 : decode cX3_word 14 = .ok (.aload_n 0, 1) := dk_42 (dk_at dksX3_word_0 14 rfl rfl)
theorem dX3_word_15 : decode cX3_word 15 = .ok (.getfield 149, 3) := dk_180 0 149 (dk_at dksX3_word_0 15 rfl rfl)
theorem dX3_word_18 : decode cX3_word 18 = .ok (.if_icmp .eq 20, 3) := dk_159 0 20 (dk_at dksX3_word_0 18 rfl rfl)
theorem dX3_word_21 : decode cX3_word 21 = .ok (.aload_n 0, 1) := dk_42 (dk_at dksX3_word_0 21 rfl rfl)
theorem dX3_word_22 : decode cX3_word 22 = .ok (.getfield 25, 3) := dk_180 0 25 (dk_at dksX3_word_1 0 rfl rfl)
theorem dX3_word_25 : decode cX3_word 25 = .ok (.aload_n 0, 1) := dk_42 (dk_at dksX3_word_1 3 rfl rfl)
theorem dX3_word_26 : decode cX3_word 26 = .ok (.getfield 156, 3) := dk_180 0 156 (dk_at dksX3_word_1 4 rfl rfl)
theorem dX3_word_29 : decode cX3_word 29 = .ok (.iaload, 1) := dk_46 (dk_at dksX3_word_1 7 rfl rfl)
theorem dX3_word_30 : decode cX3_word 30 = .ok (.aload_n 1, 1) := dk_43 (dk_at dksX3_word_1 8 rfl rfl)
theorem dX3_word_31 : decode cX3_word 31 = .ok (.iload_n 2, 1) := dk_28 (dk_at dksX3_word_1 9 rfl rfl)
theorem dX3_word_32 : decode cX3_word 32 = .ok (.invokevirtual 159, 3) := dk_182 0 159 (dk_at dksX3_word_1 10 rfl rfl)
theorem dX3_word_35 : decode cX3_word 35 = .ok (.if_icmp .eq 5, 3) := dk_159 0 5 (dk_at dksX3_word_1 13 rfl rfl)
theorem dX3_word_38 : decode cX3_word 38 = .ok (.iconst 0, 1) := dk_3 (dk_at dksX3_word_1 16 rfl rfl)
theorem dX3_word_39 : decode cX3_word 39 = .ok (.ireturn, 1) := dk_172 (dk_at dksX3_word_1 17 rfl rfl)
theorem dX3_word_40 : decode cX3_word 40 = .ok (.aload_n 0, 1) := dk_42 (dk_at dksX3_word_1 18 rfl rfl)
theorem dX3_word_41 : decode cX3_word 41 = .ok (.dup, 1) := dk_89 (dk_at dksX3_word_1 19 rfl rfl)
theorem dX3_word_42 : decode cX3_word 42 = .ok (.getfield 156, 3) := dk_180 0 156 (dk_at dksX3_word_1 20 rfl rfl)
theorem dX3_word_45 : decode cX3_word 45 = .ok (.iconst 1, 1) := dk_4 (dk_at dksX3_word_1 23 rfl rfl)
theorem dX3_word_46 : decode cX3_word 46 = .ok (.iadd, 1) := dk_96 (dk_at dksX3_word_2 0 rfl rfl)
theorem dX3_word_47 : decode cX3_word 47 = .ok (.putfield 156, 3) := dk_181 0 156 (dk_at dksX3_word_2 1 rfl rfl)
theorem dX3_word_50 : decode cX3_word 50 = .ok (.iinc 2 1, 3) := dk_132 2 1 (dk_at dksX3_word_2 4 rfl rfl)
theorem dX3_word_53 : decode cX3_word 53 = .ok (.goto (-51), 3) := dk_167 255 205 (dk_at dksX3_word_2 7 rfl rfl)
theorem dX3_word_56 : decode cX3_word 56 = .ok (.iconst 1, 1) := dk_4 (dk_at dksX3_word_2 10 rfl rfl)
theorem dX3_word_57 : decode cX3_word 57 = .ok (.ireturn, 1) := dk_172 (dk_at dksX3_word_2 11 rfl rfl)
abbrev cX3_digits : ByteArray := prog_12_method_50_code
def yX3_digits : MethodName := ⟨RX3, "digits", "(II)Z"⟩
def dkwX3_digits_4 : List UInt8 := [3, 172]
abbrev dktX3_digits_4 : List UInt8 := dkwX3_digits_4 ++ []
def dkwX3_digits_3 : List UInt8 := [96, 181, 0, 156, 46, 96, 16, 48, 100, 79, 132, 3, 1, 167, 255, 183, 29, 158, 0, 7, 4, 167, 0, 4]
abbrev dktX3_digits_3 : List UInt8 := dkwX3_digits_3 ++ dktX3_digits_4
def dkwX3_digits_2 : List UInt8 := [180, 0, 28, 27, 16, 10, 42, 180, 0, 28, 27, 46, 104, 42, 180, 0, 25, 42, 89, 180, 0, 156, 90, 4]
abbrev dktX3_digits_2 : List UInt8 := dkwX3_digits_2 ++ dktX3_digits_3
def dkwX3_digits_1 : List UInt8 := [162, 0, 63, 42, 180, 0, 25, 42, 180, 0, 156, 46, 16, 48, 16, 57, 184, 0, 48, 153, 0, 44, 42]
abbrev dktX3_digits_1 : List UInt8 := dkwX3_digits_1 ++ dktX3_digits_2
def dkwX3_digits_0 : List UInt8 := [3, 62, 42, 180, 0, 28, 27, 3, 79, 29, 28, 162, 0, 74, 42, 180, 0, 156, 42, 180, 0, 149]
abbrev dktX3_digits_0 : List UInt8 := dkwX3_digits_0 ++ dktX3_digits_1
theorem dksX3_digits_0 : cX3_digits.data.toList.drop 0 = dktX3_digits_0 := by decide +kernel
theorem dksX3_digits_1 : cX3_digits.data.toList.drop 22 = dktX3_digits_1 := dk_seg dksX3_digits_0 22 rfl rfl
theorem dksX3_digits_2 : cX3_digits.data.toList.drop 45 = dktX3_digits_2 := dk_seg dksX3_digits_1 23 rfl rfl
theorem dksX3_digits_3 : cX3_digits.data.toList.drop 69 = dktX3_digits_3 := dk_seg dksX3_digits_2 24 rfl rfl
theorem dksX3_digits_4 : cX3_digits.data.toList.drop 93 = dktX3_digits_4 := dk_seg dksX3_digits_3 24 rfl rfl
theorem dX3_digits_0 : decode cX3_digits 0 = .ok (.iconst 0, 1) := dk_3 (dk_at dksX3_digits_0 0 rfl rfl)
theorem dX3_digits_1 : decode cX3_digits 1 = .ok (.istore_n 3, 1) := dk_62 (dk_at dksX3_digits_0 1 rfl rfl)
theorem dX3_digits_2 : decode cX3_digits 2 = .ok (.aload_n 0, 1) := dk_42 (dk_at dksX3_digits_0 2 rfl rfl)
theorem dX3_digits_3 : decode cX3_digits 3 = .ok (.getfield 28, 3) := dk_180 0 28 (dk_at dksX3_digits_0 3 rfl rfl)
theorem dX3_digits_6 : decode cX3_digits 6 = .ok (.iload_n 1, 1) := dk_27 (dk_at dksX3_digits_0 6 rfl rfl)
theorem dX3_digits_7 : decode cX3_digits 7 = .ok (.iconst 0, 1) := dk_3 (dk_at dksX3_digits_0 7 rfl rfl)
theorem dX3_digits_8 : decode cX3_digits 8 = .ok (.iastore, 1) := dk_79 (dk_at dksX3_digits_0 8 rfl rfl)
theorem dX3_digits_9 : decode cX3_digits 9 = .ok (.iload_n 3, 1) := dk_29 (dk_at dksX3_digits_0 9 rfl rfl)
theorem dX3_digits_10 : decode cX3_digits 10 = .ok (.iload_n 2, 1) := dk_28 (dk_at dksX3_digits_0 10 rfl rfl)
theorem dX3_digits_11 : decode cX3_digits 11 = .ok (.if_icmp .ge 74, 3) := dk_162 0 74 (dk_at dksX3_digits_0 11 rfl rfl)
theorem dX3_digits_14 : decode cX3_digits 14 = .ok (.aload_n 0, 1) := dk_42 (dk_at dksX3_digits_0 14 rfl rfl)
theorem dX3_digits_15 : decode cX3_digits 15 = .ok (.getfield 156, 3) := dk_180 0 156 (dk_at dksX3_digits_0 15 rfl rfl)
theorem dX3_digits_18 : decode cX3_digits 18 = .ok (.aload_n 0, 1) := dk_42 (dk_at dksX3_digits_0 18 rfl rfl)
theorem dX3_digits_19 : decode cX3_digits 19 = .ok (.getfield 149, 3) := dk_180 0 149 (dk_at dksX3_digits_0 19 rfl rfl)
theorem dX3_digits_22 : decode cX3_digits 22 = .ok (.if_icmp .ge 63, 3) := dk_162 0 63 (dk_at dksX3_digits_1 0 rfl rfl)
theorem dX3_digits_25 : decode cX3_digits 25 = .ok (.aload_n 0, 1) := dk_42 (dk_at dksX3_digits_1 3 rfl rfl)
theorem dX3_digits_26 : decode cX3_digits 26 = .ok (.getfield 25, 3) := dk_180 0 25 (dk_at dksX3_digits_1 4 rfl rfl)
theorem dX3_digits_29 : decode cX3_digits 29 = .ok (.aload_n 0, 1) := dk_42 (dk_at dksX3_digits_1 7 rfl rfl)
theorem dX3_digits_30 : decode cX3_digits 30 = .ok (.getfield 156, 3) := dk_180 0 156 (dk_at dksX3_digits_1 8 rfl rfl)
theorem dX3_digits_33 : decode cX3_digits 33 = .ok (.iaload, 1) := dk_46 (dk_at dksX3_digits_1 11 rfl rfl)
theorem dX3_digits_34 : decode cX3_digits 34 = .ok (.bipush 48, 2) := dk_16 48 (dk_at dksX3_digits_1 12 rfl rfl)
theorem dX3_digits_36 : decode cX3_digits 36 = .ok (.bipush 57, 2) := dk_16 57 (dk_at dksX3_digits_1 14 rfl rfl)
theorem dX3_digits_38 : decode cX3_digits 38 = .ok (.invokestatic 48, 3) := dk_184 0 48 (dk_at dksX3_digits_1 16 rfl rfl)
theorem dX3_digits_41 : decode cX3_digits 41 = .ok (.ifCond .eq 44, 3) := dk_153 0 44 (dk_at dksX3_digits_1 19 rfl rfl)
theorem dX3_digits_44 : decode cX3_digits 44 = .ok (.aload_n 0, 1) := dk_42 (dk_at dksX3_digits_1 22 rfl rfl)
theorem dX3_digits_45 : decode cX3_digits 45 = .ok (.getfield 28, 3) := dk_180 0 28 (dk_at dksX3_digits_2 0 rfl rfl)
theorem dX3_digits_48 : decode cX3_digits 48 = .ok (.iload_n 1, 1) := dk_27 (dk_at dksX3_digits_2 3 rfl rfl)
theorem dX3_digits_49 : decode cX3_digits 49 = .ok (.bipush 10, 2) := dk_16 10 (dk_at dksX3_digits_2 4 rfl rfl)
theorem dX3_digits_51 : decode cX3_digits 51 = .ok (.aload_n 0, 1) := dk_42 (dk_at dksX3_digits_2 6 rfl rfl)
theorem dX3_digits_52 : decode cX3_digits 52 = .ok (.getfield 28, 3) := dk_180 0 28 (dk_at dksX3_digits_2 7 rfl rfl)
theorem dX3_digits_55 : decode cX3_digits 55 = .ok (.iload_n 1, 1) := dk_27 (dk_at dksX3_digits_2 10 rfl rfl)
theorem dX3_digits_56 : decode cX3_digits 56 = .ok (.iaload, 1) := dk_46 (dk_at dksX3_digits_2 11 rfl rfl)
theorem dX3_digits_57 : decode cX3_digits 57 = .ok (.imul, 1) := dk_104 (dk_at dksX3_digits_2 12 rfl rfl)
theorem dX3_digits_58 : decode cX3_digits 58 = .ok (.aload_n 0, 1) := dk_42 (dk_at dksX3_digits_2 13 rfl rfl)
theorem dX3_digits_59 : decode cX3_digits 59 = .ok (.getfield 25, 3) := dk_180 0 25 (dk_at dksX3_digits_2 14 rfl rfl)
theorem dX3_digits_62 : decode cX3_digits 62 = .ok (.aload_n 0, 1) := dk_42 (dk_at dksX3_digits_2 17 rfl rfl)
theorem dX3_digits_63 : decode cX3_digits 63 = .ok (.dup, 1) := dk_89 (dk_at dksX3_digits_2 18 rfl rfl)
theorem dX3_digits_64 : decode cX3_digits 64 = .ok (.getfield 156, 3) := dk_180 0 156 (dk_at dksX3_digits_2 19 rfl rfl)
theorem dX3_digits_67 : decode cX3_digits 67 = .ok (.dup_x1, 1) := dk_90 (dk_at dksX3_digits_2 22 rfl rfl)
theorem dX3_digits_68 : decode cX3_digits 68 = .ok (.iconst 1, 1) := dk_4 (dk_at dksX3_digits_2 23 rfl rfl)
theorem dX3_digits_69 : decode cX3_digits 69 = .ok (.iadd, 1) := dk_96 (dk_at dksX3_digits_3 0 rfl rfl)
theorem dX3_digits_70 : decode cX3_digits 70 = .ok (.putfield 156, 3) := dk_181 0 156 (dk_at dksX3_digits_3 1 rfl rfl)
theorem dX3_digits_73 : decode cX3_digits 73 = .ok (.iaload, 1) := dk_46 (dk_at dksX3_digits_3 4 rfl rfl)
theorem dX3_digits_74 : decode cX3_digits 74 = .ok (.iadd, 1) := dk_96 (dk_at dksX3_digits_3 5 rfl rfl)
theorem dX3_digits_75 : decode cX3_digits 75 = .ok (.bipush 48, 2) := dk_16 48 (dk_at dksX3_digits_3 6 rfl rfl)
theorem dX3_digits_77 : decode cX3_digits 77 = .ok (.isub, 1) := dk_100 (dk_at dksX3_digits_3 8 rfl rfl)
theorem dX3_digits_78 : decode cX3_digits 78 = .ok (.iastore, 1) := dk_79 (dk_at dksX3_digits_3 9 rfl rfl)
theorem dX3_digits_79 : decode cX3_digits 79 = .ok (.iinc 3 1, 3) := dk_132 3 1 (dk_at dksX3_digits_3 10 rfl rfl)
theorem dX3_digits_82 : decode cX3_digits 82 = .ok (.goto (-73), 3) := dk_167 255 183 (dk_at dksX3_digits_3 13 rfl rfl)
theorem dX3_digits_85 : decode cX3_digits 85 = .ok (.iload_n 3, 1) := dk_29 (dk_at dksX3_digits_3 16 rfl rfl)
theorem dX3_digits_86 : decode cX3_digits 86 = .ok (.ifCond .le 7, 3) := dk_158 0 7 (dk_at dksX3_digits_3 17 rfl rfl)
theorem dX3_digits_89 : decode cX3_digits 89 = .ok (.iconst 1, 1) := dk_4 (dk_at dksX3_digits_3 20 rfl rfl)
theorem dX3_digits_90 : decode cX3_digits 90 = .ok (.goto 4, 3) := dk_167 0 4 (dk_at dksX3_digits_3 21 rfl rfl)
theorem dX3_digits_93 : decode cX3_digits 93 = .ok (.iconst 0, 1) := dk_3 (dk_at dksX3_digits_4 0 rfl rfl)
theorem dX3_digits_94 : decode cX3_digits 94 = .ok (.ireturn, 1) := dk_172 (dk_at dksX3_digits_4 1 rfl rfl)
abbrev cX3_signed : ByteArray := prog_12_method_51_code
def yX3_signed : MethodName := ⟨RX3, "signed", "(I)Z"⟩
def dkwX3_signed_3 : List UInt8 := [172, 28, 153, 0, 16, 42, 180, 0, 28, 27, 42, 180, 0, 28, 27, 46, 116, 79, 4, 172]
abbrev dktX3_signed_3 : List UInt8 := dkwX3_signed_3 ++ []
def dkwX3_signed_2 : List UInt8 := [28, 153, 0, 13, 42, 89, 180, 0, 156, 4, 96, 181, 0, 156, 42, 27, 5, 182, 0, 169, 154, 0, 5, 3]
abbrev dktX3_signed_2 : List UInt8 := dkwX3_signed_2 ++ dktX3_signed_3
def dkwX3_signed_1 : List UInt8 := [160, 0, 7, 4, 167, 0, 4, 3, 61, 28, 154, 0, 14, 42, 18, 163, 182, 0, 165, 154, 0, 5, 3, 172]
abbrev dktX3_signed_1 : List UInt8 := dkwX3_signed_1 ++ dktX3_signed_2
def dkwX3_signed_0 : List UInt8 := [42, 180, 0, 156, 42, 180, 0, 149, 162, 0, 21, 42, 180, 0, 25, 42, 180, 0, 156, 46, 16, 45]
abbrev dktX3_signed_0 : List UInt8 := dkwX3_signed_0 ++ dktX3_signed_1
theorem dksX3_signed_0 : cX3_signed.data.toList.drop 0 = dktX3_signed_0 := by decide +kernel
theorem dksX3_signed_1 : cX3_signed.data.toList.drop 22 = dktX3_signed_1 := dk_seg dksX3_signed_0 22 rfl rfl
theorem dksX3_signed_2 : cX3_signed.data.toList.drop 46 = dktX3_signed_2 := dk_seg dksX3_signed_1 24 rfl rfl
theorem dksX3_signed_3 : cX3_signed.data.toList.drop 70 = dktX3_signed_3 := dk_seg dksX3_signed_2 24 rfl rfl
theorem dX3_signed_0 : decode cX3_signed 0 = .ok (.aload_n 0, 1) := dk_42 (dk_at dksX3_signed_0 0 rfl rfl)
theorem dX3_signed_1 : decode cX3_signed 1 = .ok (.getfield 156, 3) := dk_180 0 156 (dk_at dksX3_signed_0 1 rfl rfl)
theorem dX3_signed_4 : decode cX3_signed 4 = .ok (.aload_n 0, 1) := dk_42 (dk_at dksX3_signed_0 4 rfl rfl)
theorem dX3_signed_5 : decode cX3_signed 5 = .ok (.getfield 149, 3) := dk_180 0 149 (dk_at dksX3_signed_0 5 rfl rfl)
theorem dX3_signed_8 : decode cX3_signed 8 = .ok (.if_icmp .ge 21, 3) := dk_162 0 21 (dk_at dksX3_signed_0 8 rfl rfl)
theorem dX3_signed_11 : decode cX3_signed 11 = .ok (.aload_n 0, 1) := dk_42 (dk_at dksX3_signed_0 11 rfl rfl)
theorem dX3_signed_12 : decode cX3_signed 12 = .ok (.getfield 25, 3) := dk_180 0 25 (dk_at dksX3_signed_0 12 rfl rfl)
theorem dX3_signed_15 : decode cX3_signed 15 = .ok (.aload_n 0, 1) := dk_42 (dk_at dksX3_signed_0 15 rfl rfl)
theorem dX3_signed_16 : decode cX3_signed 16 = .ok (.getfield 156, 3) := dk_180 0 156 (dk_at dksX3_signed_0 16 rfl rfl)
theorem dX3_signed_19 : decode cX3_signed 19 = .ok (.iaload, 1) := dk_46 (dk_at dksX3_signed_0 19 rfl rfl)
theorem dX3_signed_20 : decode cX3_signed 20 = .ok (.bipush 45, 2) := dk_16 45 (dk_at dksX3_signed_0 20 rfl rfl)
theorem dX3_signed_22 : decode cX3_signed 22 = .ok (.if_icmp .ne 7, 3) := dk_160 0 7 (dk_at dksX3_signed_1 0 rfl rfl)
theorem dX3_signed_25 : decode cX3_signed 25 = .ok (.iconst 1, 1) := dk_4 (dk_at dksX3_signed_1 3 rfl rfl)
theorem dX3_signed_26 : decode cX3_signed 26 = .ok (.goto 4, 3) := dk_167 0 4 (dk_at dksX3_signed_1 4 rfl rfl)
theorem dX3_signed_29 : decode cX3_signed 29 = .ok (.iconst 0, 1) := dk_3 (dk_at dksX3_signed_1 7 rfl rfl)
theorem dX3_signed_30 : decode cX3_signed 30 = .ok (.istore_n 2, 1) := dk_61 (dk_at dksX3_signed_1 8 rfl rfl)
theorem dX3_signed_31 : decode cX3_signed 31 = .ok (.iload_n 2, 1) := dk_28 (dk_at dksX3_signed_1 9 rfl rfl)
theorem dX3_signed_32 : decode cX3_signed 32 = .ok (.ifCond .ne 14, 3) := dk_154 0 14 (dk_at dksX3_signed_1 10 rfl rfl)
theorem dX3_signed_35 : decode cX3_signed 35 = .ok (.aload_n 0, 1) := dk_42 (dk_at dksX3_signed_1 13 rfl rfl)
theorem dX3_signed_36 : decode cX3_signed 36 = .ok (.ldc 163, 2) := dk_18 163 (dk_at dksX3_signed_1 14 rfl rfl)
theorem dX3_signed_38 : decode cX3_signed 38 = .ok (.invokevirtual 165, 3) := dk_182 0 165 (dk_at dksX3_signed_1 16 rfl rfl)
theorem dX3_signed_41 : decode cX3_signed 41 = .ok (.ifCond .ne 5, 3) := dk_154 0 5 (dk_at dksX3_signed_1 19 rfl rfl)
theorem dX3_signed_44 : decode cX3_signed 44 = .ok (.iconst 0, 1) := dk_3 (dk_at dksX3_signed_1 22 rfl rfl)
theorem dX3_signed_45 : decode cX3_signed 45 = .ok (.ireturn, 1) := dk_172 (dk_at dksX3_signed_1 23 rfl rfl)
theorem dX3_signed_46 : decode cX3_signed 46 = .ok (.iload_n 2, 1) := dk_28 (dk_at dksX3_signed_2 0 rfl rfl)
theorem dX3_signed_47 : decode cX3_signed 47 = .ok (.ifCond .eq 13, 3) := dk_153 0 13 (dk_at dksX3_signed_2 1 rfl rfl)
theorem dX3_signed_50 : decode cX3_signed 50 = .ok (.aload_n 0, 1) := dk_42 (dk_at dksX3_signed_2 4 rfl rfl)
theorem dX3_signed_51 : decode cX3_signed 51 = .ok (.dup, 1) := dk_89 (dk_at dksX3_signed_2 5 rfl rfl)
theorem dX3_signed_52 : decode cX3_signed 52 = .ok (.getfield 156, 3) := dk_180 0 156 (dk_at dksX3_signed_2 6 rfl rfl)
theorem dX3_signed_55 : decode cX3_signed 55 = .ok (.iconst 1, 1) := dk_4 (dk_at dksX3_signed_2 9 rfl rfl)
theorem dX3_signed_56 : decode cX3_signed 56 = .ok (.iadd, 1) := dk_96 (dk_at dksX3_signed_2 10 rfl rfl)
theorem dX3_signed_57 : decode cX3_signed 57 = .ok (.putfield 156, 3) := dk_181 0 156 (dk_at dksX3_signed_2 11 rfl rfl)
theorem dX3_signed_60 : decode cX3_signed 60 = .ok (.aload_n 0, 1) := dk_42 (dk_at dksX3_signed_2 14 rfl rfl)
theorem dX3_signed_61 : decode cX3_signed 61 = .ok (.iload_n 1, 1) := dk_27 (dk_at dksX3_signed_2 15 rfl rfl)
theorem dX3_signed_62 : decode cX3_signed 62 = .ok (.iconst 2, 1) := dk_5 (dk_at dksX3_signed_2 16 rfl rfl)
theorem dX3_signed_63 : decode cX3_signed 63 = .ok (.invokevirtual 169, 3) := dk_182 0 169 (dk_at dksX3_signed_2 17 rfl rfl)
theorem dX3_signed_66 : decode cX3_signed 66 = .ok (.ifCond .ne 5, 3) := dk_154 0 5 (dk_at dksX3_signed_2 20 rfl rfl)
theorem dX3_signed_69 : decode cX3_signed 69 = .ok (.iconst 0, 1) := dk_3 (dk_at dksX3_signed_2 23 rfl rfl)
theorem dX3_signed_70 : decode cX3_signed 70 = .ok (.ireturn, 1) := dk_172 (dk_at dksX3_signed_3 0 rfl rfl)
theorem dX3_signed_71 : decode cX3_signed 71 = .ok (.iload_n 2, 1) := dk_28 (dk_at dksX3_signed_3 1 rfl rfl)
theorem dX3_signed_72 : decode cX3_signed 72 = .ok (.ifCond .eq 16, 3) := dk_153 0 16 (dk_at dksX3_signed_3 2 rfl rfl)
theorem dX3_signed_75 : decode cX3_signed 75 = .ok (.aload_n 0, 1) := dk_42 (dk_at dksX3_signed_3 5 rfl rfl)
theorem dX3_signed_76 : decode cX3_signed 76 = .ok (.getfield 28, 3) := dk_180 0 28 (dk_at dksX3_signed_3 6 rfl rfl)
theorem dX3_signed_79 : decode cX3_signed 79 = .ok (.iload_n 1, 1) := dk_27 (dk_at dksX3_signed_3 9 rfl rfl)
theorem dX3_signed_80 : decode cX3_signed 80 = .ok (.aload_n 0, 1) := dk_42 (dk_at dksX3_signed_3 10 rfl rfl)
theorem dX3_signed_81 : decode cX3_signed 81 = .ok (.getfield 28, 3) := dk_180 0 28 (dk_at dksX3_signed_3 11 rfl rfl)
theorem dX3_signed_84 : decode cX3_signed 84 = .ok (.iload_n 1, 1) := dk_27 (dk_at dksX3_signed_3 14 rfl rfl)
theorem dX3_signed_85 : decode cX3_signed 85 = .ok (.iaload, 1) := dk_46 (dk_at dksX3_signed_3 15 rfl rfl)
theorem dX3_signed_86 : decode cX3_signed 86 = .ok (.ineg, 1) := dk_116 (dk_at dksX3_signed_3 16 rfl rfl)
theorem dX3_signed_87 : decode cX3_signed 87 = .ok (.iastore, 1) := dk_79 (dk_at dksX3_signed_3 17 rfl rfl)
theorem dX3_signed_88 : decode cX3_signed 88 = .ok (.iconst 1, 1) := dk_4 (dk_at dksX3_signed_3 18 rfl rfl)
theorem dX3_signed_89 : decode cX3_signed 89 = .ok (.ireturn, 1) := dk_172 (dk_at dksX3_signed_3 19 rfl rfl)
abbrev cX3_carries : ByteArray := prog_12_method_53_code
def yX3_carries : MethodName := ⟨RX3, "carries", "()I"⟩
def dkwX3_carries_6 : List UInt8 := [182, 0, 119, 172, 42, 182, 0, 146, 172]
abbrev dktX3_carries_6 : List UInt8 := dkwX3_carries_6 ++ []
def dkwX3_carries_5 : List UInt8 := [182, 0, 100, 172, 42, 42, 180, 0, 28, 3, 46, 182, 0, 143, 172, 42, 42, 180, 0, 28, 3, 46]
abbrev dktX3_carries_5 : List UInt8 := dkwX3_carries_5 ++ dktX3_carries_6
def dkwX3_carries_4 : List UInt8 := [182, 0, 122, 172, 42, 42, 180, 0, 28, 3, 46, 42, 180, 0, 28, 4, 46, 42, 180, 0, 28, 5, 46]
abbrev dktX3_carries_4 : List UInt8 := dkwX3_carries_4 ++ dktX3_carries_5
def dkwX3_carries_3 : List UInt8 := [42, 180, 0, 28, 4, 46, 42, 180, 0, 28, 5, 46, 182, 0, 140, 172, 42, 42, 180, 0, 28, 3, 46]
abbrev dktX3_carries_3 : List UInt8 := dkwX3_carries_3 ++ dktX3_carries_4
def dkwX3_carries_2 : List UInt8 := [42, 42, 180, 0, 28, 3, 46, 42, 180, 0, 28, 4, 46, 182, 0, 116, 172, 42, 42, 180, 0, 28, 3, 46]
abbrev dktX3_carries_2 : List UInt8 := dkwX3_carries_2 ++ dktX3_carries_3
def dkwX3_carries_1 : List UInt8 := [170, 0, 0, 0, 0, 0, 0, 188, 0, 0, 0, 98, 0, 0, 0, 116, 0, 0, 0, 166, 0, 0, 0, 188, 0, 0, 0, 188, 0, 0, 0, 188, 0, 0, 0, 188, 0, 0, 0, 92, 0, 0, 0, 188, 0, 0, 0, 188, 0, 0, 0, 188, 0, 0, 0, 188, 0, 0, 0, 188, 0, 0, 0, 188, 0, 0, 0, 188, 0, 0, 0, 188, 0, 0, 0, 132, 0, 0, 0, 188, 0, 0, 0, 109, 0, 0, 0, 177, 0, 0, 0, 143]
abbrev dktX3_carries_1 : List UInt8 := dkwX3_carries_1 ++ dktX3_carries_2
def dkwX3_carries_0 : List UInt8 := [42, 180, 0, 172]
abbrev dktX3_carries_0 : List UInt8 := dkwX3_carries_0 ++ dktX3_carries_1
theorem dksX3_carries_0 : cX3_carries.data.toList.drop 0 = dktX3_carries_0 := by decide +kernel
theorem dksX3_carries_1 : cX3_carries.data.toList.drop 4 = dktX3_carries_1 := dk_seg dksX3_carries_0 4 rfl rfl
theorem dksX3_carries_2 : cX3_carries.data.toList.drop 96 = dktX3_carries_2 := dk_seg dksX3_carries_1 92 rfl rfl
theorem dksX3_carries_3 : cX3_carries.data.toList.drop 120 = dktX3_carries_3 := dk_seg dksX3_carries_2 24 rfl rfl
theorem dksX3_carries_4 : cX3_carries.data.toList.drop 143 = dktX3_carries_4 := dk_seg dksX3_carries_3 23 rfl rfl
theorem dksX3_carries_5 : cX3_carries.data.toList.drop 166 = dktX3_carries_5 := dk_seg dksX3_carries_4 23 rfl rfl
theorem dksX3_carries_6 : cX3_carries.data.toList.drop 188 = dktX3_carries_6 := dk_seg dksX3_carries_5 22 rfl rfl
theorem dX3_carries_0 : decode cX3_carries 0 = .ok (.aload_n 0, 1) := dk_42 (dk_at dksX3_carries_0 0 rfl rfl)
theorem dX3_carries_1 : decode cX3_carries 1 = .ok (.getfield 172, 3) := dk_180 0 172 (dk_at dksX3_carries_0 1 rfl rfl)
theorem dX3_carries_4 : decode cX3_carries 4 = .ok (.tableswitch 188 98 116 #[166, 188, 188, 188, 188, 92, 188, 188, 188, 188, 188, 188, 188, 188, 132, 188, 109, 177, 143], 92) := by decide +kernel
theorem dX3_carries_96 : decode cX3_carries 96 = .ok (.aload_n 0, 1) := dk_42 (dk_at dksX3_carries_2 0 rfl rfl)
theorem dX3_carries_97 : decode cX3_carries 97 = .ok (.aload_n 0, 1) := dk_42 (dk_at dksX3_carries_2 1 rfl rfl)
theorem dX3_carries_98 : decode cX3_carries 98 = .ok (.getfield 28, 3) := dk_180 0 28 (dk_at dksX3_carries_2 2 rfl rfl)
theorem dX3_carries_101 : decode cX3_carries 101 = .ok (.iconst 0, 1) := dk_3 (dk_at dksX3_carries_2 5 rfl rfl)
theorem dX3_carries_102 : decode cX3_carries 102 = .ok (.iaload, 1) := dk_46 (dk_at dksX3_carries_2 6 rfl rfl)
theorem dX3_carries_103 : decode cX3_carries 103 = .ok (.aload_n 0, 1) := dk_42 (dk_at dksX3_carries_2 7 rfl rfl)
theorem dX3_carries_104 : decode cX3_carries 104 = .ok (.getfield 28, 3) := dk_180 0 28 (dk_at dksX3_carries_2 8 rfl rfl)
theorem dX3_carries_107 : decode cX3_carries 107 = .ok (.iconst 1, 1) := dk_4 (dk_at dksX3_carries_2 11 rfl rfl)
theorem dX3_carries_108 : decode cX3_carries 108 = .ok (.iaload, 1) := dk_46 (dk_at dksX3_carries_2 12 rfl rfl)
theorem dX3_carries_109 : decode cX3_carries 109 = .ok (.invokevirtual 116, 3) := dk_182 0 116 (dk_at dksX3_carries_2 13 rfl rfl)
theorem dX3_carries_112 : decode cX3_carries 112 = .ok (.ireturn, 1) := dk_172 (dk_at dksX3_carries_2 16 rfl rfl)
theorem dX3_carries_113 : decode cX3_carries 113 = .ok (.aload_n 0, 1) := dk_42 (dk_at dksX3_carries_2 17 rfl rfl)
theorem dX3_carries_114 : decode cX3_carries 114 = .ok (.aload_n 0, 1) := dk_42 (dk_at dksX3_carries_2 18 rfl rfl)
theorem dX3_carries_115 : decode cX3_carries 115 = .ok (.getfield 28, 3) := dk_180 0 28 (dk_at dksX3_carries_2 19 rfl rfl)
theorem dX3_carries_118 : decode cX3_carries 118 = .ok (.iconst 0, 1) := dk_3 (dk_at dksX3_carries_2 22 rfl rfl)
theorem dX3_carries_119 : decode cX3_carries 119 = .ok (.iaload, 1) := dk_46 (dk_at dksX3_carries_2 23 rfl rfl)
theorem dX3_carries_120 : decode cX3_carries 120 = .ok (.aload_n 0, 1) := dk_42 (dk_at dksX3_carries_3 0 rfl rfl)
theorem dX3_carries_121 : decode cX3_carries 121 = .ok (.getfield 28, 3) := dk_180 0 28 (dk_at dksX3_carries_3 1 rfl rfl)
theorem dX3_carries_124 : decode cX3_carries 124 = .ok (.iconst 1, 1) := dk_4 (dk_at dksX3_carries_3 4 rfl rfl)
theorem dX3_carries_125 : decode cX3_carries 125 = .ok (.iaload, 1) := dk_46 (dk_at dksX3_carries_3 5 rfl rfl)
theorem dX3_carries_126 : decode cX3_carries 126 = .ok (.aload_n 0, 1) := dk_42 (dk_at dksX3_carries_3 6 rfl rfl)
theorem dX3_carries_127 : decode cX3_carries 127 = .ok (.getfield 28, 3) := dk_180 0 28 (dk_at dksX3_carries_3 7 rfl rfl)
theorem dX3_carries_130 : decode cX3_carries 130 = .ok (.iconst 2, 1) := dk_5 (dk_at dksX3_carries_3 10 rfl rfl)
theorem dX3_carries_131 : decode cX3_carries 131 = .ok (.iaload, 1) := dk_46 (dk_at dksX3_carries_3 11 rfl rfl)
theorem dX3_carries_132 : decode cX3_carries 132 = .ok (.invokevirtual 140, 3) := dk_182 0 140 (dk_at dksX3_carries_3 12 rfl rfl)
theorem dX3_carries_135 : decode cX3_carries 135 = .ok (.ireturn, 1) := dk_172 (dk_at dksX3_carries_3 15 rfl rfl)
theorem dX3_carries_136 : decode cX3_carries 136 = .ok (.aload_n 0, 1) := dk_42 (dk_at dksX3_carries_3 16 rfl rfl)
theorem dX3_carries_137 : decode cX3_carries 137 = .ok (.aload_n 0, 1) := dk_42 (dk_at dksX3_carries_3 17 rfl rfl)
theorem dX3_carries_138 : decode cX3_carries 138 = .ok (.getfield 28, 3) := dk_180 0 28 (dk_at dksX3_carries_3 18 rfl rfl)
theorem dX3_carries_141 : decode cX3_carries 141 = .ok (.iconst 0, 1) := dk_3 (dk_at dksX3_carries_3 21 rfl rfl)
theorem dX3_carries_142 : decode cX3_carries 142 = .ok (.iaload, 1) := dk_46 (dk_at dksX3_carries_3 22 rfl rfl)
theorem dX3_carries_143 : decode cX3_carries 143 = .ok (.invokevirtual 122, 3) := dk_182 0 122 (dk_at dksX3_carries_4 0 rfl rfl)
theorem dX3_carries_146 : decode cX3_carries 146 = .ok (.ireturn, 1) := dk_172 (dk_at dksX3_carries_4 3 rfl rfl)
theorem dX3_carries_147 : decode cX3_carries 147 = .ok (.aload_n 0, 1) := dk_42 (dk_at dksX3_carries_4 4 rfl rfl)
theorem dX3_carries_148 : decode cX3_carries 148 = .ok (.aload_n 0, 1) := dk_42 (dk_at dksX3_carries_4 5 rfl rfl)
theorem dX3_carries_149 : decode cX3_carries 149 = .ok (.getfield 28, 3) := dk_180 0 28 (dk_at dksX3_carries_4 6 rfl rfl)
theorem dX3_carries_152 : decode cX3_carries 152 = .ok (.iconst 0, 1) := dk_3 (dk_at dksX3_carries_4 9 rfl rfl)
theorem dX3_carries_153 : decode cX3_carries 153 = .ok (.iaload, 1) := dk_46 (dk_at dksX3_carries_4 10 rfl rfl)
theorem dX3_carries_154 : decode cX3_carries 154 = .ok (.aload_n 0, 1) := dk_42 (dk_at dksX3_carries_4 11 rfl rfl)
theorem dX3_carries_155 : decode cX3_carries 155 = .ok (.getfield 28, 3) := dk_180 0 28 (dk_at dksX3_carries_4 12 rfl rfl)
theorem dX3_carries_158 : decode cX3_carries 158 = .ok (.iconst 1, 1) := dk_4 (dk_at dksX3_carries_4 15 rfl rfl)
theorem dX3_carries_159 : decode cX3_carries 159 = .ok (.iaload, 1) := dk_46 (dk_at dksX3_carries_4 16 rfl rfl)
theorem dX3_carries_160 : decode cX3_carries 160 = .ok (.aload_n 0, 1) := dk_42 (dk_at dksX3_carries_4 17 rfl rfl)
theorem dX3_carries_161 : decode cX3_carries 161 = .ok (.getfield 28, 3) := dk_180 0 28 (dk_at dksX3_carries_4 18 rfl rfl)
theorem dX3_carries_164 : decode cX3_carries 164 = .ok (.iconst 2, 1) := dk_5 (dk_at dksX3_carries_4 21 rfl rfl)
theorem dX3_carries_165 : decode cX3_carries 165 = .ok (.iaload, 1) := dk_46 (dk_at dksX3_carries_4 22 rfl rfl)
theorem dX3_carries_166 : decode cX3_carries 166 = .ok (.invokevirtual 100, 3) := dk_182 0 100 (dk_at dksX3_carries_5 0 rfl rfl)
theorem dX3_carries_169 : decode cX3_carries 169 = .ok (.ireturn, 1) := dk_172 (dk_at dksX3_carries_5 3 rfl rfl)
theorem dX3_carries_170 : decode cX3_carries 170 = .ok (.aload_n 0, 1) := dk_42 (dk_at dksX3_carries_5 4 rfl rfl)
theorem dX3_carries_171 : decode cX3_carries 171 = .ok (.aload_n 0, 1) := dk_42 (dk_at dksX3_carries_5 5 rfl rfl)
theorem dX3_carries_172 : decode cX3_carries 172 = .ok (.getfield 28, 3) := dk_180 0 28 (dk_at dksX3_carries_5 6 rfl rfl)
theorem dX3_carries_175 : decode cX3_carries 175 = .ok (.iconst 0, 1) := dk_3 (dk_at dksX3_carries_5 9 rfl rfl)
theorem dX3_carries_176 : decode cX3_carries 176 = .ok (.iaload, 1) := dk_46 (dk_at dksX3_carries_5 10 rfl rfl)
theorem dX3_carries_177 : decode cX3_carries 177 = .ok (.invokevirtual 143, 3) := dk_182 0 143 (dk_at dksX3_carries_5 11 rfl rfl)
theorem dX3_carries_180 : decode cX3_carries 180 = .ok (.ireturn, 1) := dk_172 (dk_at dksX3_carries_5 14 rfl rfl)
theorem dX3_carries_181 : decode cX3_carries 181 = .ok (.aload_n 0, 1) := dk_42 (dk_at dksX3_carries_5 15 rfl rfl)
theorem dX3_carries_182 : decode cX3_carries 182 = .ok (.aload_n 0, 1) := dk_42 (dk_at dksX3_carries_5 16 rfl rfl)
theorem dX3_carries_183 : decode cX3_carries 183 = .ok (.getfield 28, 3) := dk_180 0 28 (dk_at dksX3_carries_5 17 rfl rfl)
theorem dX3_carries_186 : decode cX3_carries 186 = .ok (.iconst 0, 1) := dk_3 (dk_at dksX3_carries_5 20 rfl rfl)
theorem dX3_carries_187 : decode cX3_carries 187 = .ok (.iaload, 1) := dk_46 (dk_at dksX3_carries_5 21 rfl rfl)
theorem dX3_carries_188 : decode cX3_carries 188 = .ok (.invokevirtual 119, 3) := dk_182 0 119 (dk_at dksX3_carries_6 0 rfl rfl)
theorem dX3_carries_191 : decode cX3_carries 191 = .ok (.ireturn, 1) := dk_172 (dk_at dksX3_carries_6 3 rfl rfl)
theorem dX3_carries_192 : decode cX3_carries 192 = .ok (.aload_n 0, 1) := dk_42 (dk_at dksX3_carries_6 4 rfl rfl)
theorem dX3_carries_193 : decode cX3_carries 193 = .ok (.invokevirtual 146, 3) := dk_182 0 146 (dk_at dksX3_carries_6 5 rfl rfl)
theorem dX3_carries_196 : decode cX3_carries 196 = .ok (.ireturn, 1) := dk_172 (dk_at dksX3_carries_6 8 rfl rfl)
abbrev cX3_comesBack : ByteArray := prog_12_method_4_code
def yX3_comesBack : MethodName := ⟨RX3, "comesBack", "()V"⟩
def dkwX3_comesBack_1 : List UInt8 := [167, 255, 234, 177]
abbrev dktX3_comesBack_1 : List UInt8 := dkwX3_comesBack_1 ++ []
def dkwX3_comesBack_0 : List UInt8 := [3, 60, 27, 17, 1, 157, 162, 0, 21, 42, 180, 0, 9, 27, 42, 180, 0, 13, 27, 46, 79, 132, 1, 1]
abbrev dktX3_comesBack_0 : List UInt8 := dkwX3_comesBack_0 ++ dktX3_comesBack_1
theorem dksX3_comesBack_0 : cX3_comesBack.data.toList.drop 0 = dktX3_comesBack_0 := by decide +kernel
theorem dksX3_comesBack_1 : cX3_comesBack.data.toList.drop 24 = dktX3_comesBack_1 := dk_seg dksX3_comesBack_0 24 rfl rfl
theorem dX3_comesBack_0 : decode cX3_comesBack 0 = .ok (.iconst 0, 1) := dk_3 (dk_at dksX3_comesBack_0 0 rfl rfl)
theorem dX3_comesBack_1 : decode cX3_comesBack 1 = .ok (.istore_n 1, 1) := dk_60 (dk_at dksX3_comesBack_0 1 rfl rfl)
theorem dX3_comesBack_2 : decode cX3_comesBack 2 = .ok (.iload_n 1, 1) := dk_27 (dk_at dksX3_comesBack_0 2 rfl rfl)
theorem dX3_comesBack_3 : decode cX3_comesBack 3 = .ok (.sipush 413, 3) := dk_17 1 157 (dk_at dksX3_comesBack_0 3 rfl rfl)
theorem dX3_comesBack_6 : decode cX3_comesBack 6 = .ok (.if_icmp .ge 21, 3) := dk_162 0 21 (dk_at dksX3_comesBack_0 6 rfl rfl)
theorem dX3_comesBack_9 : decode cX3_comesBack 9 = .ok (.aload_n 0, 1) := dk_42 (dk_at dksX3_comesBack_0 9 rfl rfl)
theorem dX3_comesBack_10 : decode cX3_comesBack 10 = .ok (.getfield 9, 3) := dk_180 0 9 (dk_at dksX3_comesBack_0 10 rfl rfl)
theorem dX3_comesBack_13 : decode cX3_comesBack 13 = .ok (.iload_n 1, 1) := dk_27 (dk_at dksX3_comesBack_0 13 rfl rfl)
theorem dX3_comesBack_14 : decode cX3_comesBack 14 = .ok (.aload_n 0, 1) := dk_42 (dk_at dksX3_comesBack_0 14 rfl rfl)
theorem dX3_comesBack_15 : decode cX3_comesBack 15 = .ok (.getfield 13, 3) := dk_180 0 13 (dk_at dksX3_comesBack_0 15 rfl rfl)
theorem dX3_comesBack_18 : decode cX3_comesBack 18 = .ok (.iload_n 1, 1) := dk_27 (dk_at dksX3_comesBack_0 18 rfl rfl)
theorem dX3_comesBack_19 : decode cX3_comesBack 19 = .ok (.iaload, 1) := dk_46 (dk_at dksX3_comesBack_0 19 rfl rfl)
theorem dX3_comesBack_20 : decode cX3_comesBack 20 = .ok (.iastore, 1) := dk_79 (dk_at dksX3_comesBack_0 20 rfl rfl)
theorem dX3_comesBack_21 : decode cX3_comesBack 21 = .ok (.iinc 1 1, 3) := dk_132 1 1 (dk_at dksX3_comesBack_0 21 rfl rfl)
theorem dX3_comesBack_24 : decode cX3_comesBack 24 = .ok (.goto (-22), 3) := dk_167 255 234 (dk_at dksX3_comesBack_1 0 rfl rfl)
theorem dX3_comesBack_27 : decode cX3_comesBack 27 = .ok (.return_, 1) := dk_177 (dk_at dksX3_comesBack_1 3 rfl rfl)
abbrev cX3_tell : ByteArray := prog_12_method_57_code
def yX3_tell : MethodName := ⟨RX3, "tell", "(I)I"⟩
def dkwX3_tell_4 : List UInt8 := [42, 180, 0, 210, 172]
abbrev dktX3_tell_4 : List UInt8 := dkwX3_tell_4 ++ []
def dkwX3_tell_3 : List UInt8 := [27, 8, 182, 0, 90, 182, 0, 213, 42, 18, 229, 182, 0, 219, 42, 42, 27, 5, 182, 0, 90, 182, 0, 213]
abbrev dktX3_tell_3 : List UInt8 := dkwX3_tell_3 ++ dktX3_tell_4
def dkwX3_tell_2 : List UInt8 := [42, 18, 225, 182, 0, 219, 42, 42, 27, 7, 182, 0, 90, 182, 0, 213, 42, 18, 227, 182, 0, 219, 42, 42]
abbrev dktX3_tell_2 : List UInt8 := dkwX3_tell_2 ++ dktX3_tell_3
def dkwX3_tell_1 : List UInt8 := [27, 4, 182, 0, 90, 182, 0, 213, 42, 18, 223, 182, 0, 219, 42, 42, 27, 6, 182, 0, 90, 182, 0, 213]
abbrev dktX3_tell_1 : List UInt8 := dkwX3_tell_1 ++ dktX3_tell_2
def dkwX3_tell_0 : List UInt8 := [42, 27, 182, 0, 87, 154, 0, 6, 16, 245, 172, 42, 3, 181, 0, 210, 42, 18, 217, 182, 0, 219, 42, 42]
abbrev dktX3_tell_0 : List UInt8 := dkwX3_tell_0 ++ dktX3_tell_1
theorem dksX3_tell_0 : cX3_tell.data.toList.drop 0 = dktX3_tell_0 := by decide +kernel
theorem dksX3_tell_1 : cX3_tell.data.toList.drop 24 = dktX3_tell_1 := dk_seg dksX3_tell_0 24 rfl rfl
theorem dksX3_tell_2 : cX3_tell.data.toList.drop 48 = dktX3_tell_2 := dk_seg dksX3_tell_1 24 rfl rfl
theorem dksX3_tell_3 : cX3_tell.data.toList.drop 72 = dktX3_tell_3 := dk_seg dksX3_tell_2 24 rfl rfl
theorem dksX3_tell_4 : cX3_tell.data.toList.drop 96 = dktX3_tell_4 := dk_seg dksX3_tell_3 24 rfl rfl
theorem dX3_tell_0 : decode cX3_tell 0 = .ok (.aload_n 0, 1) := dk_42 (dk_at dksX3_tell_0 0 rfl rfl)
theorem dX3_tell_1 : decode cX3_tell 1 = .ok (.iload_n 1, 1) := dk_27 (dk_at dksX3_tell_0 1 rfl rfl)
theorem dX3_tell_2 : decode cX3_tell 2 = .ok (.invokevirtual 87, 3) := dk_182 0 87 (dk_at dksX3_tell_0 2 rfl rfl)
theorem dX3_tell_5 : decode cX3_tell 5 = .ok (.ifCond .ne 6, 3) := dk_154 0 6 (dk_at dksX3_tell_0 5 rfl rfl)
theorem dX3_tell_8 : decode cX3_tell 8 = .ok (.bipush (-11), 2) := dk_16 245 (dk_at dksX3_tell_0 8 rfl rfl)
theorem dX3_tell_10 : decode cX3_tell 10 = .ok (.ireturn, 1) := dk_172 (dk_at dksX3_tell_0 10 rfl rfl)
theorem dX3_tell_11 : decode cX3_tell 11 = .ok (.aload_n 0, 1) := dk_42 (dk_at dksX3_tell_0 11 rfl rfl)
theorem dX3_tell_12 : decode cX3_tell 12 = .ok (.iconst 0, 1) := dk_3 (dk_at dksX3_tell_0 12 rfl rfl)
theorem dX3_tell_13 : decode cX3_tell 13 = .ok (.putfield 210, 3) := dk_181 0 210 (dk_at dksX3_tell_0 13 rfl rfl)
theorem dX3_tell_16 : decode cX3_tell 16 = .ok (.aload_n 0, 1) := dk_42 (dk_at dksX3_tell_0 16 rfl rfl)
theorem dX3_tell_17 : decode cX3_tell 17 = .ok (.ldc 217, 2) := dk_18 217 (dk_at dksX3_tell_0 17 rfl rfl)
theorem dX3_tell_19 : decode cX3_tell 19 = .ok (.invokevirtual 219, 3) := dk_182 0 219 (dk_at dksX3_tell_0 19 rfl rfl)
theorem dX3_tell_22 : decode cX3_tell 22 = .ok (.aload_n 0, 1) := dk_42 (dk_at dksX3_tell_0 22 rfl rfl)
theorem dX3_tell_23 : decode cX3_tell 23 = .ok (.aload_n 0, 1) := dk_42 (dk_at dksX3_tell_0 23 rfl rfl)
theorem dX3_tell_24 : decode cX3_tell 24 = .ok (.iload_n 1, 1) := dk_27 (dk_at dksX3_tell_1 0 rfl rfl)
theorem dX3_tell_25 : decode cX3_tell 25 = .ok (.iconst 1, 1) := dk_4 (dk_at dksX3_tell_1 1 rfl rfl)
theorem dX3_tell_26 : decode cX3_tell 26 = .ok (.invokevirtual 90, 3) := dk_182 0 90 (dk_at dksX3_tell_1 2 rfl rfl)
theorem dX3_tell_29 : decode cX3_tell 29 = .ok (.invokevirtual 213, 3) := dk_182 0 213 (dk_at dksX3_tell_1 5 rfl rfl)
theorem dX3_tell_32 : decode cX3_tell 32 = .ok (.aload_n 0, 1) := dk_42 (dk_at dksX3_tell_1 8 rfl rfl)
theorem dX3_tell_33 : decode cX3_tell 33 = .ok (.ldc 223, 2) := dk_18 223 (dk_at dksX3_tell_1 9 rfl rfl)
theorem dX3_tell_35 : decode cX3_tell 35 = .ok (.invokevirtual 219, 3) := dk_182 0 219 (dk_at dksX3_tell_1 11 rfl rfl)
theorem dX3_tell_38 : decode cX3_tell 38 = .ok (.aload_n 0, 1) := dk_42 (dk_at dksX3_tell_1 14 rfl rfl)
theorem dX3_tell_39 : decode cX3_tell 39 = .ok (.aload_n 0, 1) := dk_42 (dk_at dksX3_tell_1 15 rfl rfl)
theorem dX3_tell_40 : decode cX3_tell 40 = .ok (.iload_n 1, 1) := dk_27 (dk_at dksX3_tell_1 16 rfl rfl)
theorem dX3_tell_41 : decode cX3_tell 41 = .ok (.iconst 3, 1) := dk_6 (dk_at dksX3_tell_1 17 rfl rfl)
theorem dX3_tell_42 : decode cX3_tell 42 = .ok (.invokevirtual 90, 3) := dk_182 0 90 (dk_at dksX3_tell_1 18 rfl rfl)
theorem dX3_tell_45 : decode cX3_tell 45 = .ok (.invokevirtual 213, 3) := dk_182 0 213 (dk_at dksX3_tell_1 21 rfl rfl)
theorem dX3_tell_48 : decode cX3_tell 48 = .ok (.aload_n 0, 1) := dk_42 (dk_at dksX3_tell_2 0 rfl rfl)
theorem dX3_tell_49 : decode cX3_tell 49 = .ok (.ldc 225, 2) := dk_18 225 (dk_at dksX3_tell_2 1 rfl rfl)
theorem dX3_tell_51 : decode cX3_tell 51 = .ok (.invokevirtual 219, 3) := dk_182 0 219 (dk_at dksX3_tell_2 3 rfl rfl)
theorem dX3_tell_54 : decode cX3_tell 54 = .ok (.aload_n 0, 1) := dk_42 (dk_at dksX3_tell_2 6 rfl rfl)
theorem dX3_tell_55 : decode cX3_tell 55 = .ok (.aload_n 0, 1) := dk_42 (dk_at dksX3_tell_2 7 rfl rfl)
theorem dX3_tell_56 : decode cX3_tell 56 = .ok (.iload_n 1, 1) := dk_27 (dk_at dksX3_tell_2 8 rfl rfl)
theorem dX3_tell_57 : decode cX3_tell 57 = .ok (.iconst 4, 1) := dk_7 (dk_at dksX3_tell_2 9 rfl rfl)
theorem dX3_tell_58 : decode cX3_tell 58 = .ok (.invokevirtual 90, 3) := dk_182 0 90 (dk_at dksX3_tell_2 10 rfl rfl)
theorem dX3_tell_61 : decode cX3_tell 61 = .ok (.invokevirtual 213, 3) := dk_182 0 213 (dk_at dksX3_tell_2 13 rfl rfl)
theorem dX3_tell_64 : decode cX3_tell 64 = .ok (.aload_n 0, 1) := dk_42 (dk_at dksX3_tell_2 16 rfl rfl)
theorem dX3_tell_65 : decode cX3_tell 65 = .ok (.ldc 227, 2) := dk_18 227 (dk_at dksX3_tell_2 17 rfl rfl)
theorem dX3_tell_67 : decode cX3_tell 67 = .ok (.invokevirtual 219, 3) := dk_182 0 219 (dk_at dksX3_tell_2 19 rfl rfl)
theorem dX3_tell_70 : decode cX3_tell 70 = .ok (.aload_n 0, 1) := dk_42 (dk_at dksX3_tell_2 22 rfl rfl)
theorem dX3_tell_71 : decode cX3_tell 71 = .ok (.aload_n 0, 1) := dk_42 (dk_at dksX3_tell_2 23 rfl rfl)
theorem dX3_tell_72 : decode cX3_tell 72 = .ok (.iload_n 1, 1) := dk_27 (dk_at dksX3_tell_3 0 rfl rfl)
theorem dX3_tell_73 : decode cX3_tell 73 = .ok (.iconst 5, 1) := dk_8 (dk_at dksX3_tell_3 1 rfl rfl)
theorem dX3_tell_74 : decode cX3_tell 74 = .ok (.invokevirtual 90, 3) := dk_182 0 90 (dk_at dksX3_tell_3 2 rfl rfl)
theorem dX3_tell_77 : decode cX3_tell 77 = .ok (.invokevirtual 213, 3) := dk_182 0 213 (dk_at dksX3_tell_3 5 rfl rfl)
theorem dX3_tell_80 : decode cX3_tell 80 = .ok (.aload_n 0, 1) := dk_42 (dk_at dksX3_tell_3 8 rfl rfl)
theorem dX3_tell_81 : decode cX3_tell 81 = .ok (.ldc 229, 2) := dk_18 229 (dk_at dksX3_tell_3 9 rfl rfl)
theorem dX3_tell_83 : decode cX3_tell 83 = .ok (.invokevirtual 219, 3) := dk_182 0 219 (dk_at dksX3_tell_3 11 rfl rfl)
theorem dX3_tell_86 : decode cX3_tell 86 = .ok (.aload_n 0, 1) := dk_42 (dk_at dksX3_tell_3 14 rfl rfl)
theorem dX3_tell_87 : decode cX3_tell 87 = .ok (.aload_n 0, 1) := dk_42 (dk_at dksX3_tell_3 15 rfl rfl)
theorem dX3_tell_88 : decode cX3_tell 88 = .ok (.iload_n 1, 1) := dk_27 (dk_at dksX3_tell_3 16 rfl rfl)
theorem dX3_tell_89 : decode cX3_tell 89 = .ok (.iconst 2, 1) := dk_5 (dk_at dksX3_tell_3 17 rfl rfl)
theorem dX3_tell_90 : decode cX3_tell 90 = .ok (.invokevirtual 90, 3) := dk_182 0 90 (dk_at dksX3_tell_3 18 rfl rfl)
theorem dX3_tell_93 : decode cX3_tell 93 = .ok (.invokevirtual 213, 3) := dk_182 0 213 (dk_at dksX3_tell_3 21 rfl rfl)
theorem dX3_tell_96 : decode cX3_tell 96 = .ok (.aload_n 0, 1) := dk_42 (dk_at dksX3_tell_4 0 rfl rfl)
theorem dX3_tell_97 : decode cX3_tell 97 = .ok (.getfield 210, 3) := dk_180 0 210 (dk_at dksX3_tell_4 1 rfl rfl)
theorem dX3_tell_100 : decode cX3_tell 100 = .ok (.ireturn, 1) := dk_172 (dk_at dksX3_tell_4 4 rfl rfl)
abbrev cX3_writes : ByteArray := prog_12_method_55_code
def yX3_writes : MethodName := ⟨RX3, "writes", "(Ljava/lang/String;)V"⟩
def dkwX3_writes_1 : List UInt8 := [181, 0, 210, 43, 28, 182, 0, 159, 79, 132, 2, 1, 167, 255, 224, 177]
abbrev dktX3_writes_1 : List UInt8 := dkwX3_writes_1 ++ []
def dkwX3_writes_0 : List UInt8 := [3, 61, 28, 43, 182, 0, 152, 162, 0, 30, 42, 180, 0, 22, 42, 89, 180, 0, 210, 90, 4, 96]
abbrev dktX3_writes_0 : List UInt8 := dkwX3_writes_0 ++ dktX3_writes_1
theorem dksX3_writes_0 : cX3_writes.data.toList.drop 0 = dktX3_writes_0 := by decide +kernel
theorem dksX3_writes_1 : cX3_writes.data.toList.drop 22 = dktX3_writes_1 := dk_seg dksX3_writes_0 22 rfl rfl
theorem dX3_writes_0 : decode cX3_writes 0 = .ok (.iconst 0, 1) := dk_3 (dk_at dksX3_writes_0 0 rfl rfl)
theorem dX3_writes_1 : decode cX3_writes 1 = .ok (.istore_n 2, 1) := dk_61 (dk_at dksX3_writes_0 1 rfl rfl)
theorem dX3_writes_2 : decode cX3_writes 2 = .ok (.iload_n 2, 1) := dk_28 (dk_at dksX3_writes_0 2 rfl rfl)
theorem dX3_writes_3 : decode cX3_writes 3 = .ok (.aload_n 1, 1) := dk_43 (dk_at dksX3_writes_0 3 rfl rfl)
theorem dX3_writes_4 : decode cX3_writes 4 = .ok (.invokevirtual 152, 3) := dk_182 0 152 (dk_at dksX3_writes_0 4 rfl rfl)
theorem dX3_writes_7 : decode cX3_writes 7 = .ok (.if_icmp .ge 30, 3) := dk_162 0 30 (dk_at dksX3_writes_0 7 rfl rfl)
theorem dX3_writes_10 : decode cX3_writes 10 = .ok (.aload_n 0, 1) := dk_42 (dk_at dksX3_writes_0 10 rfl rfl)
theorem dX3_writes_11 : decode cX3_writes 11 = .ok (.getfield 22, 3) := dk_180 0 22 (dk_at dksX3_writes_0 11 rfl rfl)
theorem dX3_writes_14 : decode cX3_writes 14 = .ok (.aload_n 0, 1) := dk_42 (dk_at dksX3_writes_0 14 rfl rfl)
theorem dX3_writes_15 : decode cX3_writes 15 = .ok (.dup, 1) := dk_89 (dk_at dksX3_writes_0 15 rfl rfl)
theorem dX3_writes_16 : decode cX3_writes 16 = .ok (.getfield 210, 3) := dk_180 0 210 (dk_at dksX3_writes_0 16 rfl rfl)
theorem dX3_writes_19 : decode cX3_writes 19 = .ok (.dup_x1, 1) := dk_90 (dk_at dksX3_writes_0 19 rfl rfl)
theorem dX3_writes_20 : decode cX3_writes 20 = .ok (.iconst 1, 1) := dk_4 (dk_at dksX3_writes_0 20 rfl rfl)
theorem dX3_writes_21 : decode cX3_writes 21 = .ok (.iadd, 1) := dk_96 (dk_at dksX3_writes_0 21 rfl rfl)
theorem dX3_writes_22 : decode cX3_writes 22 = .ok (.putfield 210, 3) := dk_181 0 210 (dk_at dksX3_writes_1 0 rfl rfl)
theorem dX3_writes_25 : decode cX3_writes 25 = .ok (.aload_n 1, 1) := dk_43 (dk_at dksX3_writes_1 3 rfl rfl)
theorem dX3_writes_26 : decode cX3_writes 26 = .ok (.iload_n 2, 1) := dk_28 (dk_at dksX3_writes_1 4 rfl rfl)
theorem dX3_writes_27 : decode cX3_writes 27 = .ok (.invokevirtual 159, 3) := dk_182 0 159 (dk_at dksX3_writes_1 5 rfl rfl)
theorem dX3_writes_30 : decode cX3_writes 30 = .ok (.iastore, 1) := dk_79 (dk_at dksX3_writes_1 8 rfl rfl)
theorem dX3_writes_31 : decode cX3_writes 31 = .ok (.iinc 2 1, 3) := dk_132 2 1 (dk_at dksX3_writes_1 9 rfl rfl)
theorem dX3_writes_34 : decode cX3_writes 34 = .ok (.goto (-32), 3) := dk_167 255 224 (dk_at dksX3_writes_1 12 rfl rfl)
theorem dX3_writes_37 : decode cX3_writes 37 = .ok (.return_, 1) := dk_177 (dk_at dksX3_writes_1 15 rfl rfl)
abbrev cX3_writesNumber : ByteArray := prog_12_method_56_code
def yX3_writesNumber : MethodName := ⟨RX3, "writesNumber", "(I)V"⟩
def dkwX3_writesNumber_1 : List UInt8 := [4, 96, 181, 0, 210, 16, 48, 27, 16, 10, 112, 96, 79, 177]
abbrev dktX3_writesNumber_1 : List UInt8 := dkwX3_writesNumber_1 ++ []
def dkwX3_writesNumber_0 : List UInt8 := [27, 16, 9, 164, 0, 11, 42, 27, 16, 10, 108, 182, 0, 213, 42, 180, 0, 22, 42, 89, 180, 0, 210, 90]
abbrev dktX3_writesNumber_0 : List UInt8 := dkwX3_writesNumber_0 ++ dktX3_writesNumber_1
theorem dksX3_writesNumber_0 : cX3_writesNumber.data.toList.drop 0 = dktX3_writesNumber_0 := by decide +kernel
theorem dksX3_writesNumber_1 : cX3_writesNumber.data.toList.drop 24 = dktX3_writesNumber_1 := dk_seg dksX3_writesNumber_0 24 rfl rfl
theorem dX3_writesNumber_0 : decode cX3_writesNumber 0 = .ok (.iload_n 1, 1) := dk_27 (dk_at dksX3_writesNumber_0 0 rfl rfl)
theorem dX3_writesNumber_1 : decode cX3_writesNumber 1 = .ok (.bipush 9, 2) := dk_16 9 (dk_at dksX3_writesNumber_0 1 rfl rfl)
theorem dX3_writesNumber_3 : decode cX3_writesNumber 3 = .ok (.if_icmp .le 11, 3) := dk_164 0 11 (dk_at dksX3_writesNumber_0 3 rfl rfl)
theorem dX3_writesNumber_6 : decode cX3_writesNumber 6 = .ok (.aload_n 0, 1) := dk_42 (dk_at dksX3_writesNumber_0 6 rfl rfl)
theorem dX3_writesNumber_7 : decode cX3_writesNumber 7 = .ok (.iload_n 1, 1) := dk_27 (dk_at dksX3_writesNumber_0 7 rfl rfl)
theorem dX3_writesNumber_8 : decode cX3_writesNumber 8 = .ok (.bipush 10, 2) := dk_16 10 (dk_at dksX3_writesNumber_0 8 rfl rfl)
theorem dX3_writesNumber_10 : decode cX3_writesNumber 10 = .ok (.idiv, 1) := dk_108 (dk_at dksX3_writesNumber_0 10 rfl rfl)
theorem dX3_writesNumber_11 : decode cX3_writesNumber 11 = .ok (.invokevirtual 213, 3) := dk_182 0 213 (dk_at dksX3_writesNumber_0 11 rfl rfl)
theorem dX3_writesNumber_14 : decode cX3_writesNumber 14 = .ok (.aload_n 0, 1) := dk_42 (dk_at dksX3_writesNumber_0 14 rfl rfl)
theorem dX3_writesNumber_15 : decode cX3_writesNumber 15 = .ok (.getfield 22, 3) := dk_180 0 22 (dk_at dksX3_writesNumber_0 15 rfl rfl)
theorem dX3_writesNumber_18 : decode cX3_writesNumber 18 = .ok (.aload_n 0, 1) := dk_42 (dk_at dksX3_writesNumber_0 18 rfl rfl)
theorem dX3_writesNumber_19 : decode cX3_writesNumber 19 = .ok (.dup, 1) := dk_89 (dk_at dksX3_writesNumber_0 19 rfl rfl)
theorem dX3_writesNumber_20 : decode cX3_writesNumber 20 = .ok (.getfield 210, 3) := dk_180 0 210 (dk_at dksX3_writesNumber_0 20 rfl rfl)
theorem dX3_writesNumber_23 : decode cX3_writesNumber 23 = .ok (.dup_x1, 1) := dk_90 (dk_at dksX3_writesNumber_0 23 rfl rfl)
theorem dX3_writesNumber_24 : decode cX3_writesNumber 24 = .ok (.iconst 1, 1) := dk_4 (dk_at dksX3_writesNumber_1 0 rfl rfl)
theorem dX3_writesNumber_25 : decode cX3_writesNumber 25 = .ok (.iadd, 1) := dk_96 (dk_at dksX3_writesNumber_1 1 rfl rfl)
theorem dX3_writesNumber_26 : decode cX3_writesNumber 26 = .ok (.putfield 210, 3) := dk_181 0 210 (dk_at dksX3_writesNumber_1 2 rfl rfl)
theorem dX3_writesNumber_29 : decode cX3_writesNumber 29 = .ok (.bipush 48, 2) := dk_16 48 (dk_at dksX3_writesNumber_1 5 rfl rfl)
theorem dX3_writesNumber_31 : decode cX3_writesNumber 31 = .ok (.iload_n 1, 1) := dk_27 (dk_at dksX3_writesNumber_1 7 rfl rfl)
theorem dX3_writesNumber_32 : decode cX3_writesNumber 32 = .ok (.bipush 10, 2) := dk_16 10 (dk_at dksX3_writesNumber_1 8 rfl rfl)
theorem dX3_writesNumber_34 : decode cX3_writesNumber 34 = .ok (.irem, 1) := dk_112 (dk_at dksX3_writesNumber_1 10 rfl rfl)
theorem dX3_writesNumber_35 : decode cX3_writesNumber 35 = .ok (.iadd, 1) := dk_96 (dk_at dksX3_writesNumber_1 11 rfl rfl)
theorem dX3_writesNumber_36 : decode cX3_writesNumber 36 = .ok (.iastore, 1) := dk_79 (dk_at dksX3_writesNumber_1 12 rfl rfl)
theorem dX3_writesNumber_37 : decode cX3_writesNumber 37 = .ok (.return_, 1) := dk_177 (dk_at dksX3_writesNumber_1 13 rfl rfl)
abbrev cX3_tellStreet : ByteArray := prog_12_method_58_code
def yX3_tellStreet : MethodName := ⟨RX3, "tellStreet", "()I"⟩
def dkwX3_tellStreet_2 : List UInt8 := [182, 0, 219, 132, 1, 1, 167, 255, 209, 42, 180, 0, 210, 172]
abbrev dktX3_tellStreet_2 : List UInt8 := dkwX3_tellStreet_2 ++ []
def dkwX3_tellStreet_1 : List UInt8 := [182, 0, 70, 155, 0, 24, 42, 42, 27, 182, 0, 70, 16, 7, 161, 0, 8, 18, 231, 167, 0, 5, 18, 233]
abbrev dktX3_tellStreet_1 : List UInt8 := dkwX3_tellStreet_1 ++ dktX3_tellStreet_2
def dkwX3_tellStreet_0 : List UInt8 := [42, 3, 181, 0, 210, 3, 60, 27, 16, 20, 162, 0, 47, 42, 42, 27, 182, 0, 52, 182, 0, 213, 42, 27]
abbrev dktX3_tellStreet_0 : List UInt8 := dkwX3_tellStreet_0 ++ dktX3_tellStreet_1
theorem dksX3_tellStreet_0 : cX3_tellStreet.data.toList.drop 0 = dktX3_tellStreet_0 := by decide +kernel
theorem dksX3_tellStreet_1 : cX3_tellStreet.data.toList.drop 24 = dktX3_tellStreet_1 := dk_seg dksX3_tellStreet_0 24 rfl rfl
theorem dksX3_tellStreet_2 : cX3_tellStreet.data.toList.drop 48 = dktX3_tellStreet_2 := dk_seg dksX3_tellStreet_1 24 rfl rfl
theorem dX3_tellStreet_0 : decode cX3_tellStreet 0 = .ok (.aload_n 0, 1) := dk_42 (dk_at dksX3_tellStreet_0 0 rfl rfl)
theorem dX3_tellStreet_1 : decode cX3_tellStreet 1 = .ok (.iconst 0, 1) := dk_3 (dk_at dksX3_tellStreet_0 1 rfl rfl)
theorem dX3_tellStreet_2 : decode cX3_tellStreet 2 = .ok (.putfield 210, 3) := dk_181 0 210 (dk_at dksX3_tellStreet_0 2 rfl rfl)
theorem dX3_tellStreet_5 : decode cX3_tellStreet 5 = .ok (.iconst 0, 1) := dk_3 (dk_at dksX3_tellStreet_0 5 rfl rfl)
theorem dX3_tellStreet_6 : decode cX3_tellStreet 6 = .ok (.istore_n 1, 1) := dk_60 (dk_at dksX3_tellStreet_0 6 rfl rfl)
theorem dX3_tellStreet_7 : decode cX3_tellStreet 7 = .ok (.iload_n 1, 1) := dk_27 (dk_at dksX3_tellStreet_0 7 rfl rfl)
theorem dX3_tellStreet_8 : decode cX3_tellStreet 8 = .ok (.bipush 20, 2) := dk_16 20 (dk_at dksX3_tellStreet_0 8 rfl rfl)
theorem dX3_tellStreet_10 : decode cX3_tellStreet 10 = .ok (.if_icmp .ge 47, 3) := dk_162 0 47 (dk_at dksX3_tellStreet_0 10 rfl rfl)
theorem dX3_tellStreet_13 : decode cX3_tellStreet 13 = .ok (.aload_n 0, 1) := dk_42 (dk_at dksX3_tellStreet_0 13 rfl rfl)
theorem dX3_tellStreet_14 : decode cX3_tellStreet 14 = .ok (.aload_n 0, 1) := dk_42 (dk_at dksX3_tellStreet_0 14 rfl rfl)
theorem dX3_tellStreet_15 : decode cX3_tellStreet 15 = .ok (.iload_n 1, 1) := dk_27 (dk_at dksX3_tellStreet_0 15 rfl rfl)
theorem dX3_tellStreet_16 : decode cX3_tellStreet 16 = .ok (.invokevirtual 52, 3) := dk_182 0 52 (dk_at dksX3_tellStreet_0 16 rfl rfl)
theorem dX3_tellStreet_19 : decode cX3_tellStreet 19 = .ok (.invokevirtual 213, 3) := dk_182 0 213 (dk_at dksX3_tellStreet_0 19 rfl rfl)
theorem dX3_tellStreet_22 : decode cX3_tellStreet 22 = .ok (.aload_n 0, 1) := dk_42 (dk_at dksX3_tellStreet_0 22 rfl rfl)
theorem dX3_tellStreet_23 : decode cX3_tellStreet 23 = .ok (.iload_n 1, 1) := dk_27 (dk_at dksX3_tellStreet_0 23 rfl rfl)
theorem dX3_tellStreet_24 : decode cX3_tellStreet 24 = .ok (.invokevirtual 70, 3) := dk_182 0 70 (dk_at dksX3_tellStreet_1 0 rfl rfl)
theorem dX3_tellStreet_27 : decode cX3_tellStreet 27 = .ok (.ifCond .lt 24, 3) := dk_155 0 24 (dk_at dksX3_tellStreet_1 3 rfl rfl)
theorem dX3_tellStreet_30 : decode cX3_tellStreet 30 = .ok (.aload_n 0, 1) := dk_42 (dk_at dksX3_tellStreet_1 6 rfl rfl)
theorem dX3_tellStreet_31 : decode cX3_tellStreet 31 = .ok (.aload_n 0, 1) := dk_42 (dk_at dksX3_tellStreet_1 7 rfl rfl)
theorem dX3_tellStreet_32 : decode cX3_tellStreet 32 = .ok (.iload_n 1, 1) := dk_27 (dk_at dksX3_tellStreet_1 8 rfl rfl)
theorem dX3_tellStreet_33 : decode cX3_tellStreet 33 = .ok (.invokevirtual 70, 3) := dk_182 0 70 (dk_at dksX3_tellStreet_1 9 rfl rfl)
theorem dX3_tellStreet_36 : decode cX3_tellStreet 36 = .ok (.bipush 7, 2) := dk_16 7 (dk_at dksX3_tellStreet_1 12 rfl rfl)
theorem dX3_tellStreet_38 : decode cX3_tellStreet 38 = .ok (.if_icmp .lt 8, 3) := dk_161 0 8 (dk_at dksX3_tellStreet_1 14 rfl rfl)
theorem dX3_tellStreet_41 : decode cX3_tellStreet 41 = .ok (.ldc 231, 2) := dk_18 231 (dk_at dksX3_tellStreet_1 17 rfl rfl)
theorem dX3_tellStreet_43 : decode cX3_tellStreet 43 = .ok (.goto 5, 3) := dk_167 0 5 (dk_at dksX3_tellStreet_1 19 rfl rfl)
theorem dX3_tellStreet_46 : decode cX3_tellStreet 46 = .ok (.ldc 233, 2) := dk_18 233 (dk_at dksX3_tellStreet_1 22 rfl rfl)
theorem dX3_tellStreet_48 : decode cX3_tellStreet 48 = .ok (.invokevirtual 219, 3) := dk_182 0 219 (dk_at dksX3_tellStreet_2 0 rfl rfl)
theorem dX3_tellStreet_51 : decode cX3_tellStreet 51 = .ok (.iinc 1 1, 3) := dk_132 1 1 (dk_at dksX3_tellStreet_2 3 rfl rfl)
theorem dX3_tellStreet_54 : decode cX3_tellStreet 54 = .ok (.goto (-47), 3) := dk_167 255 209 (dk_at dksX3_tellStreet_2 6 rfl rfl)
theorem dX3_tellStreet_57 : decode cX3_tellStreet 57 = .ok (.aload_n 0, 1) := dk_42 (dk_at dksX3_tellStreet_2 9 rfl rfl)
theorem dX3_tellStreet_58 : decode cX3_tellStreet 58 = .ok (.getfield 210, 3) := dk_180 0 210 (dk_at dksX3_tellStreet_2 10 rfl rfl)
theorem dX3_tellStreet_61 : decode cX3_tellStreet 61 = .ok (.ireturn, 1) := dk_172 (dk_at dksX3_tellStreet_2 13 rfl rfl)
abbrev cX3_character : ByteArray := prog_12_method_59_code
def yX3_character : MethodName := ⟨RX3, "character", "(I)I"⟩
def dkwX3_character_1 : List UInt8 := [16, 245, 172]
abbrev dktX3_character_1 : List UInt8 := dkwX3_character_1 ++ []
def dkwX3_character_0 : List UInt8 := [27, 3, 42, 180, 0, 210, 4, 100, 184, 0, 48, 153, 0, 12, 42, 180, 0, 22, 27, 46, 167, 0, 5]
abbrev dktX3_character_0 : List UInt8 := dkwX3_character_0 ++ dktX3_character_1
theorem dksX3_character_0 : cX3_character.data.toList.drop 0 = dktX3_character_0 := by decide +kernel
theorem dksX3_character_1 : cX3_character.data.toList.drop 23 = dktX3_character_1 := dk_seg dksX3_character_0 23 rfl rfl
theorem dX3_character_0 : decode cX3_character 0 = .ok (.iload_n 1, 1) := dk_27 (dk_at dksX3_character_0 0 rfl rfl)
theorem dX3_character_1 : decode cX3_character 1 = .ok (.iconst 0, 1) := dk_3 (dk_at dksX3_character_0 1 rfl rfl)
theorem dX3_character_2 : decode cX3_character 2 = .ok (.aload_n 0, 1) := dk_42 (dk_at dksX3_character_0 2 rfl rfl)
theorem dX3_character_3 : decode cX3_character 3 = .ok (.getfield 210, 3) := dk_180 0 210 (dk_at dksX3_character_0 3 rfl rfl)
theorem dX3_character_6 : decode cX3_character 6 = .ok (.iconst 1, 1) := dk_4 (dk_at dksX3_character_0 6 rfl rfl)
theorem dX3_character_7 : decode cX3_character 7 = .ok (.isub, 1) := dk_100 (dk_at dksX3_character_0 7 rfl rfl)
theorem dX3_character_8 : decode cX3_character 8 = .ok (.invokestatic 48, 3) := dk_184 0 48 (dk_at dksX3_character_0 8 rfl rfl)
theorem dX3_character_11 : decode cX3_character 11 = .ok (.ifCond .eq 12, 3) := dk_153 0 12 (dk_at dksX3_character_0 11 rfl rfl)
theorem dX3_character_14 : decode cX3_character 14 = .ok (.aload_n 0, 1) := dk_42 (dk_at dksX3_character_0 14 rfl rfl)
theorem dX3_character_15 : decode cX3_character 15 = .ok (.getfield 22, 3) := dk_180 0 22 (dk_at dksX3_character_0 15 rfl rfl)
theorem dX3_character_18 : decode cX3_character 18 = .ok (.iload_n 1, 1) := dk_27 (dk_at dksX3_character_0 18 rfl rfl)
theorem dX3_character_19 : decode cX3_character 19 = .ok (.iaload, 1) := dk_46 (dk_at dksX3_character_0 19 rfl rfl)
theorem dX3_character_20 : decode cX3_character 20 = .ok (.goto 5, 3) := dk_167 0 5 (dk_at dksX3_character_0 20 rfl rfl)
theorem dX3_character_23 : decode cX3_character 23 = .ok (.bipush (-11), 2) := dk_16 245 (dk_at dksX3_character_1 0 rfl rfl)
theorem dX3_character_25 : decode cX3_character 25 = .ok (.ireturn, 1) := dk_172 (dk_at dksX3_character_1 2 rfl rfl)
abbrev cX3_reason : ByteArray := prog_12_method_60_code
def yX3_reason : MethodName := ⟨RX3, "reason", "(Z)I"⟩
def dkwX3_reason_1 : List UInt8 := [180, 0, 35, 172]
abbrev dktX3_reason_1 : List UInt8 := dkwX3_reason_1 ++ []
def dkwX3_reason_0 : List UInt8 := [42, 180, 0, 35, 154, 0, 8, 16, 241, 167, 0, 18, 27, 153, 0, 10, 42, 180, 0, 38, 167, 0, 7, 42]
abbrev dktX3_reason_0 : List UInt8 := dkwX3_reason_0 ++ dktX3_reason_1
theorem dksX3_reason_0 : cX3_reason.data.toList.drop 0 = dktX3_reason_0 := by decide +kernel
theorem dksX3_reason_1 : cX3_reason.data.toList.drop 24 = dktX3_reason_1 := dk_seg dksX3_reason_0 24 rfl rfl
theorem dX3_reason_0 : decode cX3_reason 0 = .ok (.aload_n 0, 1) := dk_42 (dk_at dksX3_reason_0 0 rfl rfl)
theorem dX3_reason_1 : decode cX3_reason 1 = .ok (.getfield 35, 3) := dk_180 0 35 (dk_at dksX3_reason_0 1 rfl rfl)
theorem dX3_reason_4 : decode cX3_reason 4 = .ok (.ifCond .ne 8, 3) := dk_154 0 8 (dk_at dksX3_reason_0 4 rfl rfl)
theorem dX3_reason_7 : decode cX3_reason 7 = .ok (.bipush (-15), 2) := dk_16 241 (dk_at dksX3_reason_0 7 rfl rfl)
theorem dX3_reason_9 : decode cX3_reason 9 = .ok (.goto 18, 3) := dk_167 0 18 (dk_at dksX3_reason_0 9 rfl rfl)
theorem dX3_reason_12 : decode cX3_reason 12 = .ok (.iload_n 1, 1) := dk_27 (dk_at dksX3_reason_0 12 rfl rfl)
theorem dX3_reason_13 : decode cX3_reason 13 = .ok (.ifCond .eq 10, 3) := dk_153 0 10 (dk_at dksX3_reason_0 13 rfl rfl)
theorem dX3_reason_16 : decode cX3_reason 16 = .ok (.aload_n 0, 1) := dk_42 (dk_at dksX3_reason_0 16 rfl rfl)
theorem dX3_reason_17 : decode cX3_reason 17 = .ok (.getfield 38, 3) := dk_180 0 38 (dk_at dksX3_reason_0 17 rfl rfl)
theorem dX3_reason_20 : decode cX3_reason 20 = .ok (.goto 7, 3) := dk_167 0 7 (dk_at dksX3_reason_0 20 rfl rfl)
theorem dX3_reason_23 : decode cX3_reason 23 = .ok (.aload_n 0, 1) := dk_42 (dk_at dksX3_reason_0 23 rfl rfl)
theorem dX3_reason_24 : decode cX3_reason 24 = .ok (.getfield 35, 3) := dk_180 0 35 (dk_at dksX3_reason_1 0 rfl rfl)
theorem dX3_reason_27 : decode cX3_reason 27 = .ok (.ireturn, 1) := dk_172 (dk_at dksX3_reason_1 3 rfl rfl)
abbrev cX3_account : ByteArray := prog_12_method_63_code
def yX3_account : MethodName := ⟨RX3, "account", "(I)I"⟩
def dkwX3_account_7 : List UInt8 := [180, 0, 9, 16, 13, 46, 172, 42, 180, 0, 149, 172, 42, 180, 0, 31, 172, 16, 244, 172]
abbrev dktX3_account_7 : List UInt8 := dkwX3_account_7 ++ []
def dkwX3_account_6 : List UInt8 := [180, 0, 9, 16, 11, 46, 172, 42, 180, 0, 9, 6, 46, 172, 42, 180, 0, 9, 16, 12, 46, 172, 42]
abbrev dktX3_account_6 : List UInt8 := dkwX3_account_6 ++ dktX3_account_7
def dkwX3_account_5 : List UInt8 := [180, 0, 9, 7, 46, 172, 42, 180, 0, 9, 16, 9, 46, 172, 42, 180, 0, 9, 16, 10, 46, 172, 42]
abbrev dktX3_account_5 : List UInt8 := dkwX3_account_5 ++ dktX3_account_6
def dkwX3_account_4 : List UInt8 := [180, 0, 9, 16, 6, 46, 172, 42, 180, 0, 9, 16, 7, 46, 172, 42, 180, 0, 9, 16, 8, 46, 172, 42]
abbrev dktX3_account_4 : List UInt8 := dkwX3_account_4 ++ dktX3_account_5
def dkwX3_account_3 : List UInt8 := [182, 0, 77, 172, 42, 182, 0, 235, 172, 42, 182, 0, 238, 172, 42, 180, 0, 9, 8, 46, 172, 42]
abbrev dktX3_account_3 : List UInt8 := dkwX3_account_3 ++ dktX3_account_4
def dkwX3_account_2 : List UInt8 := [42, 180, 0, 9, 3, 46, 172, 42, 180, 0, 9, 4, 46, 172, 42, 180, 0, 9, 5, 46, 172, 42]
abbrev dktX3_account_2 : List UInt8 := dkwX3_account_2 ++ dktX3_account_3
def dkwX3_account_1 : List UInt8 := [170, 0, 0, 0, 0, 0, 222, 0, 0, 0, 0, 0, 0, 0, 18, 0, 0, 0, 91, 0, 0, 0, 98, 0, 0, 0, 105, 0, 0, 0, 112, 0, 0, 0, 117, 0, 0, 0, 122, 0, 0, 0, 127, 0, 0, 0, 134, 0, 0, 0, 142, 0, 0, 0, 150, 0, 0, 0, 158, 0, 0, 0, 165, 0, 0, 0, 173, 0, 0, 0, 181, 0, 0, 0, 189, 0, 0, 0, 196, 0, 0, 0, 204, 0, 0, 0, 212, 0, 0, 0, 217]
abbrev dktX3_account_1 : List UInt8 := dkwX3_account_1 ++ dktX3_account_2
def dkwX3_account_0 : List UInt8 := [27]
abbrev dktX3_account_0 : List UInt8 := dkwX3_account_0 ++ dktX3_account_1
theorem dksX3_account_0 : cX3_account.data.toList.drop 0 = dktX3_account_0 := by decide +kernel
theorem dksX3_account_1 : cX3_account.data.toList.drop 1 = dktX3_account_1 := dk_seg dksX3_account_0 1 rfl rfl
theorem dksX3_account_2 : cX3_account.data.toList.drop 92 = dktX3_account_2 := dk_seg dksX3_account_1 91 rfl rfl
theorem dksX3_account_3 : cX3_account.data.toList.drop 114 = dktX3_account_3 := dk_seg dksX3_account_2 22 rfl rfl
theorem dksX3_account_4 : cX3_account.data.toList.drop 136 = dktX3_account_4 := dk_seg dksX3_account_3 22 rfl rfl
theorem dksX3_account_5 : cX3_account.data.toList.drop 160 = dktX3_account_5 := dk_seg dksX3_account_4 24 rfl rfl
theorem dksX3_account_6 : cX3_account.data.toList.drop 183 = dktX3_account_6 := dk_seg dksX3_account_5 23 rfl rfl
theorem dksX3_account_7 : cX3_account.data.toList.drop 206 = dktX3_account_7 := dk_seg dksX3_account_6 23 rfl rfl
theorem dX3_account_0 : decode cX3_account 0 = .ok (.iload_n 1, 1) := dk_27 (dk_at dksX3_account_0 0 rfl rfl)
theorem dX3_account_1 : decode cX3_account 1 = .ok (.tableswitch 222 0 18 #[91, 98, 105, 112, 117, 122, 127, 134, 142, 150, 158, 165, 173, 181, 189, 196, 204, 212, 217], 91) := by decide +kernel
theorem dX3_account_92 : decode cX3_account 92 = .ok (.aload_n 0, 1) := dk_42 (dk_at dksX3_account_2 0 rfl rfl)
theorem dX3_account_93 : decode cX3_account 93 = .ok (.getfield 9, 3) := dk_180 0 9 (dk_at dksX3_account_2 1 rfl rfl)
theorem dX3_account_96 : decode cX3_account 96 = .ok (.iconst 0, 1) := dk_3 (dk_at dksX3_account_2 4 rfl rfl)
theorem dX3_account_97 : decode cX3_account 97 = .ok (.iaload, 1) := dk_46 (dk_at dksX3_account_2 5 rfl rfl)
theorem dX3_account_98 : decode cX3_account 98 = .ok (.ireturn, 1) := dk_172 (dk_at dksX3_account_2 6 rfl rfl)
theorem dX3_account_99 : decode cX3_account 99 = .ok (.aload_n 0, 1) := dk_42 (dk_at dksX3_account_2 7 rfl rfl)
theorem dX3_account_100 : decode cX3_account 100 = .ok (.getfield 9, 3) := dk_180 0 9 (dk_at dksX3_account_2 8 rfl rfl)
theorem dX3_account_103 : decode cX3_account 103 = .ok (.iconst 1, 1) := dk_4 (dk_at dksX3_account_2 11 rfl rfl)
theorem dX3_account_104 : decode cX3_account 104 = .ok (.iaload, 1) := dk_46 (dk_at dksX3_account_2 12 rfl rfl)
theorem dX3_account_105 : decode cX3_account 105 = .ok (.ireturn, 1) := dk_172 (dk_at dksX3_account_2 13 rfl rfl)
theorem dX3_account_106 : decode cX3_account 106 = .ok (.aload_n 0, 1) := dk_42 (dk_at dksX3_account_2 14 rfl rfl)
theorem dX3_account_107 : decode cX3_account 107 = .ok (.getfield 9, 3) := dk_180 0 9 (dk_at dksX3_account_2 15 rfl rfl)
theorem dX3_account_110 : decode cX3_account 110 = .ok (.iconst 2, 1) := dk_5 (dk_at dksX3_account_2 18 rfl rfl)
theorem dX3_account_111 : decode cX3_account 111 = .ok (.iaload, 1) := dk_46 (dk_at dksX3_account_2 19 rfl rfl)
theorem dX3_account_112 : decode cX3_account 112 = .ok (.ireturn, 1) := dk_172 (dk_at dksX3_account_2 20 rfl rfl)
theorem dX3_account_113 : decode cX3_account 113 = .ok (.aload_n 0, 1) := dk_42 (dk_at dksX3_account_2 21 rfl rfl)
theorem dX3_account_114 : decode cX3_account 114 = .ok (.invokevirtual 77, 3) := dk_182 0 77 (dk_at dksX3_account_3 0 rfl rfl)
theorem dX3_account_117 : decode cX3_account 117 = .ok (.ireturn, 1) := dk_172 (dk_at dksX3_account_3 3 rfl rfl)
theorem dX3_account_118 : decode cX3_account 118 = .ok (.aload_n 0, 1) := dk_42 (dk_at dksX3_account_3 4 rfl rfl)
theorem dX3_account_119 : decode cX3_account 119 = .ok (.invokevirtual 235, 3) := dk_182 0 235 (dk_at dksX3_account_3 5 rfl rfl)
theorem dX3_account_122 : decode cX3_account 122 = .ok (.ireturn, 1) := dk_172 (dk_at dksX3_account_3 8 rfl rfl)
theorem dX3_account_123 : decode cX3_account 123 = .ok (.aload_n 0, 1) := dk_42 (dk_at dksX3_account_3 9 rfl rfl)
theorem dX3_account_124 : decode cX3_account 124 = .ok (.invokevirtual 238, 3) := dk_182 0 238 (dk_at dksX3_account_3 10 rfl rfl)
theorem dX3_account_127 : decode cX3_account 127 = .ok (.ireturn, 1) := dk_172 (dk_at dksX3_account_3 13 rfl rfl)
theorem dX3_account_128 : decode cX3_account 128 = .ok (.aload_n 0, 1) := dk_42 (dk_at dksX3_account_3 14 rfl rfl)
theorem dX3_account_129 : decode cX3_account 129 = .ok (.getfield 9, 3) := dk_180 0 9 (dk_at dksX3_account_3 15 rfl rfl)
theorem dX3_account_132 : decode cX3_account 132 = .ok (.iconst 5, 1) := dk_8 (dk_at dksX3_account_3 18 rfl rfl)
theorem dX3_account_133 : decode cX3_account 133 = .ok (.iaload, 1) := dk_46 (dk_at dksX3_account_3 19 rfl rfl)
theorem dX3_account_134 : decode cX3_account 134 = .ok (.ireturn, 1) := dk_172 (dk_at dksX3_account_3 20 rfl rfl)
theorem dX3_account_135 : decode cX3_account 135 = .ok (.aload_n 0, 1) := dk_42 (dk_at dksX3_account_3 21 rfl rfl)
theorem dX3_account_136 : decode cX3_account 136 = .ok (.getfield 9, 3) := dk_180 0 9 (dk_at dksX3_account_4 0 rfl rfl)
theorem dX3_account_139 : decode cX3_account 139 = .ok (.bipush 6, 2) := dk_16 6 (dk_at dksX3_account_4 3 rfl rfl)
theorem dX3_account_141 : decode cX3_account 141 = .ok (.iaload, 1) := dk_46 (dk_at dksX3_account_4 5 rfl rfl)
theorem dX3_account_142 : decode cX3_account 142 = .ok (.ireturn, 1) := dk_172 (dk_at dksX3_account_4 6 rfl rfl)
theorem dX3_account_143 : decode cX3_account 143 = .ok (.aload_n 0, 1) := dk_42 (dk_at dksX3_account_4 7 rfl rfl)
theorem dX3_account_144 : decode cX3_account 144 = .ok (.getfield 9, 3) := dk_180 0 9 (dk_at dksX3_account_4 8 rfl rfl)
theorem dX3_account_147 : decode cX3_account 147 = .ok (.bipush 7, 2) := dk_16 7 (dk_at dksX3_account_4 11 rfl rfl)
theorem dX3_account_149 : decode cX3_account 149 = .ok (.iaload, 1) := dk_46 (dk_at dksX3_account_4 13 rfl rfl)
theorem dX3_account_150 : decode cX3_account 150 = .ok (.ireturn, 1) := dk_172 (dk_at dksX3_account_4 14 rfl rfl)
theorem dX3_account_151 : decode cX3_account 151 = .ok (.aload_n 0, 1) := dk_42 (dk_at dksX3_account_4 15 rfl rfl)
theorem dX3_account_152 : decode cX3_account 152 = .ok (.getfield 9, 3) := dk_180 0 9 (dk_at dksX3_account_4 16 rfl rfl)
theorem dX3_account_155 : decode cX3_account 155 = .ok (.bipush 8, 2) := dk_16 8 (dk_at dksX3_account_4 19 rfl rfl)
theorem dX3_account_157 : decode cX3_account 157 = .ok (.iaload, 1) := dk_46 (dk_at dksX3_account_4 21 rfl rfl)
theorem dX3_account_158 : decode cX3_account 158 = .ok (.ireturn, 1) := dk_172 (dk_at dksX3_account_4 22 rfl rfl)
theorem dX3_account_159 : decode cX3_account 159 = .ok (.aload_n 0, 1) := dk_42 (dk_at dksX3_account_4 23 rfl rfl)
theorem dX3_account_160 : decode cX3_account 160 = .ok (.getfield 9, 3) := dk_180 0 9 (dk_at dksX3_account_5 0 rfl rfl)
theorem dX3_account_163 : decode cX3_account 163 = .ok (.iconst 4, 1) := dk_7 (dk_at dksX3_account_5 3 rfl rfl)
theorem dX3_account_164 : decode cX3_account 164 = .ok (.iaload, 1) := dk_46 (dk_at dksX3_account_5 4 rfl rfl)
theorem dX3_account_165 : decode cX3_account 165 = .ok (.ireturn, 1) := dk_172 (dk_at dksX3_account_5 5 rfl rfl)
theorem dX3_account_166 : decode cX3_account 166 = .ok (.aload_n 0, 1) := dk_42 (dk_at dksX3_account_5 6 rfl rfl)
theorem dX3_account_167 : decode cX3_account 167 = .ok (.getfield 9, 3) := dk_180 0 9 (dk_at dksX3_account_5 7 rfl rfl)
theorem dX3_account_170 : decode cX3_account 170 = .ok (.bipush 9, 2) := dk_16 9 (dk_at dksX3_account_5 10 rfl rfl)
theorem dX3_account_172 : decode cX3_account 172 = .ok (.iaload, 1) := dk_46 (dk_at dksX3_account_5 12 rfl rfl)
theorem dX3_account_173 : decode cX3_account 173 = .ok (.ireturn, 1) := dk_172 (dk_at dksX3_account_5 13 rfl rfl)
theorem dX3_account_174 : decode cX3_account 174 = .ok (.aload_n 0, 1) := dk_42 (dk_at dksX3_account_5 14 rfl rfl)
theorem dX3_account_175 : decode cX3_account 175 = .ok (.getfield 9, 3) := dk_180 0 9 (dk_at dksX3_account_5 15 rfl rfl)
theorem dX3_account_178 : decode cX3_account 178 = .ok (.bipush 10, 2) := dk_16 10 (dk_at dksX3_account_5 18 rfl rfl)
theorem dX3_account_180 : decode cX3_account 180 = .ok (.iaload, 1) := dk_46 (dk_at dksX3_account_5 20 rfl rfl)
theorem dX3_account_181 : decode cX3_account 181 = .ok (.ireturn, 1) := dk_172 (dk_at dksX3_account_5 21 rfl rfl)
theorem dX3_account_182 : decode cX3_account 182 = .ok (.aload_n 0, 1) := dk_42 (dk_at dksX3_account_5 22 rfl rfl)
theorem dX3_account_183 : decode cX3_account 183 = .ok (.getfield 9, 3) := dk_180 0 9 (dk_at dksX3_account_6 0 rfl rfl)
theorem dX3_account_186 : decode cX3_account 186 = .ok (.bipush 11, 2) := dk_16 11 (dk_at dksX3_account_6 3 rfl rfl)
theorem dX3_account_188 : decode cX3_account 188 = .ok (.iaload, 1) := dk_46 (dk_at dksX3_account_6 5 rfl rfl)
theorem dX3_account_189 : decode cX3_account 189 = .ok (.ireturn, 1) := dk_172 (dk_at dksX3_account_6 6 rfl rfl)
theorem dX3_account_190 : decode cX3_account 190 = .ok (.aload_n 0, 1) := dk_42 (dk_at dksX3_account_6 7 rfl rfl)
theorem dX3_account_191 : decode cX3_account 191 = .ok (.getfield 9, 3) := dk_180 0 9 (dk_at dksX3_account_6 8 rfl rfl)
theorem dX3_account_194 : decode cX3_account 194 = .ok (.iconst 3, 1) := dk_6 (dk_at dksX3_account_6 11 rfl rfl)
theorem dX3_account_195 : decode cX3_account 195 = .ok (.iaload, 1) := dk_46 (dk_at dksX3_account_6 12 rfl rfl)
theorem dX3_account_196 : decode cX3_account 196 = .ok (.ireturn, 1) := dk_172 (dk_at dksX3_account_6 13 rfl rfl)
theorem dX3_account_197 : decode cX3_account 197 = .ok (.aload_n 0, 1) := dk_42 (dk_at dksX3_account_6 14 rfl rfl)
theorem dX3_account_198 : decode cX3_account 198 = .ok (.getfield 9, 3) := dk_180 0 9 (dk_at dksX3_account_6 15 rfl rfl)
theorem dX3_account_201 : decode cX3_account 201 = .ok (.bipush 12, 2) := dk_16 12 (dk_at dksX3_account_6 18 rfl rfl)
theorem dX3_account_203 : decode cX3_account 203 = .ok (.iaload, 1) := dk_46 (dk_at dksX3_account_6 20 rfl rfl)
theorem dX3_account_204 : decode cX3_account 204 = .ok (.ireturn, 1) := dk_172 (dk_at dksX3_account_6 21 rfl rfl)
theorem dX3_account_205 : decode cX3_account 205 = .ok (.aload_n 0, 1) := dk_42 (dk_at dksX3_account_6 22 rfl rfl)
theorem dX3_account_206 : decode cX3_account 206 = .ok (.getfield 9, 3) := dk_180 0 9 (dk_at dksX3_account_7 0 rfl rfl)
theorem dX3_account_209 : decode cX3_account 209 = .ok (.bipush 13, 2) := dk_16 13 (dk_at dksX3_account_7 3 rfl rfl)
theorem dX3_account_211 : decode cX3_account 211 = .ok (.iaload, 1) := dk_46 (dk_at dksX3_account_7 5 rfl rfl)
theorem dX3_account_212 : decode cX3_account 212 = .ok (.ireturn, 1) := dk_172 (dk_at dksX3_account_7 6 rfl rfl)
theorem dX3_account_213 : decode cX3_account 213 = .ok (.aload_n 0, 1) := dk_42 (dk_at dksX3_account_7 7 rfl rfl)
theorem dX3_account_214 : decode cX3_account 214 = .ok (.getfield 149, 3) := dk_180 0 149 (dk_at dksX3_account_7 8 rfl rfl)
theorem dX3_account_217 : decode cX3_account 217 = .ok (.ireturn, 1) := dk_172 (dk_at dksX3_account_7 11 rfl rfl)
theorem dX3_account_218 : decode cX3_account 218 = .ok (.aload_n 0, 1) := dk_42 (dk_at dksX3_account_7 12 rfl rfl)
theorem dX3_account_219 : decode cX3_account 219 = .ok (.getfield 31, 3) := dk_180 0 31 (dk_at dksX3_account_7 13 rfl rfl)
theorem dX3_account_222 : decode cX3_account 222 = .ok (.ireturn, 1) := dk_172 (dk_at dksX3_account_7 16 rfl rfl)
theorem dX3_account_223 : decode cX3_account 223 = .ok (.bipush (-12), 2) := dk_16 244 (dk_at dksX3_account_7 17 rfl rfl)
theorem dX3_account_225 : decode cX3_account 225 = .ok (.ireturn, 1) := dk_172 (dk_at dksX3_account_7 19 rfl rfl)
abbrev cX3_inDepot : ByteArray := prog_12_method_61_code
def yX3_inDepot : MethodName := ⟨RX3, "inDepot", "()I"⟩
def dkwX3_inDepot_0 : List UInt8 := [42, 180, 0, 9, 16, 14, 46, 42, 180, 0, 9, 16, 15, 46, 96, 42, 180, 0, 9, 16, 16, 46, 96, 172]
abbrev dktX3_inDepot_0 : List UInt8 := dkwX3_inDepot_0 ++ []
theorem dksX3_inDepot_0 : cX3_inDepot.data.toList.drop 0 = dktX3_inDepot_0 := by decide +kernel
theorem dX3_inDepot_0 : decode cX3_inDepot 0 = .ok (.aload_n 0, 1) := dk_42 (dk_at dksX3_inDepot_0 0 rfl rfl)
theorem dX3_inDepot_1 : decode cX3_inDepot 1 = .ok (.getfield 9, 3) := dk_180 0 9 (dk_at dksX3_inDepot_0 1 rfl rfl)
theorem dX3_inDepot_4 : decode cX3_inDepot 4 = .ok (.bipush 14, 2) := dk_16 14 (dk_at dksX3_inDepot_0 4 rfl rfl)
theorem dX3_inDepot_6 : decode cX3_inDepot 6 = .ok (.iaload, 1) := dk_46 (dk_at dksX3_inDepot_0 6 rfl rfl)
theorem dX3_inDepot_7 : decode cX3_inDepot 7 = .ok (.aload_n 0, 1) := dk_42 (dk_at dksX3_inDepot_0 7 rfl rfl)
theorem dX3_inDepot_8 : decode cX3_inDepot 8 = .ok (.getfield 9, 3) := dk_180 0 9 (dk_at dksX3_inDepot_0 8 rfl rfl)
theorem dX3_inDepot_11 : decode cX3_inDepot 11 = .ok (.bipush 15, 2) := dk_16 15 (dk_at dksX3_inDepot_0 11 rfl rfl)
theorem dX3_inDepot_13 : decode cX3_inDepot 13 = .ok (.iaload, 1) := dk_46 (dk_at dksX3_inDepot_0 13 rfl rfl)
theorem dX3_inDepot_14 : decode cX3_inDepot 14 = .ok (.iadd, 1) := dk_96 (dk_at dksX3_inDepot_0 14 rfl rfl)
theorem dX3_inDepot_15 : decode cX3_inDepot 15 = .ok (.aload_n 0, 1) := dk_42 (dk_at dksX3_inDepot_0 15 rfl rfl)
theorem dX3_inDepot_16 : decode cX3_inDepot 16 = .ok (.getfield 9, 3) := dk_180 0 9 (dk_at dksX3_inDepot_0 16 rfl rfl)
theorem dX3_inDepot_19 : decode cX3_inDepot 19 = .ok (.bipush 16, 2) := dk_16 16 (dk_at dksX3_inDepot_0 19 rfl rfl)
theorem dX3_inDepot_21 : decode cX3_inDepot 21 = .ok (.iaload, 1) := dk_46 (dk_at dksX3_inDepot_0 21 rfl rfl)
theorem dX3_inDepot_22 : decode cX3_inDepot 22 = .ok (.iadd, 1) := dk_96 (dk_at dksX3_inDepot_0 22 rfl rfl)
theorem dX3_inDepot_23 : decode cX3_inDepot 23 = .ok (.ireturn, 1) := dk_172 (dk_at dksX3_inDepot_0 23 rfl rfl)
abbrev cX3_inCases : ByteArray := prog_12_method_62_code
def yX3_inCases : MethodName := ⟨RX3, "inCases", "()I"⟩
def dkwX3_inCases_1 : List UInt8 := [6, 29, 96, 182, 0, 90, 96, 60, 132, 3, 1, 167, 255, 237, 132, 2, 1, 167, 255, 219, 27, 172]
abbrev dktX3_inCases_1 : List UInt8 := dkwX3_inCases_1 ++ []
def dkwX3_inCases_0 : List UInt8 := [3, 60, 3, 61, 28, 42, 180, 0, 9, 5, 46, 162, 0, 33, 3, 62, 29, 6, 162, 0, 20, 27, 42, 28]
abbrev dktX3_inCases_0 : List UInt8 := dkwX3_inCases_0 ++ dktX3_inCases_1
theorem dksX3_inCases_0 : cX3_inCases.data.toList.drop 0 = dktX3_inCases_0 := by decide +kernel
theorem dksX3_inCases_1 : cX3_inCases.data.toList.drop 24 = dktX3_inCases_1 := dk_seg dksX3_inCases_0 24 rfl rfl
theorem dX3_inCases_0 : decode cX3_inCases 0 = .ok (.iconst 0, 1) := dk_3 (dk_at dksX3_inCases_0 0 rfl rfl)
theorem dX3_inCases_1 : decode cX3_inCases 1 = .ok (.istore_n 1, 1) := dk_60 (dk_at dksX3_inCases_0 1 rfl rfl)
theorem dX3_inCases_2 : decode cX3_inCases 2 = .ok (.iconst 0, 1) := dk_3 (dk_at dksX3_inCases_0 2 rfl rfl)
theorem dX3_inCases_3 : decode cX3_inCases 3 = .ok (.istore_n 2, 1) := dk_61 (dk_at dksX3_inCases_0 3 rfl rfl)
theorem dX3_inCases_4 : decode cX3_inCases 4 = .ok (.iload_n 2, 1) := dk_28 (dk_at dksX3_inCases_0 4 rfl rfl)
theorem dX3_inCases_5 : decode cX3_inCases 5 = .ok (.aload_n 0, 1) := dk_42 (dk_at dksX3_inCases_0 5 rfl rfl)
theorem dX3_inCases_6 : decode cX3_inCases 6 = .ok (.getfield 9, 3) := dk_180 0 9 (dk_at dksX3_inCases_0 6 rfl rfl)
theorem dX3_inCases_9 : decode cX3_inCases 9 = .ok (.iconst 2, 1) := dk_5 (dk_at dksX3_inCases_0 9 rfl rfl)
theorem dX3_inCases_10 : decode cX3_inCases 10 = .ok (.iaload, 1) := dk_46 (dk_at dksX3_inCases_0 10 rfl rfl)
theorem dX3_inCases_11 : decode cX3_inCases 11 = .ok (.if_icmp .ge 33, 3) := dk_162 0 33 (dk_at dksX3_inCases_0 11 rfl rfl)
theorem dX3_inCases_14 : decode cX3_inCases 14 = .ok (.iconst 0, 1) := dk_3 (dk_at dksX3_inCases_0 14 rfl rfl)
theorem dX3_inCases_15 : decode cX3_inCases 15 = .ok (.istore_n 3, 1) := dk_62 (dk_at dksX3_inCases_0 15 rfl rfl)
theorem dX3_inCases_16 : decode cX3_inCases 16 = .ok (.iload_n 3, 1) := dk_29 (dk_at dksX3_inCases_0 16 rfl rfl)
theorem dX3_inCases_17 : decode cX3_inCases 17 = .ok (.iconst 3, 1) := dk_6 (dk_at dksX3_inCases_0 17 rfl rfl)
theorem dX3_inCases_18 : decode cX3_inCases 18 = .ok (.if_icmp .ge 20, 3) := dk_162 0 20 (dk_at dksX3_inCases_0 18 rfl rfl)
theorem dX3_inCases_21 : decode cX3_inCases 21 = .ok (.iload_n 1, 1) := dk_27 (dk_at dksX3_inCases_0 21 rfl rfl)
theorem dX3_inCases_22 : decode cX3_inCases 22 = .ok (.aload_n 0, 1) := dk_42 (dk_at dksX3_inCases_0 22 rfl rfl)
theorem dX3_inCases_23 : decode cX3_inCases 23 = .ok (.iload_n 2, 1) := dk_28 (dk_at dksX3_inCases_0 23 rfl rfl)
theorem dX3_inCases_24 : decode cX3_inCases 24 = .ok (.iconst 3, 1) := dk_6 (dk_at dksX3_inCases_1 0 rfl rfl)
theorem dX3_inCases_25 : decode cX3_inCases 25 = .ok (.iload_n 3, 1) := dk_29 (dk_at dksX3_inCases_1 1 rfl rfl)
theorem dX3_inCases_26 : decode cX3_inCases 26 = .ok (.iadd, 1) := dk_96 (dk_at dksX3_inCases_1 2 rfl rfl)
theorem dX3_inCases_27 : decode cX3_inCases 27 = .ok (.invokevirtual 90, 3) := dk_182 0 90 (dk_at dksX3_inCases_1 3 rfl rfl)
theorem dX3_inCases_30 : decode cX3_inCases 30 = .ok (.iadd, 1) := dk_96 (dk_at dksX3_inCases_1 6 rfl rfl)
theorem dX3_inCases_31 : decode cX3_inCases 31 = .ok (.istore_n 1, 1) := dk_60 (dk_at dksX3_inCases_1 7 rfl rfl)
theorem dX3_inCases_32 : decode cX3_inCases 32 = .ok (.iinc 3 1, 3) := dk_132 3 1 (dk_at dksX3_inCases_1 8 rfl rfl)
theorem dX3_inCases_35 : decode cX3_inCases 35 = .ok (.goto (-19), 3) := dk_167 255 237 (dk_at dksX3_inCases_1 11 rfl rfl)
theorem dX3_inCases_38 : decode cX3_inCases 38 = .ok (.iinc 2 1, 3) := dk_132 2 1 (dk_at dksX3_inCases_1 14 rfl rfl)
theorem dX3_inCases_41 : decode cX3_inCases 41 = .ok (.goto (-37), 3) := dk_167 255 219 (dk_at dksX3_inCases_1 17 rfl rfl)
theorem dX3_inCases_44 : decode cX3_inCases 44 = .ok (.iload_n 1, 1) := dk_27 (dk_at dksX3_inCases_1 20 rfl rfl)
theorem dX3_inCases_45 : decode cX3_inCases 45 = .ok (.ireturn, 1) := dk_172 (dk_at dksX3_inCases_1 21 rfl rfl)
abbrev cX3_isBalanced : ByteArray := prog_12_method_64_code
def yX3_isBalanced : MethodName := ⟨RX3, "isBalanced", "()I"⟩
def dkwX3_isBalanced_3 : List UInt8 := [16, 10, 46, 100, 42, 180, 0, 9, 16, 11, 46, 100, 160, 0, 7, 4, 167, 0, 4, 3, 172]
abbrev dktX3_isBalanced_3 : List UInt8 := dkwX3_isBalanced_3 ++ []
def dkwX3_isBalanced_2 : List UInt8 := [27, 153, 0, 42, 42, 180, 0, 9, 7, 46, 16, 50, 42, 180, 0, 9, 16, 9, 46, 96, 42, 180, 0, 9]
abbrev dktX3_isBalanced_2 : List UInt8 := dkwX3_isBalanced_2 ++ dktX3_isBalanced_3
def dkwX3_isBalanced_1 : List UInt8 := [180, 0, 9, 16, 6, 46, 96, 42, 180, 0, 9, 16, 7, 46, 100, 160, 0, 7, 4, 167, 0, 4, 3, 60]
abbrev dktX3_isBalanced_1 : List UInt8 := dkwX3_isBalanced_1 ++ dktX3_isBalanced_2
def dkwX3_isBalanced_0 : List UInt8 := [42, 180, 0, 9, 8, 46, 42, 182, 0, 235, 42, 182, 0, 238, 96, 42, 180, 0, 9, 16, 8, 46, 96, 42]
abbrev dktX3_isBalanced_0 : List UInt8 := dkwX3_isBalanced_0 ++ dktX3_isBalanced_1
theorem dksX3_isBalanced_0 : cX3_isBalanced.data.toList.drop 0 = dktX3_isBalanced_0 := by decide +kernel
theorem dksX3_isBalanced_1 : cX3_isBalanced.data.toList.drop 24 = dktX3_isBalanced_1 := dk_seg dksX3_isBalanced_0 24 rfl rfl
theorem dksX3_isBalanced_2 : cX3_isBalanced.data.toList.drop 48 = dktX3_isBalanced_2 := dk_seg dksX3_isBalanced_1 24 rfl rfl
theorem dksX3_isBalanced_3 : cX3_isBalanced.data.toList.drop 72 = dktX3_isBalanced_3 := dk_seg dksX3_isBalanced_2 24 rfl rfl
theorem dX3_isBalanced_0 : decode cX3_isBalanced 0 = .ok (.aload_n 0, 1) := dk_42 (dk_at dksX3_isBalanced_0 0 rfl rfl)
theorem dX3_isBalanced_1 : decode cX3_isBalanced 1 = .ok (.getfield 9, 3) := dk_180 0 9 (dk_at dksX3_isBalanced_0 1 rfl rfl)
theorem dX3_isBalanced_4 : decode cX3_isBalanced 4 = .ok (.iconst 5, 1) := dk_8 (dk_at dksX3_isBalanced_0 4 rfl rfl)
theorem dX3_isBalanced_5 : decode cX3_isBalanced 5 = .ok (.iaload, 1) := dk_46 (dk_at dksX3_isBalanced_0 5 rfl rfl)
theorem dX3_isBalanced_6 : decode cX3_isBalanced 6 = .ok (.aload_n 0, 1) := dk_42 (dk_at dksX3_isBalanced_0 6 rfl rfl)
theorem dX3_isBalanced_7 : decode cX3_isBalanced 7 = .ok (.invokevirtual 235, 3) := dk_182 0 235 (dk_at dksX3_isBalanced_0 7 rfl rfl)
theorem dX3_isBalanced_10 : decode cX3_isBalanced 10 = .ok (.aload_n 0, 1) := dk_42 (dk_at dksX3_isBalanced_0 10 rfl rfl)
theorem dX3_isBalanced_11 : decode cX3_isBalanced 11 = .ok (.invokevirtual 238, 3) := dk_182 0 238 (dk_at dksX3_isBalanced_0 11 rfl rfl)
theorem dX3_isBalanced_14 : decode cX3_isBalanced 14 = .ok (.iadd, 1) := dk_96 (dk_at dksX3_isBalanced_0 14 rfl rfl)
theorem dX3_isBalanced_15 : decode cX3_isBalanced 15 = .ok (.aload_n 0, 1) := dk_42 (dk_at dksX3_isBalanced_0 15 rfl rfl)
theorem dX3_isBalanced_16 : decode cX3_isBalanced 16 = .ok (.getfield 9, 3) := dk_180 0 9 (dk_at dksX3_isBalanced_0 16 rfl rfl)
theorem dX3_isBalanced_19 : decode cX3_isBalanced 19 = .ok (.bipush 8, 2) := dk_16 8 (dk_at dksX3_isBalanced_0 19 rfl rfl)
theorem dX3_isBalanced_21 : decode cX3_isBalanced 21 = .ok (.iaload, 1) := dk_46 (dk_at dksX3_isBalanced_0 21 rfl rfl)
theorem dX3_isBalanced_22 : decode cX3_isBalanced 22 = .ok (.iadd, 1) := dk_96 (dk_at dksX3_isBalanced_0 22 rfl rfl)
theorem dX3_isBalanced_23 : decode cX3_isBalanced 23 = .ok (.aload_n 0, 1) := dk_42 (dk_at dksX3_isBalanced_0 23 rfl rfl)
theorem dX3_isBalanced_24 : decode cX3_isBalanced 24 = .ok (.getfield 9, 3) := dk_180 0 9 (dk_at dksX3_isBalanced_1 0 rfl rfl)
theorem dX3_isBalanced_27 : decode cX3_isBalanced 27 = .ok (.bipush 6, 2) := dk_16 6 (dk_at dksX3_isBalanced_1 3 rfl rfl)
theorem dX3_isBalanced_29 : decode cX3_isBalanced 29 = .ok (.iaload, 1) := dk_46 (dk_at dksX3_isBalanced_1 5 rfl rfl)
theorem dX3_isBalanced_30 : decode cX3_isBalanced 30 = .ok (.iadd, 1) := dk_96 (dk_at dksX3_isBalanced_1 6 rfl rfl)
theorem dX3_isBalanced_31 : decode cX3_isBalanced 31 = .ok (.aload_n 0, 1) := dk_42 (dk_at dksX3_isBalanced_1 7 rfl rfl)
theorem dX3_isBalanced_32 : decode cX3_isBalanced 32 = .ok (.getfield 9, 3) := dk_180 0 9 (dk_at dksX3_isBalanced_1 8 rfl rfl)
theorem dX3_isBalanced_35 : decode cX3_isBalanced 35 = .ok (.bipush 7, 2) := dk_16 7 (dk_at dksX3_isBalanced_1 11 rfl rfl)
theorem dX3_isBalanced_37 : decode cX3_isBalanced 37 = .ok (.iaload, 1) := dk_46 (dk_at dksX3_isBalanced_1 13 rfl rfl)
theorem dX3_isBalanced_38 : decode cX3_isBalanced 38 = .ok (.isub, 1) := dk_100 (dk_at dksX3_isBalanced_1 14 rfl rfl)
theorem dX3_isBalanced_39 : decode cX3_isBalanced 39 = .ok (.if_icmp .ne 7, 3) := dk_160 0 7 (dk_at dksX3_isBalanced_1 15 rfl rfl)
theorem dX3_isBalanced_42 : decode cX3_isBalanced 42 = .ok (.iconst 1, 1) := dk_4 (dk_at dksX3_isBalanced_1 18 rfl rfl)
theorem dX3_isBalanced_43 : decode cX3_isBalanced 43 = .ok (.goto 4, 3) := dk_167 0 4 (dk_at dksX3_isBalanced_1 19 rfl rfl)
theorem dX3_isBalanced_46 : decode cX3_isBalanced 46 = .ok (.iconst 0, 1) := dk_3 (dk_at dksX3_isBalanced_1 22 rfl rfl)
theorem dX3_isBalanced_47 : decode cX3_isBalanced 47 = .ok (.istore_n 1, 1) := dk_60 (dk_at dksX3_isBalanced_1 23 rfl rfl)
theorem dX3_isBalanced_48 : decode cX3_isBalanced 48 = .ok (.iload_n 1, 1) := dk_27 (dk_at dksX3_isBalanced_2 0 rfl rfl)
theorem dX3_isBalanced_49 : decode cX3_isBalanced 49 = .ok (.ifCond .eq 42, 3) := dk_153 0 42 (dk_at dksX3_isBalanced_2 1 rfl rfl)
theorem dX3_isBalanced_52 : decode cX3_isBalanced 52 = .ok (.aload_n 0, 1) := dk_42 (dk_at dksX3_isBalanced_2 4 rfl rfl)
theorem dX3_isBalanced_53 : decode cX3_isBalanced 53 = .ok (.getfield 9, 3) := dk_180 0 9 (dk_at dksX3_isBalanced_2 5 rfl rfl)
theorem dX3_isBalanced_56 : decode cX3_isBalanced 56 = .ok (.iconst 4, 1) := dk_7 (dk_at dksX3_isBalanced_2 8 rfl rfl)
theorem dX3_isBalanced_57 : decode cX3_isBalanced 57 = .ok (.iaload, 1) := dk_46 (dk_at dksX3_isBalanced_2 9 rfl rfl)
theorem dX3_isBalanced_58 : decode cX3_isBalanced 58 = .ok (.bipush 50, 2) := dk_16 50 (dk_at dksX3_isBalanced_2 10 rfl rfl)
theorem dX3_isBalanced_60 : decode cX3_isBalanced 60 = .ok (.aload_n 0, 1) := dk_42 (dk_at dksX3_isBalanced_2 12 rfl rfl)
theorem dX3_isBalanced_61 : decode cX3_isBalanced 61 = .ok (.getfield 9, 3) := dk_180 0 9 (dk_at dksX3_isBalanced_2 13 rfl rfl)
theorem dX3_isBalanced_64 : decode cX3_isBalanced 64 = .ok (.bipush 9, 2) := dk_16 9 (dk_at dksX3_isBalanced_2 16 rfl rfl)
theorem dX3_isBalanced_66 : decode cX3_isBalanced 66 = .ok (.iaload, 1) := dk_46 (dk_at dksX3_isBalanced_2 18 rfl rfl)
theorem dX3_isBalanced_67 : decode cX3_isBalanced 67 = .ok (.iadd, 1) := dk_96 (dk_at dksX3_isBalanced_2 19 rfl rfl)
theorem dX3_isBalanced_68 : decode cX3_isBalanced 68 = .ok (.aload_n 0, 1) := dk_42 (dk_at dksX3_isBalanced_2 20 rfl rfl)
theorem dX3_isBalanced_69 : decode cX3_isBalanced 69 = .ok (.getfield 9, 3) := dk_180 0 9 (dk_at dksX3_isBalanced_2 21 rfl rfl)
theorem dX3_isBalanced_72 : decode cX3_isBalanced 72 = .ok (.bipush 10, 2) := dk_16 10 (dk_at dksX3_isBalanced_3 0 rfl rfl)
theorem dX3_isBalanced_74 : decode cX3_isBalanced 74 = .ok (.iaload, 1) := dk_46 (dk_at dksX3_isBalanced_3 2 rfl rfl)
theorem dX3_isBalanced_75 : decode cX3_isBalanced 75 = .ok (.isub, 1) := dk_100 (dk_at dksX3_isBalanced_3 3 rfl rfl)
theorem dX3_isBalanced_76 : decode cX3_isBalanced 76 = .ok (.aload_n 0, 1) := dk_42 (dk_at dksX3_isBalanced_3 4 rfl rfl)
theorem dX3_isBalanced_77 : decode cX3_isBalanced 77 = .ok (.getfield 9, 3) := dk_180 0 9 (dk_at dksX3_isBalanced_3 5 rfl rfl)
theorem dX3_isBalanced_80 : decode cX3_isBalanced 80 = .ok (.bipush 11, 2) := dk_16 11 (dk_at dksX3_isBalanced_3 8 rfl rfl)
theorem dX3_isBalanced_82 : decode cX3_isBalanced 82 = .ok (.iaload, 1) := dk_46 (dk_at dksX3_isBalanced_3 10 rfl rfl)
theorem dX3_isBalanced_83 : decode cX3_isBalanced 83 = .ok (.isub, 1) := dk_100 (dk_at dksX3_isBalanced_3 11 rfl rfl)
theorem dX3_isBalanced_84 : decode cX3_isBalanced 84 = .ok (.if_icmp .ne 7, 3) := dk_160 0 7 (dk_at dksX3_isBalanced_3 12 rfl rfl)
theorem dX3_isBalanced_87 : decode cX3_isBalanced 87 = .ok (.iconst 1, 1) := dk_4 (dk_at dksX3_isBalanced_3 15 rfl rfl)
theorem dX3_isBalanced_88 : decode cX3_isBalanced 88 = .ok (.goto 4, 3) := dk_167 0 4 (dk_at dksX3_isBalanced_3 16 rfl rfl)
theorem dX3_isBalanced_91 : decode cX3_isBalanced 91 = .ok (.iconst 0, 1) := dk_3 (dk_at dksX3_isBalanced_3 19 rfl rfl)
theorem dX3_isBalanced_92 : decode cX3_isBalanced 92 = .ok (.ireturn, 1) := dk_172 (dk_at dksX3_isBalanced_3 20 rfl rfl)
abbrev cX3_meanTemper : ByteArray := prog_12_method_65_code
def yX3_meanTemper : MethodName := ⟨RX3, "meanTemper", "()D"⟩
def dkwX3_meanTemper_1 : List UInt8 := [27, 135, 20, 0, 241, 111, 175]
abbrev dktX3_meanTemper_1 : List UInt8 := dkwX3_meanTemper_1 ++ []
def dkwX3_meanTemper_0 : List UInt8 := [3, 60, 3, 61, 28, 16, 20, 162, 0, 17, 27, 42, 28, 182, 0, 52, 96, 60, 132, 2, 1, 167, 255, 239]
abbrev dktX3_meanTemper_0 : List UInt8 := dkwX3_meanTemper_0 ++ dktX3_meanTemper_1
theorem dksX3_meanTemper_0 : cX3_meanTemper.data.toList.drop 0 = dktX3_meanTemper_0 := by decide +kernel
theorem dksX3_meanTemper_1 : cX3_meanTemper.data.toList.drop 24 = dktX3_meanTemper_1 := dk_seg dksX3_meanTemper_0 24 rfl rfl
theorem dX3_meanTemper_0 : decode cX3_meanTemper 0 = .ok (.iconst 0, 1) := dk_3 (dk_at dksX3_meanTemper_0 0 rfl rfl)
theorem dX3_meanTemper_1 : decode cX3_meanTemper 1 = .ok (.istore_n 1, 1) := dk_60 (dk_at dksX3_meanTemper_0 1 rfl rfl)
theorem dX3_meanTemper_2 : decode cX3_meanTemper 2 = .ok (.iconst 0, 1) := dk_3 (dk_at dksX3_meanTemper_0 2 rfl rfl)
theorem dX3_meanTemper_3 : decode cX3_meanTemper 3 = .ok (.istore_n 2, 1) := dk_61 (dk_at dksX3_meanTemper_0 3 rfl rfl)
theorem dX3_meanTemper_4 : decode cX3_meanTemper 4 = .ok (.iload_n 2, 1) := dk_28 (dk_at dksX3_meanTemper_0 4 rfl rfl)
theorem dX3_meanTemper_5 : decode cX3_meanTemper 5 = .ok (.bipush 20, 2) := dk_16 20 (dk_at dksX3_meanTemper_0 5 rfl rfl)
theorem dX3_meanTemper_7 : decode cX3_meanTemper 7 = .ok (.if_icmp .ge 17, 3) := dk_162 0 17 (dk_at dksX3_meanTemper_0 7 rfl rfl)
theorem dX3_meanTemper_10 : decode cX3_meanTemper 10 = .ok (.iload_n 1, 1) := dk_27 (dk_at dksX3_meanTemper_0 10 rfl rfl)
theorem dX3_meanTemper_11 : decode cX3_meanTemper 11 = .ok (.aload_n 0, 1) := dk_42 (dk_at dksX3_meanTemper_0 11 rfl rfl)
theorem dX3_meanTemper_12 : decode cX3_meanTemper 12 = .ok (.iload_n 2, 1) := dk_28 (dk_at dksX3_meanTemper_0 12 rfl rfl)
theorem dX3_meanTemper_13 : decode cX3_meanTemper 13 = .ok (.invokevirtual 52, 3) := dk_182 0 52 (dk_at dksX3_meanTemper_0 13 rfl rfl)
theorem dX3_meanTemper_16 : decode cX3_meanTemper 16 = .ok (.iadd, 1) := dk_96 (dk_at dksX3_meanTemper_0 16 rfl rfl)
theorem dX3_meanTemper_17 : decode cX3_meanTemper 17 = .ok (.istore_n 1, 1) := dk_60 (dk_at dksX3_meanTemper_0 17 rfl rfl)
theorem dX3_meanTemper_18 : decode cX3_meanTemper 18 = .ok (.iinc 2 1, 3) := dk_132 2 1 (dk_at dksX3_meanTemper_0 18 rfl rfl)
theorem dX3_meanTemper_21 : decode cX3_meanTemper 21 = .ok (.goto (-17), 3) := dk_167 255 239 (dk_at dksX3_meanTemper_0 21 rfl rfl)
theorem dX3_meanTemper_24 : decode cX3_meanTemper 24 = .ok (.iload_n 1, 1) := dk_27 (dk_at dksX3_meanTemper_1 0 rfl rfl)
theorem dX3_meanTemper_25 : decode cX3_meanTemper 25 = .ok (.i2d, 1) := dk_135 (dk_at dksX3_meanTemper_1 1 rfl rfl)
theorem dX3_meanTemper_26 : decode cX3_meanTemper 26 = .ok (.ldc2_w 241, 3) := dk_20 0 241 (dk_at dksX3_meanTemper_1 2 rfl rfl)
theorem dX3_meanTemper_29 : decode cX3_meanTemper 29 = .ok (.ddiv, 1) := dk_111 (dk_at dksX3_meanTemper_1 5 rfl rfl)
theorem dX3_meanTemper_30 : decode cX3_meanTemper 30 = .ok (.dreturn, 1) := dk_175 (dk_at dksX3_meanTemper_1 6 rfl rfl)
abbrev cX3_backShare : ByteArray := prog_12_method_66_code
def yX3_backShare : MethodName := ⟨RX3, "backShare", "()F"⟩
def dkwX3_backShare_1 : List UInt8 := [180, 0, 9, 16, 6, 46, 134, 110, 174]
abbrev dktX3_backShare_1 : List UInt8 := dkwX3_backShare_1 ++ []
def dkwX3_backShare_0 : List UInt8 := [42, 180, 0, 9, 16, 6, 46, 154, 0, 7, 11, 167, 0, 20, 42, 180, 0, 9, 16, 7, 46, 134, 42]
abbrev dktX3_backShare_0 : List UInt8 := dkwX3_backShare_0 ++ dktX3_backShare_1
theorem dksX3_backShare_0 : cX3_backShare.data.toList.drop 0 = dktX3_backShare_0 := by decide +kernel
theorem dksX3_backShare_1 : cX3_backShare.data.toList.drop 23 = dktX3_backShare_1 := dk_seg dksX3_backShare_0 23 rfl rfl
theorem dX3_backShare_0 : decode cX3_backShare 0 = .ok (.aload_n 0, 1) := dk_42 (dk_at dksX3_backShare_0 0 rfl rfl)
theorem dX3_backShare_1 : decode cX3_backShare 1 = .ok (.getfield 9, 3) := dk_180 0 9 (dk_at dksX3_backShare_0 1 rfl rfl)
theorem dX3_backShare_4 : decode cX3_backShare 4 = .ok (.bipush 6, 2) := dk_16 6 (dk_at dksX3_backShare_0 4 rfl rfl)
theorem dX3_backShare_6 : decode cX3_backShare 6 = .ok (.iaload, 1) := dk_46 (dk_at dksX3_backShare_0 6 rfl rfl)
theorem dX3_backShare_7 : decode cX3_backShare 7 = .ok (.ifCond .ne 7, 3) := dk_154 0 7 (dk_at dksX3_backShare_0 7 rfl rfl)
theorem dX3_backShare_10 : decode cX3_backShare 10 = .ok (.fconst 0, 1) := dk_11 (dk_at dksX3_backShare_0 10 rfl rfl)
theorem dX3_backShare_11 : decode cX3_backShare 11 = .ok (.goto 20, 3) := dk_167 0 20 (dk_at dksX3_backShare_0 11 rfl rfl)
theorem dX3_backShare_14 : decode cX3_backShare 14 = .ok (.aload_n 0, 1) := dk_42 (dk_at dksX3_backShare_0 14 rfl rfl)
theorem dX3_backShare_15 : decode cX3_backShare 15 = .ok (.getfield 9, 3) := dk_180 0 9 (dk_at dksX3_backShare_0 15 rfl rfl)
theorem dX3_backShare_18 : decode cX3_backShare 18 = .ok (.bipush 7, 2) := dk_16 7 (dk_at dksX3_backShare_0 18 rfl rfl)
theorem dX3_backShare_20 : decode cX3_backShare 20 = .ok (.iaload, 1) := dk_46 (dk_at dksX3_backShare_0 20 rfl rfl)
theorem dX3_backShare_21 : decode cX3_backShare 21 = .ok (.i2f, 1) := dk_134 (dk_at dksX3_backShare_0 21 rfl rfl)
theorem dX3_backShare_22 : decode cX3_backShare 22 = .ok (.aload_n 0, 1) := dk_42 (dk_at dksX3_backShare_0 22 rfl rfl)
theorem dX3_backShare_23 : decode cX3_backShare 23 = .ok (.getfield 9, 3) := dk_180 0 9 (dk_at dksX3_backShare_1 0 rfl rfl)
theorem dX3_backShare_26 : decode cX3_backShare 26 = .ok (.bipush 6, 2) := dk_16 6 (dk_at dksX3_backShare_1 3 rfl rfl)
theorem dX3_backShare_28 : decode cX3_backShare 28 = .ok (.iaload, 1) := dk_46 (dk_at dksX3_backShare_1 5 rfl rfl)
theorem dX3_backShare_29 : decode cX3_backShare 29 = .ok (.i2f, 1) := dk_134 (dk_at dksX3_backShare_1 6 rfl rfl)
theorem dX3_backShare_30 : decode cX3_backShare 30 = .ok (.fdiv, 1) := dk_110 (dk_at dksX3_backShare_1 7 rfl rfl)
theorem dX3_backShare_31 : decode cX3_backShare 31 = .ok (.freturn, 1) := dk_174 (dk_at dksX3_backShare_1 8 rfl rfl)
abbrev cX3_undo : ByteArray := prog_12_method_67_code
def yX3_undo : MethodName := ⟨RX3, "undo", "()I"⟩
def dkwX3_undo_2 : List UInt8 := [96, 46, 79, 132, 1, 1, 167, 255, 225, 42, 180, 0, 31, 172]
abbrev dktX3_undo_2 : List UInt8 := dkwX3_undo_2 ++ []
def dkwX3_undo_1 : List UInt8 := [17, 1, 157, 162, 0, 30, 42, 180, 0, 9, 27, 42, 180, 0, 16, 17, 1, 157, 42, 180, 0, 31, 104, 27]
abbrev dktX3_undo_1 : List UInt8 := dkwX3_undo_1 ++ dktX3_undo_2
def dkwX3_undo_0 : List UInt8 := [42, 180, 0, 31, 154, 0, 6, 16, 241, 172, 42, 89, 180, 0, 31, 4, 100, 181, 0, 31, 3, 60, 27]
abbrev dktX3_undo_0 : List UInt8 := dkwX3_undo_0 ++ dktX3_undo_1
theorem dksX3_undo_0 : cX3_undo.data.toList.drop 0 = dktX3_undo_0 := by decide +kernel
theorem dksX3_undo_1 : cX3_undo.data.toList.drop 23 = dktX3_undo_1 := dk_seg dksX3_undo_0 23 rfl rfl
theorem dksX3_undo_2 : cX3_undo.data.toList.drop 47 = dktX3_undo_2 := dk_seg dksX3_undo_1 24 rfl rfl
theorem dX3_undo_0 : decode cX3_undo 0 = .ok (.aload_n 0, 1) := dk_42 (dk_at dksX3_undo_0 0 rfl rfl)
theorem dX3_undo_1 : decode cX3_undo 1 = .ok (.getfield 31, 3) := dk_180 0 31 (dk_at dksX3_undo_0 1 rfl rfl)
theorem dX3_undo_4 : decode cX3_undo 4 = .ok (.ifCond .ne 6, 3) := dk_154 0 6 (dk_at dksX3_undo_0 4 rfl rfl)
theorem dX3_undo_7 : decode cX3_undo 7 = .ok (.bipush (-15), 2) := dk_16 241 (dk_at dksX3_undo_0 7 rfl rfl)
theorem dX3_undo_9 : decode cX3_undo 9 = .ok (.ireturn, 1) := dk_172 (dk_at dksX3_undo_0 9 rfl rfl)
theorem dX3_undo_10 : decode cX3_undo 10 = .ok (.aload_n 0, 1) := dk_42 (dk_at dksX3_undo_0 10 rfl rfl)
theorem dX3_undo_11 : decode cX3_undo 11 = .ok (.dup, 1) := dk_89 (dk_at dksX3_undo_0 11 rfl rfl)
theorem dX3_undo_12 : decode cX3_undo 12 = .ok (.getfield 31, 3) := dk_180 0 31 (dk_at dksX3_undo_0 12 rfl rfl)
theorem dX3_undo_15 : decode cX3_undo 15 = .ok (.iconst 1, 1) := dk_4 (dk_at dksX3_undo_0 15 rfl rfl)
theorem dX3_undo_16 : decode cX3_undo 16 = .ok (.isub, 1) := dk_100 (dk_at dksX3_undo_0 16 rfl rfl)
theorem dX3_undo_17 : decode cX3_undo 17 = .ok (.putfield 31, 3) := dk_181 0 31 (dk_at dksX3_undo_0 17 rfl rfl)
theorem dX3_undo_20 : decode cX3_undo 20 = .ok (.iconst 0, 1) := dk_3 (dk_at dksX3_undo_0 20 rfl rfl)
theorem dX3_undo_21 : decode cX3_undo 21 = .ok (.istore_n 1, 1) := dk_60 (dk_at dksX3_undo_0 21 rfl rfl)
theorem dX3_undo_22 : decode cX3_undo 22 = .ok (.iload_n 1, 1) := dk_27 (dk_at dksX3_undo_0 22 rfl rfl)
theorem dX3_undo_23 : decode cX3_undo 23 = .ok (.sipush 413, 3) := dk_17 1 157 (dk_at dksX3_undo_1 0 rfl rfl)
theorem dX3_undo_26 : decode cX3_undo 26 = .ok (.if_icmp .ge 30, 3) := dk_162 0 30 (dk_at dksX3_undo_1 3 rfl rfl)
theorem dX3_undo_29 : decode cX3_undo 29 = .ok (.aload_n 0, 1) := dk_42 (dk_at dksX3_undo_1 6 rfl rfl)
theorem dX3_undo_30 : decode cX3_undo 30 = .ok (.getfield 9, 3) := dk_180 0 9 (dk_at dksX3_undo_1 7 rfl rfl)
theorem dX3_undo_33 : decode cX3_undo 33 = .ok (.iload_n 1, 1) := dk_27 (dk_at dksX3_undo_1 10 rfl rfl)
theorem dX3_undo_34 : decode cX3_undo 34 = .ok (.aload_n 0, 1) := dk_42 (dk_at dksX3_undo_1 11 rfl rfl)
theorem dX3_undo_35 : decode cX3_undo 35 = .ok (.getfield 16, 3) := dk_180 0 16 (dk_at dksX3_undo_1 12 rfl rfl)
theorem dX3_undo_38 : decode cX3_undo 38 = .ok (.sipush 413, 3) := dk_17 1 157 (dk_at dksX3_undo_1 15 rfl rfl)
theorem dX3_undo_41 : decode cX3_undo 41 = .ok (.aload_n 0, 1) := dk_42 (dk_at dksX3_undo_1 18 rfl rfl)
theorem dX3_undo_42 : decode cX3_undo 42 = .ok (.getfield 31, 3) := dk_180 0 31 (dk_at dksX3_undo_1 19 rfl rfl)
theorem dX3_undo_45 : decode cX3_undo 45 = .ok (.imul, 1) := dk_104 (dk_at dksX3_undo_1 22 rfl rfl)
theorem dX3_undo_46 : decode cX3_undo 46 = .ok (.iload_n 1, 1) := dk_27 (dk_at dksX3_undo_1 23 rfl rfl)
theorem dX3_undo_47 : decode cX3_undo 47 = .ok (.iadd, 1) := dk_96 (dk_at dksX3_undo_2 0 rfl rfl)
theorem dX3_undo_48 : decode cX3_undo 48 = .ok (.iaload, 1) := dk_46 (dk_at dksX3_undo_2 1 rfl rfl)
theorem dX3_undo_49 : decode cX3_undo 49 = .ok (.iastore, 1) := dk_79 (dk_at dksX3_undo_2 2 rfl rfl)
theorem dX3_undo_50 : decode cX3_undo 50 = .ok (.iinc 1 1, 3) := dk_132 1 1 (dk_at dksX3_undo_2 3 rfl rfl)
theorem dX3_undo_53 : decode cX3_undo 53 = .ok (.goto (-31), 3) := dk_167 255 225 (dk_at dksX3_undo_2 6 rfl rfl)
theorem dX3_undo_56 : decode cX3_undo 56 = .ok (.aload_n 0, 1) := dk_42 (dk_at dksX3_undo_2 9 rfl rfl)
theorem dX3_undo_57 : decode cX3_undo 57 = .ok (.getfield 31, 3) := dk_180 0 31 (dk_at dksX3_undo_2 10 rfl rfl)
theorem dX3_undo_60 : decode cX3_undo 60 = .ok (.ireturn, 1) := dk_172 (dk_at dksX3_undo_2 13 rfl rfl)
abbrev cX3_save : ByteArray := prog_12_method_68_code
def yX3_save : MethodName := ⟨RX3, "save", "()I"⟩
def dkwX3_save_1 : List UInt8 := [46, 79, 132, 1, 1, 167, 255, 234, 42, 180, 0, 9, 5, 46, 172]
abbrev dktX3_save_1 : List UInt8 := dkwX3_save_1 ++ []
def dkwX3_save_0 : List UInt8 := [42, 4, 181, 0, 243, 3, 60, 27, 17, 1, 157, 162, 0, 21, 42, 180, 0, 19, 27, 42, 180, 0, 9, 27]
abbrev dktX3_save_0 : List UInt8 := dkwX3_save_0 ++ dktX3_save_1
theorem dksX3_save_0 : cX3_save.data.toList.drop 0 = dktX3_save_0 := by decide +kernel
theorem dksX3_save_1 : cX3_save.data.toList.drop 24 = dktX3_save_1 := dk_seg dksX3_save_0 24 rfl rfl
theorem dX3_save_0 : decode cX3_save 0 = .ok (.aload_n 0, 1) := dk_42 (dk_at dksX3_save_0 0 rfl rfl)
theorem dX3_save_1 : decode cX3_save 1 = .ok (.iconst 1, 1) := dk_4 (dk_at dksX3_save_0 1 rfl rfl)
theorem dX3_save_2 : decode cX3_save 2 = .ok (.putfield 243, 3) := dk_181 0 243 (dk_at dksX3_save_0 2 rfl rfl)
theorem dX3_save_5 : decode cX3_save 5 = .ok (.iconst 0, 1) := dk_3 (dk_at dksX3_save_0 5 rfl rfl)
theorem dX3_save_6 : decode cX3_save 6 = .ok (.istore_n 1, 1) := dk_60 (dk_at dksX3_save_0 6 rfl rfl)
theorem dX3_save_7 : decode cX3_save 7 = .ok (.iload_n 1, 1) := dk_27 (dk_at dksX3_save_0 7 rfl rfl)
theorem dX3_save_8 : decode cX3_save 8 = .ok (.sipush 413, 3) := dk_17 1 157 (dk_at dksX3_save_0 8 rfl rfl)
theorem dX3_save_11 : decode cX3_save 11 = .ok (.if_icmp .ge 21, 3) := dk_162 0 21 (dk_at dksX3_save_0 11 rfl rfl)
theorem dX3_save_14 : decode cX3_save 14 = .ok (.aload_n 0, 1) := dk_42 (dk_at dksX3_save_0 14 rfl rfl)
theorem dX3_save_15 : decode cX3_save 15 = .ok (.getfield 19, 3) := dk_180 0 19 (dk_at dksX3_save_0 15 rfl rfl)
theorem dX3_save_18 : decode cX3_save 18 = .ok (.iload_n 1, 1) := dk_27 (dk_at dksX3_save_0 18 rfl rfl)
theorem dX3_save_19 : decode cX3_save 19 = .ok (.aload_n 0, 1) := dk_42 (dk_at dksX3_save_0 19 rfl rfl)
theorem dX3_save_20 : decode cX3_save 20 = .ok (.getfield 9, 3) := dk_180 0 9 (dk_at dksX3_save_0 20 rfl rfl)
theorem dX3_save_23 : decode cX3_save 23 = .ok (.iload_n 1, 1) := dk_27 (dk_at dksX3_save_0 23 rfl rfl)
theorem dX3_save_24 : decode cX3_save 24 = .ok (.iaload, 1) := dk_46 (dk_at dksX3_save_1 0 rfl rfl)
theorem dX3_save_25 : decode cX3_save 25 = .ok (.iastore, 1) := dk_79 (dk_at dksX3_save_1 1 rfl rfl)
theorem dX3_save_26 : decode cX3_save 26 = .ok (.iinc 1 1, 3) := dk_132 1 1 (dk_at dksX3_save_1 2 rfl rfl)
theorem dX3_save_29 : decode cX3_save 29 = .ok (.goto (-22), 3) := dk_167 255 234 (dk_at dksX3_save_1 5 rfl rfl)
theorem dX3_save_32 : decode cX3_save 32 = .ok (.aload_n 0, 1) := dk_42 (dk_at dksX3_save_1 8 rfl rfl)
theorem dX3_save_33 : decode cX3_save 33 = .ok (.getfield 9, 3) := dk_180 0 9 (dk_at dksX3_save_1 9 rfl rfl)
theorem dX3_save_36 : decode cX3_save 36 = .ok (.iconst 2, 1) := dk_5 (dk_at dksX3_save_1 12 rfl rfl)
theorem dX3_save_37 : decode cX3_save 37 = .ok (.iaload, 1) := dk_46 (dk_at dksX3_save_1 13 rfl rfl)
theorem dX3_save_38 : decode cX3_save 38 = .ok (.ireturn, 1) := dk_172 (dk_at dksX3_save_1 14 rfl rfl)
abbrev cX3_restore : ByteArray := prog_12_method_69_code
def yX3_restore : MethodName := ⟨RX3, "restore", "()I"⟩
def dkwX3_restore_2 : List UInt8 := [172]
abbrev dktX3_restore_2 : List UInt8 := dkwX3_restore_2 ++ []
def dkwX3_restore_1 : List UInt8 := [42, 180, 0, 19, 27, 46, 79, 132, 1, 1, 167, 255, 234, 42, 3, 181, 0, 31, 42, 180, 0, 9, 5, 46]
abbrev dktX3_restore_1 : List UInt8 := dkwX3_restore_1 ++ dktX3_restore_2
def dkwX3_restore_0 : List UInt8 := [42, 180, 0, 243, 154, 0, 6, 16, 241, 172, 3, 60, 27, 17, 1, 157, 162, 0, 21, 42, 180, 0, 9, 27]
abbrev dktX3_restore_0 : List UInt8 := dkwX3_restore_0 ++ dktX3_restore_1
theorem dksX3_restore_0 : cX3_restore.data.toList.drop 0 = dktX3_restore_0 := by decide +kernel
theorem dksX3_restore_1 : cX3_restore.data.toList.drop 24 = dktX3_restore_1 := dk_seg dksX3_restore_0 24 rfl rfl
theorem dksX3_restore_2 : cX3_restore.data.toList.drop 48 = dktX3_restore_2 := dk_seg dksX3_restore_1 24 rfl rfl
theorem dX3_restore_0 : decode cX3_restore 0 = .ok (.aload_n 0, 1) := dk_42 (dk_at dksX3_restore_0 0 rfl rfl)
theorem dX3_restore_1 : decode cX3_restore 1 = .ok (.getfield 243, 3) := dk_180 0 243 (dk_at dksX3_restore_0 1 rfl rfl)
theorem dX3_restore_4 : decode cX3_restore 4 = .ok (.ifCond .ne 6, 3) := dk_154 0 6 (dk_at dksX3_restore_0 4 rfl rfl)
theorem dX3_restore_7 : decode cX3_restore 7 = .ok (.bipush (-15), 2) := dk_16 241 (dk_at dksX3_restore_0 7 rfl rfl)
theorem dX3_restore_9 : decode cX3_restore 9 = .ok (.ireturn, 1) := dk_172 (dk_at dksX3_restore_0 9 rfl rfl)
theorem dX3_restore_10 : decode cX3_restore 10 = .ok (.iconst 0, 1) := dk_3 (dk_at dksX3_restore_0 10 rfl rfl)
theorem dX3_restore_11 : decode cX3_restore 11 = .ok (.istore_n 1, 1) := dk_60 (dk_at dksX3_restore_0 11 rfl rfl)
theorem dX3_restore_12 : decode cX3_restore 12 = .ok (.iload_n 1, 1) := dk_27 (dk_at dksX3_restore_0 12 rfl rfl)
theorem dX3_restore_13 : decode cX3_restore 13 = .ok (.sipush 413, 3) := dk_17 1 157 (dk_at dksX3_restore_0 13 rfl rfl)
theorem dX3_restore_16 : decode cX3_restore 16 = .ok (.if_icmp .ge 21, 3) := dk_162 0 21 (dk_at dksX3_restore_0 16 rfl rfl)
theorem dX3_restore_19 : decode cX3_restore 19 = .ok (.aload_n 0, 1) := dk_42 (dk_at dksX3_restore_0 19 rfl rfl)
theorem dX3_restore_20 : decode cX3_restore 20 = .ok (.getfield 9, 3) := dk_180 0 9 (dk_at dksX3_restore_0 20 rfl rfl)
theorem dX3_restore_23 : decode cX3_restore 23 = .ok (.iload_n 1, 1) := dk_27 (dk_at dksX3_restore_0 23 rfl rfl)
theorem dX3_restore_24 : decode cX3_restore 24 = .ok (.aload_n 0, 1) := dk_42 (dk_at dksX3_restore_1 0 rfl rfl)
theorem dX3_restore_25 : decode cX3_restore 25 = .ok (.getfield 19, 3) := dk_180 0 19 (dk_at dksX3_restore_1 1 rfl rfl)
theorem dX3_restore_28 : decode cX3_restore 28 = .ok (.iload_n 1, 1) := dk_27 (dk_at dksX3_restore_1 4 rfl rfl)
theorem dX3_restore_29 : decode cX3_restore 29 = .ok (.iaload, 1) := dk_46 (dk_at dksX3_restore_1 5 rfl rfl)
theorem dX3_restore_30 : decode cX3_restore 30 = .ok (.iastore, 1) := dk_79 (dk_at dksX3_restore_1 6 rfl rfl)
theorem dX3_restore_31 : decode cX3_restore 31 = .ok (.iinc 1 1, 3) := dk_132 1 1 (dk_at dksX3_restore_1 7 rfl rfl)
theorem dX3_restore_34 : decode cX3_restore 34 = .ok (.goto (-22), 3) := dk_167 255 234 (dk_at dksX3_restore_1 10 rfl rfl)
theorem dX3_restore_37 : decode cX3_restore 37 = .ok (.aload_n 0, 1) := dk_42 (dk_at dksX3_restore_1 13 rfl rfl)
theorem dX3_restore_38 : decode cX3_restore 38 = .ok (.iconst 0, 1) := dk_3 (dk_at dksX3_restore_1 14 rfl rfl)
theorem dX3_restore_39 : decode cX3_restore 39 = .ok (.putfield 31, 3) := dk_181 0 31 (dk_at dksX3_restore_1 15 rfl rfl)
theorem dX3_restore_42 : decode cX3_restore 42 = .ok (.aload_n 0, 1) := dk_42 (dk_at dksX3_restore_1 18 rfl rfl)
theorem dX3_restore_43 : decode cX3_restore 43 = .ok (.getfield 9, 3) := dk_180 0 9 (dk_at dksX3_restore_1 19 rfl rfl)
theorem dX3_restore_46 : decode cX3_restore 46 = .ok (.iconst 2, 1) := dk_5 (dk_at dksX3_restore_1 22 rfl rfl)
theorem dX3_restore_47 : decode cX3_restore 47 = .ok (.iaload, 1) := dk_46 (dk_at dksX3_restore_1 23 rfl rfl)
theorem dX3_restore_48 : decode cX3_restore 48 = .ok (.ireturn, 1) := dk_172 (dk_at dksX3_restore_2 0 rfl rfl)
theorem q82 : (Jvm.Cond.initialized "BrushSellersModel") ∈ lw_all := lw_g (lw_at lw_m1 19 rfl) rfl
theorem q269 : (Jvm.Cond.selects "BrushSellersModel" ({ cls := "java/lang/Object", name := "getClass", desc := "()Ljava/lang/Class;" } : Jvm.MethodName) ({ cls := "java/lang/Object", name := "getClass", desc := "()Ljava/lang/Class;" } : Jvm.MethodName)) ∈ lw_all := lw_g (lw_at lw_m1 206 rfl) rfl
theorem q1885 : (Jvm.Cond.instantiable "BrushSellersModel" (16 : Nat)) ∈ lw_all := lw_g (lw_at lw_m8 142 rfl) rfl
theorem q1887 : (Jvm.Cond.instanceMethod ({ cls := "BrushSellersModel", name := "<init>", desc := "()V" } : Jvm.MethodName)) ∈ lw_all := lw_g (lw_at lw_m8 144 rfl) rfl
theorem q1888 : (Jvm.Cond.code ({ cls := "BrushSellersModel", name := "<init>", desc := "()V" } : Jvm.MethodName) prog_12_method_1_code (2 : Nat) (Option.none : Option Jvm.ClassFile.FieldType)) ∈ lw_all := lw_g (lw_at lw_m8 145 rfl) rfl
theorem q1889 : (Jvm.Cond.methodLink "BrushSellersModel" (3 : Nat) ({ cls := "java/lang/Object", name := "<init>", desc := "()V" } : Jvm.MethodName)) ∈ lw_all := lw_g (lw_at lw_m8 146 rfl) rfl
theorem q1890 : (Jvm.Cond.fieldLink "BrushSellersModel" (9 : Nat) "BrushSellersModel" "now" "[I") ∈ lw_all := lw_g (lw_at lw_m8 147 rfl) rfl
theorem q1891 : (Jvm.Cond.fieldLink "BrushSellersModel" (13 : Nat) "BrushSellersModel" "tried" "[I") ∈ lw_all := lw_g (lw_at lw_m8 148 rfl) rfl
theorem q1892 : (Jvm.Cond.fieldLink "BrushSellersModel" (16 : Nat) "BrushSellersModel" "kept" "[I") ∈ lw_all := lw_g (lw_at lw_m8 149 rfl) rfl
theorem q1893 : (Jvm.Cond.fieldLink "BrushSellersModel" (31 : Nat) "BrushSellersModel" "undos" "I") ∈ lw_all := lw_g (lw_at lw_m8 150 rfl) rfl
theorem q1894 : (Jvm.Cond.fieldLink "BrushSellersModel" (19 : Nat) "BrushSellersModel" "saved" "[I") ∈ lw_all := lw_g (lw_at lw_m8 151 rfl) rfl
theorem q1895 : (Jvm.Cond.fieldLink "BrushSellersModel" (243 : Nat) "BrushSellersModel" "isSaved" "Z") ∈ lw_all := lw_g (lw_at lw_m8 152 rfl) rfl
theorem q1896 : (Jvm.Cond.fieldLink "BrushSellersModel" (22 : Nat) "BrushSellersModel" "line" "[I") ∈ lw_all := lw_g (lw_at lw_m8 153 rfl) rfl
theorem q1897 : (Jvm.Cond.fieldLink "BrushSellersModel" (210 : Nat) "BrushSellersModel" "lined" "I") ∈ lw_all := lw_g (lw_at lw_m8 154 rfl) rfl
theorem q1898 : (Jvm.Cond.fieldLink "BrushSellersModel" (25 : Nat) "BrushSellersModel" "text" "[I") ∈ lw_all := lw_g (lw_at lw_m8 155 rfl) rfl
theorem q1899 : (Jvm.Cond.fieldLink "BrushSellersModel" (149 : Nat) "BrushSellersModel" "length" "I") ∈ lw_all := lw_g (lw_at lw_m8 156 rfl) rfl
theorem q1900 : (Jvm.Cond.fieldLink "BrushSellersModel" (156 : Nat) "BrushSellersModel" "at" "I") ∈ lw_all := lw_g (lw_at lw_m8 157 rfl) rfl
theorem q1901 : (Jvm.Cond.fieldLink "BrushSellersModel" (172 : Nat) "BrushSellersModel" "order" "I") ∈ lw_all := lw_g (lw_at lw_m8 158 rfl) rfl
theorem q1902 : (Jvm.Cond.fieldLink "BrushSellersModel" (28 : Nat) "BrushSellersModel" "told" "[I") ∈ lw_all := lw_g (lw_at lw_m8 159 rfl) rfl
theorem q1903 : (Jvm.Cond.fieldLink "BrushSellersModel" (35 : Nat) "BrushSellersModel" "reason" "I") ∈ lw_all := lw_g (lw_at lw_m8 160 rfl) rfl
theorem q1904 : (Jvm.Cond.fieldLink "BrushSellersModel" (38 : Nat) "BrushSellersModel" "detail" "I") ∈ lw_all := lw_g (lw_at lw_m8 161 rfl) rfl
theorem q1905 : (Jvm.Cond.fieldLink "BrushSellersModel" (41 : Nat) "BrushSellersModel" "answer" "I") ∈ lw_all := lw_g (lw_at lw_m8 162 rfl) rfl
theorem q1906 : (Jvm.Cond.laysFinal "BrushSellersModel" "BrushSellersModel" "now" "[I") ∈ lw_all := lw_g (lw_at lw_m8 163 rfl) rfl
theorem q1907 : (Jvm.Cond.soleField "BrushSellersModel" "now") ∈ lw_all := lw_g (lw_at lw_m8 164 rfl) rfl
theorem q1908 : (Jvm.Cond.laysFinal "BrushSellersModel" "BrushSellersModel" "tried" "[I") ∈ lw_all := lw_g (lw_at lw_m8 165 rfl) rfl
theorem q1909 : (Jvm.Cond.soleField "BrushSellersModel" "tried") ∈ lw_all := lw_g (lw_at lw_m8 166 rfl) rfl
theorem q1910 : (Jvm.Cond.laysFinal "BrushSellersModel" "BrushSellersModel" "kept" "[I") ∈ lw_all := lw_g (lw_at lw_m8 167 rfl) rfl
theorem q1911 : (Jvm.Cond.soleField "BrushSellersModel" "kept") ∈ lw_all := lw_g (lw_at lw_m8 168 rfl) rfl
theorem q1912 : (Jvm.Cond.lays "BrushSellersModel" "BrushSellersModel" "undos" "I") ∈ lw_all := lw_g (lw_at lw_m8 169 rfl) rfl
theorem q1913 : (Jvm.Cond.soleField "BrushSellersModel" "undos") ∈ lw_all := lw_g (lw_at lw_m8 170 rfl) rfl
theorem q1914 : (Jvm.Cond.laysFinal "BrushSellersModel" "BrushSellersModel" "saved" "[I") ∈ lw_all := lw_g (lw_at lw_m8 171 rfl) rfl
theorem q1915 : (Jvm.Cond.soleField "BrushSellersModel" "saved") ∈ lw_all := lw_g (lw_at lw_m8 172 rfl) rfl
theorem q1916 : (Jvm.Cond.lays "BrushSellersModel" "BrushSellersModel" "isSaved" "Z") ∈ lw_all := lw_g (lw_at lw_m8 173 rfl) rfl
theorem q1917 : (Jvm.Cond.soleField "BrushSellersModel" "isSaved") ∈ lw_all := lw_g (lw_at lw_m8 174 rfl) rfl
theorem q1918 : (Jvm.Cond.laysFinal "BrushSellersModel" "BrushSellersModel" "line" "[I") ∈ lw_all := lw_g (lw_at lw_m8 175 rfl) rfl
theorem q1919 : (Jvm.Cond.soleField "BrushSellersModel" "line") ∈ lw_all := lw_g (lw_at lw_m8 176 rfl) rfl
theorem q1920 : (Jvm.Cond.lays "BrushSellersModel" "BrushSellersModel" "lined" "I") ∈ lw_all := lw_g (lw_at lw_m8 177 rfl) rfl
theorem q1921 : (Jvm.Cond.soleField "BrushSellersModel" "lined") ∈ lw_all := lw_g (lw_at lw_m8 178 rfl) rfl
theorem q1922 : (Jvm.Cond.laysFinal "BrushSellersModel" "BrushSellersModel" "text" "[I") ∈ lw_all := lw_g (lw_at lw_m8 179 rfl) rfl
theorem q1923 : (Jvm.Cond.soleField "BrushSellersModel" "text") ∈ lw_all := lw_g (lw_at lw_m8 180 rfl) rfl
theorem q1924 : (Jvm.Cond.lays "BrushSellersModel" "BrushSellersModel" "length" "I") ∈ lw_all := lw_g (lw_at lw_m8 181 rfl) rfl
theorem q1925 : (Jvm.Cond.soleField "BrushSellersModel" "length") ∈ lw_all := lw_g (lw_at lw_m8 182 rfl) rfl
theorem q1926 : (Jvm.Cond.lays "BrushSellersModel" "BrushSellersModel" "at" "I") ∈ lw_all := lw_g (lw_at lw_m8 183 rfl) rfl
theorem q1927 : (Jvm.Cond.soleField "BrushSellersModel" "at") ∈ lw_all := lw_g (lw_at lw_m8 184 rfl) rfl
theorem q1928 : (Jvm.Cond.lays "BrushSellersModel" "BrushSellersModel" "order" "I") ∈ lw_all := lw_g (lw_at lw_m8 185 rfl) rfl
theorem q1929 : (Jvm.Cond.soleField "BrushSellersModel" "order") ∈ lw_all := lw_g (lw_at lw_m8 186 rfl) rfl
theorem q1930 : (Jvm.Cond.laysFinal "BrushSellersModel" "BrushSellersModel" "told" "[I") ∈ lw_all := lw_g (lw_at lw_m8 187 rfl) rfl
theorem q1931 : (Jvm.Cond.soleField "BrushSellersModel" "told") ∈ lw_all := lw_g (lw_at lw_m8 188 rfl) rfl
theorem q1932 : (Jvm.Cond.lays "BrushSellersModel" "BrushSellersModel" "reason" "I") ∈ lw_all := lw_g (lw_at lw_m8 189 rfl) rfl
theorem q1933 : (Jvm.Cond.soleField "BrushSellersModel" "reason") ∈ lw_all := lw_g (lw_at lw_m8 190 rfl) rfl
theorem q1934 : (Jvm.Cond.lays "BrushSellersModel" "BrushSellersModel" "detail" "I") ∈ lw_all := lw_g (lw_at lw_m8 191 rfl) rfl
theorem q1935 : (Jvm.Cond.soleField "BrushSellersModel" "detail") ∈ lw_all := lw_g (lw_at lw_m8 192 rfl) rfl
theorem q1936 : (Jvm.Cond.lays "BrushSellersModel" "BrushSellersModel" "answer" "I") ∈ lw_all := lw_g (lw_at lw_m8 193 rfl) rfl
theorem q1937 : (Jvm.Cond.soleField "BrushSellersModel" "answer") ∈ lw_all := lw_g (lw_at lw_m8 194 rfl) rfl
theorem q1938 : (Jvm.Cond.superclass "BrushSellersModel" "java/lang/Object") ∈ lw_all := lw_g (lw_at lw_m8 195 rfl) rfl
theorem q1940 : (Jvm.Cond.instanceMethod ({ cls := "BrushSellersModel", name := "seller", desc := "(I)I" } : Jvm.MethodName)) ∈ lw_all := lw_g (lw_at lw_m8 197 rfl) rfl
theorem q1941 : (Jvm.Cond.selects "BrushSellersModel" ({ cls := "BrushSellersModel", name := "seller", desc := "(I)I" } : Jvm.MethodName) ({ cls := "BrushSellersModel", name := "seller", desc := "(I)I" } : Jvm.MethodName)) ∈ lw_all := lw_g (lw_at lw_m8 198 rfl) rfl
theorem q1942 : (Jvm.Cond.code ({ cls := "BrushSellersModel", name := "seller", desc := "(I)I" } : Jvm.MethodName) prog_12_method_19_code (4 : Nat) (Option.some Jvm.ClassFile.FieldType.int)) ∈ lw_all := lw_g (lw_at lw_m8 199 rfl) rfl
theorem q1943 : (Jvm.Cond.methodLink "BrushSellersModel" (64 : Nat) ({ cls := "BrushSellersModel", name := "tries", desc := "()V" } : Jvm.MethodName)) ∈ lw_all := lw_g (lw_at lw_m8 200 rfl) rfl
theorem q1944 : (Jvm.Cond.privateMethod ({ cls := "BrushSellersModel", name := "tries", desc := "()V" } : Jvm.MethodName)) ∈ lw_tbl := lw_at lw_m8 201 rfl
theorem q1945 : (Jvm.Cond.instanceMethod ({ cls := "BrushSellersModel", name := "tries", desc := "()V" } : Jvm.MethodName)) ∈ lw_all := lw_g (lw_at lw_m8 202 rfl) rfl
theorem q1946 : (Jvm.Cond.code ({ cls := "BrushSellersModel", name := "tries", desc := "()V" } : Jvm.MethodName) prog_12_method_3_code (2 : Nat) (Option.none : Option Jvm.ClassFile.FieldType)) ∈ lw_all := lw_g (lw_at lw_m8 203 rfl) rfl
theorem q1947 : (Jvm.Cond.methodLink "BrushSellersModel" (48 : Nat) ({ cls := "BrushSellersModel", name := "in", desc := "(III)Z" } : Jvm.MethodName)) ∈ lw_all := lw_g (lw_at lw_m8 204 rfl) rfl
theorem q1948 : (Jvm.Cond.static ({ cls := "BrushSellersModel", name := "in", desc := "(III)Z" } : Jvm.MethodName)) ∈ lw_all := lw_g (lw_at lw_m8 205 rfl) rfl
theorem q1949 : (Jvm.Cond.code ({ cls := "BrushSellersModel", name := "in", desc := "(III)Z" } : Jvm.MethodName) prog_12_method_2_code (3 : Nat) (Option.some Jvm.ClassFile.FieldType.boolean)) ∈ lw_all := lw_g (lw_at lw_m8 206 rfl) rfl
theorem q1950 : (Jvm.Cond.methodLink "BrushSellersModel" (67 : Nat) ({ cls := "BrushSellersModel", name := "refuses", desc := "(II)I" } : Jvm.MethodName)) ∈ lw_all := lw_g (lw_at lw_m8 207 rfl) rfl
theorem q1951 : (Jvm.Cond.privateMethod ({ cls := "BrushSellersModel", name := "refuses", desc := "(II)I" } : Jvm.MethodName)) ∈ lw_tbl := lw_at lw_m8 208 rfl
theorem q1952 : (Jvm.Cond.instanceMethod ({ cls := "BrushSellersModel", name := "refuses", desc := "(II)I" } : Jvm.MethodName)) ∈ lw_all := lw_g (lw_at lw_m8 209 rfl) rfl
theorem q1953 : (Jvm.Cond.code ({ cls := "BrushSellersModel", name := "refuses", desc := "(II)I" } : Jvm.MethodName) prog_12_method_6_code (3 : Nat) (Option.some Jvm.ClassFile.FieldType.int)) ∈ lw_all := lw_g (lw_at lw_m8 210 rfl) rfl
theorem q1954 : (Jvm.Cond.methodLink "BrushSellersModel" (44 : Nat) ({ cls := "BrushSellersModel", name := "keeps", desc := "(I)I" } : Jvm.MethodName)) ∈ lw_all := lw_g (lw_at lw_m8 211 rfl) rfl
theorem q1955 : (Jvm.Cond.privateMethod ({ cls := "BrushSellersModel", name := "keeps", desc := "(I)I" } : Jvm.MethodName)) ∈ lw_tbl := lw_at lw_m8 212 rfl
theorem q1956 : (Jvm.Cond.instanceMethod ({ cls := "BrushSellersModel", name := "keeps", desc := "(I)I" } : Jvm.MethodName)) ∈ lw_all := lw_g (lw_at lw_m8 213 rfl) rfl
theorem q1957 : (Jvm.Cond.code ({ cls := "BrushSellersModel", name := "keeps", desc := "(I)I" } : Jvm.MethodName) prog_12_method_5_code (3 : Nat) (Option.some Jvm.ClassFile.FieldType.int)) ∈ lw_all := lw_g (lw_at lw_m8 214 rfl) rfl
theorem q1959 : (Jvm.Cond.instanceMethod ({ cls := "BrushSellersModel", name := "dog", desc := "(II)I" } : Jvm.MethodName)) ∈ lw_all := lw_g (lw_at lw_m8 216 rfl) rfl
theorem q1960 : (Jvm.Cond.selects "BrushSellersModel" ({ cls := "BrushSellersModel", name := "dog", desc := "(II)I" } : Jvm.MethodName) ({ cls := "BrushSellersModel", name := "dog", desc := "(II)I" } : Jvm.MethodName)) ∈ lw_all := lw_g (lw_at lw_m8 217 rfl) rfl
theorem q1961 : (Jvm.Cond.code ({ cls := "BrushSellersModel", name := "dog", desc := "(II)I" } : Jvm.MethodName) prog_12_method_21_code (3 : Nat) (Option.some Jvm.ClassFile.FieldType.int)) ∈ lw_all := lw_g (lw_at lw_m8 218 rfl) rfl
theorem q1962 : (Jvm.Cond.methodLink "BrushSellersModel" (73 : Nat) ({ cls := "BrushSellersModel", name := "isHouse", desc := "(I)Z" } : Jvm.MethodName)) ∈ lw_all := lw_g (lw_at lw_m8 219 rfl) rfl
theorem q1963 : (Jvm.Cond.static ({ cls := "BrushSellersModel", name := "isHouse", desc := "(I)Z" } : Jvm.MethodName)) ∈ lw_all := lw_g (lw_at lw_m8 220 rfl) rfl
theorem q1964 : (Jvm.Cond.code ({ cls := "BrushSellersModel", name := "isHouse", desc := "(I)Z" } : Jvm.MethodName) prog_12_method_10_code (1 : Nat) (Option.some Jvm.ClassFile.FieldType.boolean)) ∈ lw_all := lw_g (lw_at lw_m8 221 rfl) rfl
theorem q1965 : (Jvm.Cond.methodLink "BrushSellersModel" (70 : Nat) ({ cls := "BrushSellersModel", name := "mood", desc := "(I)I" } : Jvm.MethodName)) ∈ lw_all := lw_g (lw_at lw_m8 222 rfl) rfl
theorem q1966 : (Jvm.Cond.privateMethod ({ cls := "BrushSellersModel", name := "mood", desc := "(I)I" } : Jvm.MethodName)) ∈ lw_tbl := lw_at lw_m8 223 rfl
theorem q1967 : (Jvm.Cond.instanceMethod ({ cls := "BrushSellersModel", name := "mood", desc := "(I)I" } : Jvm.MethodName)) ∈ lw_all := lw_g (lw_at lw_m8 224 rfl) rfl
theorem q1968 : (Jvm.Cond.code ({ cls := "BrushSellersModel", name := "mood", desc := "(I)I" } : Jvm.MethodName) prog_12_method_16_code (2 : Nat) (Option.some Jvm.ClassFile.FieldType.int)) ∈ lw_all := lw_g (lw_at lw_m8 225 rfl) rfl
theorem q1969 : (Jvm.Cond.methodLink "BrushSellersModel" (77 : Nat) ({ cls := "BrushSellersModel", name := "dogs", desc := "()I" } : Jvm.MethodName)) ∈ lw_all := lw_g (lw_at lw_m8 226 rfl) rfl
theorem q1970 : (Jvm.Cond.privateMethod ({ cls := "BrushSellersModel", name := "dogs", desc := "()I" } : Jvm.MethodName)) ∈ lw_tbl := lw_at lw_m8 227 rfl
theorem q1971 : (Jvm.Cond.instanceMethod ({ cls := "BrushSellersModel", name := "dogs", desc := "()I" } : Jvm.MethodName)) ∈ lw_all := lw_g (lw_at lw_m8 228 rfl) rfl
theorem q1972 : (Jvm.Cond.code ({ cls := "BrushSellersModel", name := "dogs", desc := "()I" } : Jvm.MethodName) prog_12_method_20_code (3 : Nat) (Option.some Jvm.ClassFile.FieldType.int)) ∈ lw_all := lw_g (lw_at lw_m8 229 rfl) rfl
theorem q1974 : (Jvm.Cond.instanceMethod ({ cls := "BrushSellersModel", name := "make", desc := "(II)I" } : Jvm.MethodName)) ∈ lw_all := lw_g (lw_at lw_m8 231 rfl) rfl
theorem q1975 : (Jvm.Cond.selects "BrushSellersModel" ({ cls := "BrushSellersModel", name := "make", desc := "(II)I" } : Jvm.MethodName) ({ cls := "BrushSellersModel", name := "make", desc := "(II)I" } : Jvm.MethodName)) ∈ lw_all := lw_g (lw_at lw_m8 232 rfl) rfl
theorem q1976 : (Jvm.Cond.code ({ cls := "BrushSellersModel", name := "make", desc := "(II)I" } : Jvm.MethodName) prog_12_method_23_code (4 : Nat) (Option.some Jvm.ClassFile.FieldType.int)) ∈ lw_all := lw_g (lw_at lw_m8 233 rfl) rfl
theorem q1977 : (Jvm.Cond.methodLink "BrushSellersModel" (81 : Nat) ({ cls := "BrushSellersModel", name := "isBristle", desc := "(I)Z" } : Jvm.MethodName)) ∈ lw_all := lw_g (lw_at lw_m8 234 rfl) rfl
theorem q1978 : (Jvm.Cond.static ({ cls := "BrushSellersModel", name := "isBristle", desc := "(I)Z" } : Jvm.MethodName)) ∈ lw_all := lw_g (lw_at lw_m8 235 rfl) rfl
theorem q1979 : (Jvm.Cond.code ({ cls := "BrushSellersModel", name := "isBristle", desc := "(I)Z" } : Jvm.MethodName) prog_12_method_11_code (1 : Nat) (Option.some Jvm.ClassFile.FieldType.boolean)) ∈ lw_all := lw_g (lw_at lw_m8 236 rfl) rfl
theorem q1980 : (Jvm.Cond.methodLink "BrushSellersModel" (84 : Nat) ({ cls := "BrushSellersModel", name := "spends", desc := "(I)I" } : Jvm.MethodName)) ∈ lw_all := lw_g (lw_at lw_m8 237 rfl) rfl
theorem q1981 : (Jvm.Cond.privateMethod ({ cls := "BrushSellersModel", name := "spends", desc := "(I)I" } : Jvm.MethodName)) ∈ lw_tbl := lw_at lw_m8 238 rfl
theorem q1982 : (Jvm.Cond.instanceMethod ({ cls := "BrushSellersModel", name := "spends", desc := "(I)I" } : Jvm.MethodName)) ∈ lw_all := lw_g (lw_at lw_m8 239 rfl) rfl
theorem q1983 : (Jvm.Cond.code ({ cls := "BrushSellersModel", name := "spends", desc := "(I)I" } : Jvm.MethodName) prog_12_method_22_code (2 : Nat) (Option.some Jvm.ClassFile.FieldType.int)) ∈ lw_all := lw_g (lw_at lw_m9 0 rfl) rfl
theorem q1985 : (Jvm.Cond.instanceMethod ({ cls := "BrushSellersModel", name := "take", desc := "(III)I" } : Jvm.MethodName)) ∈ lw_all := lw_g (lw_at lw_m9 2 rfl) rfl
theorem q1986 : (Jvm.Cond.selects "BrushSellersModel" ({ cls := "BrushSellersModel", name := "take", desc := "(III)I" } : Jvm.MethodName) ({ cls := "BrushSellersModel", name := "take", desc := "(III)I" } : Jvm.MethodName)) ∈ lw_all := lw_g (lw_at lw_m9 3 rfl) rfl
theorem q1987 : (Jvm.Cond.code ({ cls := "BrushSellersModel", name := "take", desc := "(III)I" } : Jvm.MethodName) prog_12_method_25_code (4 : Nat) (Option.some Jvm.ClassFile.FieldType.int)) ∈ lw_all := lw_g (lw_at lw_m9 4 rfl) rfl
theorem q1988 : (Jvm.Cond.methodLink "BrushSellersModel" (100 : Nat) ({ cls := "BrushSellersModel", name := "takes", desc := "(III)I" } : Jvm.MethodName)) ∈ lw_all := lw_g (lw_at lw_m9 5 rfl) rfl
theorem q1989 : (Jvm.Cond.privateMethod ({ cls := "BrushSellersModel", name := "takes", desc := "(III)I" } : Jvm.MethodName)) ∈ lw_tbl := lw_at lw_m9 6 rfl
theorem q1990 : (Jvm.Cond.instanceMethod ({ cls := "BrushSellersModel", name := "takes", desc := "(III)I" } : Jvm.MethodName)) ∈ lw_all := lw_g (lw_at lw_m9 7 rfl) rfl
theorem q1991 : (Jvm.Cond.code ({ cls := "BrushSellersModel", name := "takes", desc := "(III)I" } : Jvm.MethodName) prog_12_method_24_code (6 : Nat) (Option.some Jvm.ClassFile.FieldType.int)) ∈ lw_all := lw_g (lw_at lw_m9 8 rfl) rfl
theorem q1992 : (Jvm.Cond.methodLink "BrushSellersModel" (87 : Nat) ({ cls := "BrushSellersModel", name := "isSeller", desc := "(I)Z" } : Jvm.MethodName)) ∈ lw_all := lw_g (lw_at lw_m9 9 rfl) rfl
theorem q1993 : (Jvm.Cond.privateMethod ({ cls := "BrushSellersModel", name := "isSeller", desc := "(I)Z" } : Jvm.MethodName)) ∈ lw_tbl := lw_at lw_m9 10 rfl
theorem q1994 : (Jvm.Cond.instanceMethod ({ cls := "BrushSellersModel", name := "isSeller", desc := "(I)Z" } : Jvm.MethodName)) ∈ lw_all := lw_g (lw_at lw_m9 11 rfl) rfl
theorem q1995 : (Jvm.Cond.code ({ cls := "BrushSellersModel", name := "isSeller", desc := "(I)Z" } : Jvm.MethodName) prog_12_method_9_code (2 : Nat) (Option.some Jvm.ClassFile.FieldType.boolean)) ∈ lw_all := lw_g (lw_at lw_m9 12 rfl) rfl
theorem q1996 : (Jvm.Cond.methodLink "BrushSellersModel" (90 : Nat) ({ cls := "BrushSellersModel", name := "of", desc := "(II)I" } : Jvm.MethodName)) ∈ lw_all := lw_g (lw_at lw_m9 13 rfl) rfl
theorem q1997 : (Jvm.Cond.privateMethod ({ cls := "BrushSellersModel", name := "of", desc := "(II)I" } : Jvm.MethodName)) ∈ lw_tbl := lw_at lw_m9 14 rfl
theorem q1998 : (Jvm.Cond.instanceMethod ({ cls := "BrushSellersModel", name := "of", desc := "(II)I" } : Jvm.MethodName)) ∈ lw_all := lw_g (lw_at lw_m9 15 rfl) rfl
theorem q1999 : (Jvm.Cond.code ({ cls := "BrushSellersModel", name := "of", desc := "(II)I" } : Jvm.MethodName) prog_12_method_12_code (3 : Nat) (Option.some Jvm.ClassFile.FieldType.int)) ∈ lw_all := lw_g (lw_at lw_m9 16 rfl) rfl
theorem q2000 : (Jvm.Cond.methodLink "BrushSellersModel" (93 : Nat) ({ cls := "BrushSellersModel", name := "adds", desc := "(III)V" } : Jvm.MethodName)) ∈ lw_all := lw_g (lw_at lw_m9 17 rfl) rfl
theorem q2001 : (Jvm.Cond.privateMethod ({ cls := "BrushSellersModel", name := "adds", desc := "(III)V" } : Jvm.MethodName)) ∈ lw_tbl := lw_at lw_m9 18 rfl
theorem q2002 : (Jvm.Cond.instanceMethod ({ cls := "BrushSellersModel", name := "adds", desc := "(III)V" } : Jvm.MethodName)) ∈ lw_all := lw_g (lw_at lw_m9 19 rfl) rfl
theorem q2003 : (Jvm.Cond.code ({ cls := "BrushSellersModel", name := "adds", desc := "(III)V" } : Jvm.MethodName) prog_12_method_13_code (4 : Nat) (Option.none : Option Jvm.ClassFile.FieldType)) ∈ lw_all := lw_g (lw_at lw_m9 20 rfl) rfl
theorem q2004 : (Jvm.Cond.methodLink "BrushSellersModel" (97 : Nat) ({ cls := "BrushSellersModel", name := "does", desc := "(I)I" } : Jvm.MethodName)) ∈ lw_all := lw_g (lw_at lw_m9 21 rfl) rfl
theorem q2005 : (Jvm.Cond.privateMethod ({ cls := "BrushSellersModel", name := "does", desc := "(I)I" } : Jvm.MethodName)) ∈ lw_tbl := lw_at lw_m9 22 rfl
theorem q2006 : (Jvm.Cond.instanceMethod ({ cls := "BrushSellersModel", name := "does", desc := "(I)I" } : Jvm.MethodName)) ∈ lw_all := lw_g (lw_at lw_m9 23 rfl) rfl
theorem q2007 : (Jvm.Cond.code ({ cls := "BrushSellersModel", name := "does", desc := "(I)I" } : Jvm.MethodName) prog_12_method_7_code (2 : Nat) (Option.some Jvm.ClassFile.FieldType.int)) ∈ lw_all := lw_g (lw_at lw_m9 24 rfl) rfl
theorem q2008 : (Jvm.Cond.methodLink "BrushSellersModel" (104 : Nat) ({ cls := "BrushSellersModel", name := "ends", desc := "(I)I" } : Jvm.MethodName)) ∈ lw_all := lw_g (lw_at lw_m9 25 rfl) rfl
theorem q2009 : (Jvm.Cond.privateMethod ({ cls := "BrushSellersModel", name := "ends", desc := "(I)I" } : Jvm.MethodName)) ∈ lw_tbl := lw_at lw_m9 26 rfl
theorem q2010 : (Jvm.Cond.instanceMethod ({ cls := "BrushSellersModel", name := "ends", desc := "(I)I" } : Jvm.MethodName)) ∈ lw_all := lw_g (lw_at lw_m9 27 rfl) rfl
theorem q2011 : (Jvm.Cond.code ({ cls := "BrushSellersModel", name := "ends", desc := "(I)I" } : Jvm.MethodName) prog_12_method_8_code (2 : Nat) (Option.some Jvm.ClassFile.FieldType.int)) ∈ lw_all := lw_g (lw_at lw_m9 28 rfl) rfl
theorem q2013 : (Jvm.Cond.instanceMethod ({ cls := "BrushSellersModel", name := "sellerOf", desc := "(II)I" } : Jvm.MethodName)) ∈ lw_all := lw_g (lw_at lw_m9 30 rfl) rfl
theorem q2014 : (Jvm.Cond.selects "BrushSellersModel" ({ cls := "BrushSellersModel", name := "sellerOf", desc := "(II)I" } : Jvm.MethodName) ({ cls := "BrushSellersModel", name := "sellerOf", desc := "(II)I" } : Jvm.MethodName)) ∈ lw_all := lw_g (lw_at lw_m9 31 rfl) rfl
theorem q2015 : (Jvm.Cond.code ({ cls := "BrushSellersModel", name := "sellerOf", desc := "(II)I" } : Jvm.MethodName) prog_12_method_26_code (3 : Nat) (Option.some Jvm.ClassFile.FieldType.int)) ∈ lw_all := lw_g (lw_at lw_m9 32 rfl) rfl
theorem q2017 : (Jvm.Cond.instanceMethod ({ cls := "BrushSellersModel", name := "houseOf", desc := "(II)I" } : Jvm.MethodName)) ∈ lw_all := lw_g (lw_at lw_m9 34 rfl) rfl
theorem q2018 : (Jvm.Cond.selects "BrushSellersModel" ({ cls := "BrushSellersModel", name := "houseOf", desc := "(II)I" } : Jvm.MethodName) ({ cls := "BrushSellersModel", name := "houseOf", desc := "(II)I" } : Jvm.MethodName)) ∈ lw_all := lw_g (lw_at lw_m9 35 rfl) rfl
theorem q2019 : (Jvm.Cond.code ({ cls := "BrushSellersModel", name := "houseOf", desc := "(II)I" } : Jvm.MethodName) prog_12_method_27_code (3 : Nat) (Option.some Jvm.ClassFile.FieldType.int)) ∈ lw_all := lw_g (lw_at lw_m9 36 rfl) rfl
theorem q2020 : (Jvm.Cond.methodLink "BrushSellersModel" (107 : Nat) ({ cls := "BrushSellersModel", name := "steps", desc := "(I)I" } : Jvm.MethodName)) ∈ lw_all := lw_g (lw_at lw_m9 37 rfl) rfl
theorem q2021 : (Jvm.Cond.static ({ cls := "BrushSellersModel", name := "steps", desc := "(I)I" } : Jvm.MethodName)) ∈ lw_all := lw_g (lw_at lw_m9 38 rfl) rfl
theorem q2022 : (Jvm.Cond.code ({ cls := "BrushSellersModel", name := "steps", desc := "(I)I" } : Jvm.MethodName) prog_12_method_17_code (1 : Nat) (Option.some Jvm.ClassFile.FieldType.int)) ∈ lw_all := lw_g (lw_at lw_m9 39 rfl) rfl
theorem q2023 : (Jvm.Cond.methodLink "BrushSellersModel" (52 : Nat) ({ cls := "BrushSellersModel", name := "temper", desc := "(I)I" } : Jvm.MethodName)) ∈ lw_all := lw_g (lw_at lw_m9 40 rfl) rfl
theorem q2024 : (Jvm.Cond.privateMethod ({ cls := "BrushSellersModel", name := "temper", desc := "(I)I" } : Jvm.MethodName)) ∈ lw_tbl := lw_at lw_m9 41 rfl
theorem q2025 : (Jvm.Cond.instanceMethod ({ cls := "BrushSellersModel", name := "temper", desc := "(I)I" } : Jvm.MethodName)) ∈ lw_all := lw_g (lw_at lw_m9 42 rfl) rfl
theorem q2026 : (Jvm.Cond.code ({ cls := "BrushSellersModel", name := "temper", desc := "(I)I" } : Jvm.MethodName) prog_12_method_14_code (2 : Nat) (Option.some Jvm.ClassFile.FieldType.int)) ∈ lw_all := lw_g (lw_at lw_m9 43 rfl) rfl
theorem q2028 : (Jvm.Cond.instanceMethod ({ cls := "BrushSellersModel", name := "depot", desc := "(I)I" } : Jvm.MethodName)) ∈ lw_all := lw_g (lw_at lw_m9 45 rfl) rfl
theorem q2029 : (Jvm.Cond.selects "BrushSellersModel" ({ cls := "BrushSellersModel", name := "depot", desc := "(I)I" } : Jvm.MethodName) ({ cls := "BrushSellersModel", name := "depot", desc := "(I)I" } : Jvm.MethodName)) ∈ lw_all := lw_g (lw_at lw_m9 46 rfl) rfl
theorem q2030 : (Jvm.Cond.code ({ cls := "BrushSellersModel", name := "depot", desc := "(I)I" } : Jvm.MethodName) prog_12_method_28_code (2 : Nat) (Option.some Jvm.ClassFile.FieldType.int)) ∈ lw_all := lw_g (lw_at lw_m9 47 rfl) rfl
theorem q2032 : (Jvm.Cond.instanceMethod ({ cls := "BrushSellersModel", name := "go", desc := "(II)I" } : Jvm.MethodName)) ∈ lw_all := lw_g (lw_at lw_m9 49 rfl) rfl
theorem q2033 : (Jvm.Cond.selects "BrushSellersModel" ({ cls := "BrushSellersModel", name := "go", desc := "(II)I" } : Jvm.MethodName) ({ cls := "BrushSellersModel", name := "go", desc := "(II)I" } : Jvm.MethodName)) ∈ lw_all := lw_g (lw_at lw_m9 50 rfl) rfl
theorem q2034 : (Jvm.Cond.code ({ cls := "BrushSellersModel", name := "go", desc := "(II)I" } : Jvm.MethodName) prog_12_method_30_code (3 : Nat) (Option.some Jvm.ClassFile.FieldType.int)) ∈ lw_all := lw_g (lw_at lw_m9 51 rfl) rfl
theorem q2035 : (Jvm.Cond.methodLink "BrushSellersModel" (116 : Nat) ({ cls := "BrushSellersModel", name := "goes", desc := "(II)I" } : Jvm.MethodName)) ∈ lw_all := lw_g (lw_at lw_m9 52 rfl) rfl
theorem q2036 : (Jvm.Cond.privateMethod ({ cls := "BrushSellersModel", name := "goes", desc := "(II)I" } : Jvm.MethodName)) ∈ lw_tbl := lw_at lw_m9 53 rfl
theorem q2037 : (Jvm.Cond.instanceMethod ({ cls := "BrushSellersModel", name := "goes", desc := "(II)I" } : Jvm.MethodName)) ∈ lw_all := lw_g (lw_at lw_m9 54 rfl) rfl
theorem q2038 : (Jvm.Cond.code ({ cls := "BrushSellersModel", name := "goes", desc := "(II)I" } : Jvm.MethodName) prog_12_method_29_code (4 : Nat) (Option.some Jvm.ClassFile.FieldType.int)) ∈ lw_all := lw_g (lw_at lw_m9 55 rfl) rfl
theorem q2039 : (Jvm.Cond.methodLink "BrushSellersModel" (110 : Nat) ({ cls := "java/lang/Math", name := "abs", desc := "(I)I" } : Jvm.MethodName)) ∈ lw_all := lw_g (lw_at lw_m9 56 rfl) rfl
theorem q2040 : (Jvm.Cond.methodLink "BrushSellersModel" (113 : Nat) ({ cls := "BrushSellersModel", name := "left", desc := "()I" } : Jvm.MethodName)) ∈ lw_all := lw_g (lw_at lw_m9 57 rfl) rfl
theorem q2041 : (Jvm.Cond.privateMethod ({ cls := "BrushSellersModel", name := "left", desc := "()I" } : Jvm.MethodName)) ∈ lw_tbl := lw_at lw_m9 58 rfl
theorem q2042 : (Jvm.Cond.instanceMethod ({ cls := "BrushSellersModel", name := "left", desc := "()I" } : Jvm.MethodName)) ∈ lw_all := lw_g (lw_at lw_m9 59 rfl) rfl
theorem q2043 : (Jvm.Cond.code ({ cls := "BrushSellersModel", name := "left", desc := "()I" } : Jvm.MethodName) prog_12_method_18_code (1 : Nat) (Option.some Jvm.ClassFile.FieldType.int)) ∈ lw_all := lw_g (lw_at lw_m9 60 rfl) rfl
theorem q2045 : (Jvm.Cond.instanceMethod ({ cls := "BrushSellersModel", name := "soles", desc := "(I)I" } : Jvm.MethodName)) ∈ lw_all := lw_g (lw_at lw_m9 62 rfl) rfl
theorem q2046 : (Jvm.Cond.selects "BrushSellersModel" ({ cls := "BrushSellersModel", name := "soles", desc := "(I)I" } : Jvm.MethodName) ({ cls := "BrushSellersModel", name := "soles", desc := "(I)I" } : Jvm.MethodName)) ∈ lw_all := lw_g (lw_at lw_m9 63 rfl) rfl
theorem q2047 : (Jvm.Cond.code ({ cls := "BrushSellersModel", name := "soles", desc := "(I)I" } : Jvm.MethodName) prog_12_method_32_code (2 : Nat) (Option.some Jvm.ClassFile.FieldType.int)) ∈ lw_all := lw_g (lw_at lw_m9 64 rfl) rfl
theorem q2048 : (Jvm.Cond.methodLink "BrushSellersModel" (119 : Nat) ({ cls := "BrushSellersModel", name := "renews", desc := "(I)I" } : Jvm.MethodName)) ∈ lw_all := lw_g (lw_at lw_m9 65 rfl) rfl
theorem q2049 : (Jvm.Cond.privateMethod ({ cls := "BrushSellersModel", name := "renews", desc := "(I)I" } : Jvm.MethodName)) ∈ lw_tbl := lw_at lw_m9 66 rfl
theorem q2050 : (Jvm.Cond.instanceMethod ({ cls := "BrushSellersModel", name := "renews", desc := "(I)I" } : Jvm.MethodName)) ∈ lw_all := lw_g (lw_at lw_m9 67 rfl) rfl
theorem q2051 : (Jvm.Cond.code ({ cls := "BrushSellersModel", name := "renews", desc := "(I)I" } : Jvm.MethodName) prog_12_method_31_code (3 : Nat) (Option.some Jvm.ClassFile.FieldType.int)) ∈ lw_all := lw_g (lw_at lw_m9 68 rfl) rfl
theorem q2053 : (Jvm.Cond.instanceMethod ({ cls := "BrushSellersModel", name := "pet", desc := "(I)I" } : Jvm.MethodName)) ∈ lw_all := lw_g (lw_at lw_m9 70 rfl) rfl
theorem q2054 : (Jvm.Cond.selects "BrushSellersModel" ({ cls := "BrushSellersModel", name := "pet", desc := "(I)I" } : Jvm.MethodName) ({ cls := "BrushSellersModel", name := "pet", desc := "(I)I" } : Jvm.MethodName)) ∈ lw_all := lw_g (lw_at lw_m9 71 rfl) rfl
theorem q2055 : (Jvm.Cond.code ({ cls := "BrushSellersModel", name := "pet", desc := "(I)I" } : Jvm.MethodName) prog_12_method_34_code (2 : Nat) (Option.some Jvm.ClassFile.FieldType.int)) ∈ lw_all := lw_g (lw_at lw_m9 72 rfl) rfl
theorem q2056 : (Jvm.Cond.methodLink "BrushSellersModel" (122 : Nat) ({ cls := "BrushSellersModel", name := "pets", desc := "(I)I" } : Jvm.MethodName)) ∈ lw_all := lw_g (lw_at lw_m9 73 rfl) rfl
theorem q2057 : (Jvm.Cond.privateMethod ({ cls := "BrushSellersModel", name := "pets", desc := "(I)I" } : Jvm.MethodName)) ∈ lw_tbl := lw_at lw_m9 74 rfl
theorem q2058 : (Jvm.Cond.instanceMethod ({ cls := "BrushSellersModel", name := "pets", desc := "(I)I" } : Jvm.MethodName)) ∈ lw_all := lw_g (lw_at lw_m9 75 rfl) rfl
theorem q2059 : (Jvm.Cond.code ({ cls := "BrushSellersModel", name := "pets", desc := "(I)I" } : Jvm.MethodName) prog_12_method_33_code (4 : Nat) (Option.some Jvm.ClassFile.FieldType.int)) ∈ lw_all := lw_g (lw_at lw_m9 76 rfl) rfl
theorem q2060 : (Jvm.Cond.methodLink "BrushSellersModel" (61 : Nat) ({ cls := "java/lang/Math", name := "max", desc := "(II)I" } : Jvm.MethodName)) ∈ lw_all := lw_g (lw_at lw_m9 77 rfl) rfl
theorem q2062 : (Jvm.Cond.instanceMethod ({ cls := "BrushSellersModel", name := "rounds", desc := "(II)I" } : Jvm.MethodName)) ∈ lw_all := lw_g (lw_at lw_m9 79 rfl) rfl
theorem q2063 : (Jvm.Cond.selects "BrushSellersModel" ({ cls := "BrushSellersModel", name := "rounds", desc := "(II)I" } : Jvm.MethodName) ({ cls := "BrushSellersModel", name := "rounds", desc := "(II)I" } : Jvm.MethodName)) ∈ lw_all := lw_g (lw_at lw_m9 80 rfl) rfl
theorem q2064 : (Jvm.Cond.code ({ cls := "BrushSellersModel", name := "rounds", desc := "(II)I" } : Jvm.MethodName) prog_12_method_35_code (4 : Nat) (Option.some Jvm.ClassFile.FieldType.int)) ∈ lw_all := lw_g (lw_at lw_m9 81 rfl) rfl
theorem q2066 : (Jvm.Cond.instanceMethod ({ cls := "BrushSellersModel", name := "roundsAgain", desc := "(II)I" } : Jvm.MethodName)) ∈ lw_all := lw_g (lw_at lw_m9 83 rfl) rfl
theorem q2067 : (Jvm.Cond.selects "BrushSellersModel" ({ cls := "BrushSellersModel", name := "roundsAgain", desc := "(II)I" } : Jvm.MethodName) ({ cls := "BrushSellersModel", name := "roundsAgain", desc := "(II)I" } : Jvm.MethodName)) ∈ lw_all := lw_g (lw_at lw_m9 84 rfl) rfl
theorem q2068 : (Jvm.Cond.code ({ cls := "BrushSellersModel", name := "roundsAgain", desc := "(II)I" } : Jvm.MethodName) prog_12_method_36_code (3 : Nat) (Option.some Jvm.ClassFile.FieldType.int)) ∈ lw_all := lw_g (lw_at lw_m9 85 rfl) rfl
theorem q2069 : (Jvm.Cond.methodLink "BrushSellersModel" (125 : Nat) ({ cls := "BrushSellersModel", name := "rounds", desc := "(II)I" } : Jvm.MethodName)) ∈ lw_all := lw_g (lw_at lw_m9 86 rfl) rfl
theorem q2071 : (Jvm.Cond.instanceMethod ({ cls := "BrushSellersModel", name := "would", desc := "(IIII)I" } : Jvm.MethodName)) ∈ lw_all := lw_g (lw_at lw_m9 88 rfl) rfl
theorem q2072 : (Jvm.Cond.selects "BrushSellersModel" ({ cls := "BrushSellersModel", name := "would", desc := "(IIII)I" } : Jvm.MethodName) ({ cls := "BrushSellersModel", name := "would", desc := "(IIII)I" } : Jvm.MethodName)) ∈ lw_all := lw_g (lw_at lw_m9 89 rfl) rfl
theorem q2073 : (Jvm.Cond.code ({ cls := "BrushSellersModel", name := "would", desc := "(IIII)I" } : Jvm.MethodName) prog_12_method_39_code (5 : Nat) (Option.some Jvm.ClassFile.FieldType.int)) ∈ lw_all := lw_g (lw_at lw_m9 90 rfl) rfl
theorem q2074 : (Jvm.Cond.methodLink "BrushSellersModel" (132 : Nat) ({ cls := "BrushSellersModel", name := "wants", desc := "(IIII)I" } : Jvm.MethodName)) ∈ lw_all := lw_g (lw_at lw_m9 91 rfl) rfl
theorem q2075 : (Jvm.Cond.privateMethod ({ cls := "BrushSellersModel", name := "wants", desc := "(IIII)I" } : Jvm.MethodName)) ∈ lw_tbl := lw_at lw_m9 92 rfl
theorem q2076 : (Jvm.Cond.instanceMethod ({ cls := "BrushSellersModel", name := "wants", desc := "(IIII)I" } : Jvm.MethodName)) ∈ lw_all := lw_g (lw_at lw_m9 93 rfl) rfl
theorem q2077 : (Jvm.Cond.code ({ cls := "BrushSellersModel", name := "wants", desc := "(IIII)I" } : Jvm.MethodName) prog_12_method_38_code (6 : Nat) (Option.some Jvm.ClassFile.FieldType.int)) ∈ lw_all := lw_g (lw_at lw_m9 94 rfl) rfl
theorem q2078 : (Jvm.Cond.methodLink "BrushSellersModel" (128 : Nat) ({ cls := "BrushSellersModel", name := "listens", desc := "(II)Z" } : Jvm.MethodName)) ∈ lw_all := lw_g (lw_at lw_m9 95 rfl) rfl
theorem q2079 : (Jvm.Cond.privateMethod ({ cls := "BrushSellersModel", name := "listens", desc := "(II)Z" } : Jvm.MethodName)) ∈ lw_tbl := lw_at lw_m9 96 rfl
theorem q2080 : (Jvm.Cond.instanceMethod ({ cls := "BrushSellersModel", name := "listens", desc := "(II)Z" } : Jvm.MethodName)) ∈ lw_all := lw_g (lw_at lw_m9 97 rfl) rfl
theorem q2081 : (Jvm.Cond.code ({ cls := "BrushSellersModel", name := "listens", desc := "(II)Z" } : Jvm.MethodName) prog_12_method_37_code (4 : Nat) (Option.some Jvm.ClassFile.FieldType.boolean)) ∈ lw_all := lw_g (lw_at lw_m9 98 rfl) rfl
theorem q2082 : (Jvm.Cond.methodLink "BrushSellersModel" (55 : Nat) ({ cls := "java/lang/Math", name := "min", desc := "(II)I" } : Jvm.MethodName)) ∈ lw_all := lw_g (lw_at lw_m9 99 rfl) rfl
theorem q2084 : (Jvm.Cond.instanceMethod ({ cls := "BrushSellersModel", name := "bestHouse", desc := "(III)I" } : Jvm.MethodName)) ∈ lw_all := lw_g (lw_at lw_m9 101 rfl) rfl
theorem q2085 : (Jvm.Cond.selects "BrushSellersModel" ({ cls := "BrushSellersModel", name := "bestHouse", desc := "(III)I" } : Jvm.MethodName) ({ cls := "BrushSellersModel", name := "bestHouse", desc := "(III)I" } : Jvm.MethodName)) ∈ lw_all := lw_g (lw_at lw_m9 102 rfl) rfl
theorem q2086 : (Jvm.Cond.code ({ cls := "BrushSellersModel", name := "bestHouse", desc := "(III)I" } : Jvm.MethodName) prog_12_method_40_code (10 : Nat) (Option.some Jvm.ClassFile.FieldType.int)) ∈ lw_all := lw_g (lw_at lw_m9 103 rfl) rfl
theorem q2088 : (Jvm.Cond.instanceMethod ({ cls := "BrushSellersModel", name := "ring", desc := "(III)I" } : Jvm.MethodName)) ∈ lw_all := lw_g (lw_at lw_m9 105 rfl) rfl
theorem q2089 : (Jvm.Cond.selects "BrushSellersModel" ({ cls := "BrushSellersModel", name := "ring", desc := "(III)I" } : Jvm.MethodName) ({ cls := "BrushSellersModel", name := "ring", desc := "(III)I" } : Jvm.MethodName)) ∈ lw_all := lw_g (lw_at lw_m9 106 rfl) rfl
theorem q2090 : (Jvm.Cond.code ({ cls := "BrushSellersModel", name := "ring", desc := "(III)I" } : Jvm.MethodName) prog_12_method_42_code (4 : Nat) (Option.some Jvm.ClassFile.FieldType.int)) ∈ lw_all := lw_g (lw_at lw_m9 107 rfl) rfl
theorem q2091 : (Jvm.Cond.methodLink "BrushSellersModel" (140 : Nat) ({ cls := "BrushSellersModel", name := "rings", desc := "(III)I" } : Jvm.MethodName)) ∈ lw_all := lw_g (lw_at lw_m9 108 rfl) rfl
theorem q2092 : (Jvm.Cond.privateMethod ({ cls := "BrushSellersModel", name := "rings", desc := "(III)I" } : Jvm.MethodName)) ∈ lw_tbl := lw_at lw_m9 109 rfl
theorem q2093 : (Jvm.Cond.instanceMethod ({ cls := "BrushSellersModel", name := "rings", desc := "(III)I" } : Jvm.MethodName)) ∈ lw_all := lw_g (lw_at lw_m9 110 rfl) rfl
theorem q2094 : (Jvm.Cond.code ({ cls := "BrushSellersModel", name := "rings", desc := "(III)I" } : Jvm.MethodName) prog_12_method_41_code (7 : Nat) (Option.some Jvm.ClassFile.FieldType.int)) ∈ lw_all := lw_g (lw_at lw_m9 111 rfl) rfl
theorem q2095 : (Jvm.Cond.methodLink "BrushSellersModel" (136 : Nat) ({ cls := "BrushSellersModel", name := "calms", desc := "(II)V" } : Jvm.MethodName)) ∈ lw_all := lw_g (lw_at lw_m9 112 rfl) rfl
theorem q2096 : (Jvm.Cond.privateMethod ({ cls := "BrushSellersModel", name := "calms", desc := "(II)V" } : Jvm.MethodName)) ∈ lw_tbl := lw_at lw_m9 113 rfl
theorem q2097 : (Jvm.Cond.instanceMethod ({ cls := "BrushSellersModel", name := "calms", desc := "(II)V" } : Jvm.MethodName)) ∈ lw_all := lw_g (lw_at lw_m9 114 rfl) rfl
theorem q2098 : (Jvm.Cond.code ({ cls := "BrushSellersModel", name := "calms", desc := "(II)V" } : Jvm.MethodName) prog_12_method_15_code (3 : Nat) (Option.none : Option Jvm.ClassFile.FieldType)) ∈ lw_all := lw_g (lw_at lw_m9 115 rfl) rfl
theorem q2100 : (Jvm.Cond.instanceMethod ({ cls := "BrushSellersModel", name := "back", desc := "(I)I" } : Jvm.MethodName)) ∈ lw_all := lw_g (lw_at lw_m9 117 rfl) rfl
theorem q2101 : (Jvm.Cond.selects "BrushSellersModel" ({ cls := "BrushSellersModel", name := "back", desc := "(I)I" } : Jvm.MethodName) ({ cls := "BrushSellersModel", name := "back", desc := "(I)I" } : Jvm.MethodName)) ∈ lw_all := lw_g (lw_at lw_m9 118 rfl) rfl
theorem q2102 : (Jvm.Cond.code ({ cls := "BrushSellersModel", name := "back", desc := "(I)I" } : Jvm.MethodName) prog_12_method_44_code (2 : Nat) (Option.some Jvm.ClassFile.FieldType.int)) ∈ lw_all := lw_g (lw_at lw_m9 119 rfl) rfl
theorem q2103 : (Jvm.Cond.methodLink "BrushSellersModel" (143 : Nat) ({ cls := "BrushSellersModel", name := "takesBack", desc := "(I)I" } : Jvm.MethodName)) ∈ lw_all := lw_g (lw_at lw_m9 120 rfl) rfl
theorem q2104 : (Jvm.Cond.privateMethod ({ cls := "BrushSellersModel", name := "takesBack", desc := "(I)I" } : Jvm.MethodName)) ∈ lw_tbl := lw_at lw_m9 121 rfl
theorem q2105 : (Jvm.Cond.instanceMethod ({ cls := "BrushSellersModel", name := "takesBack", desc := "(I)I" } : Jvm.MethodName)) ∈ lw_all := lw_g (lw_at lw_m9 122 rfl) rfl
theorem q2106 : (Jvm.Cond.code ({ cls := "BrushSellersModel", name := "takesBack", desc := "(I)I" } : Jvm.MethodName) prog_12_method_43_code (8 : Nat) (Option.some Jvm.ClassFile.FieldType.int)) ∈ lw_all := lw_g (lw_at lw_m9 123 rfl) rfl
theorem q2108 : (Jvm.Cond.instanceMethod ({ cls := "BrushSellersModel", name := "saleOf", desc := "(II)I" } : Jvm.MethodName)) ∈ lw_all := lw_g (lw_at lw_m9 125 rfl) rfl
theorem q2109 : (Jvm.Cond.selects "BrushSellersModel" ({ cls := "BrushSellersModel", name := "saleOf", desc := "(II)I" } : Jvm.MethodName) ({ cls := "BrushSellersModel", name := "saleOf", desc := "(II)I" } : Jvm.MethodName)) ∈ lw_all := lw_g (lw_at lw_m9 126 rfl) rfl
theorem q2110 : (Jvm.Cond.code ({ cls := "BrushSellersModel", name := "saleOf", desc := "(II)I" } : Jvm.MethodName) prog_12_method_45_code (3 : Nat) (Option.some Jvm.ClassFile.FieldType.int)) ∈ lw_all := lw_g (lw_at lw_m9 127 rfl) rfl
theorem q2112 : (Jvm.Cond.instanceMethod ({ cls := "BrushSellersModel", name := "day", desc := "()I" } : Jvm.MethodName)) ∈ lw_all := lw_g (lw_at lw_m9 129 rfl) rfl
theorem q2113 : (Jvm.Cond.selects "BrushSellersModel" ({ cls := "BrushSellersModel", name := "day", desc := "()I" } : Jvm.MethodName) ({ cls := "BrushSellersModel", name := "day", desc := "()I" } : Jvm.MethodName)) ∈ lw_all := lw_g (lw_at lw_m9 130 rfl) rfl
theorem q2114 : (Jvm.Cond.code ({ cls := "BrushSellersModel", name := "day", desc := "()I" } : Jvm.MethodName) prog_12_method_47_code (1 : Nat) (Option.some Jvm.ClassFile.FieldType.int)) ∈ lw_all := lw_g (lw_at lw_m9 131 rfl) rfl
theorem q2115 : (Jvm.Cond.methodLink "BrushSellersModel" (146 : Nat) ({ cls := "BrushSellersModel", name := "passes", desc := "()I" } : Jvm.MethodName)) ∈ lw_all := lw_g (lw_at lw_m9 132 rfl) rfl
theorem q2116 : (Jvm.Cond.privateMethod ({ cls := "BrushSellersModel", name := "passes", desc := "()I" } : Jvm.MethodName)) ∈ lw_tbl := lw_at lw_m9 133 rfl
theorem q2117 : (Jvm.Cond.instanceMethod ({ cls := "BrushSellersModel", name := "passes", desc := "()I" } : Jvm.MethodName)) ∈ lw_all := lw_g (lw_at lw_m9 134 rfl) rfl
theorem q2118 : (Jvm.Cond.code ({ cls := "BrushSellersModel", name := "passes", desc := "()I" } : Jvm.MethodName) prog_12_method_46_code (3 : Nat) (Option.some Jvm.ClassFile.FieldType.int)) ∈ lw_all := lw_g (lw_at lw_m9 135 rfl) rfl
theorem q2120 : (Jvm.Cond.instanceMethod ({ cls := "BrushSellersModel", name := "append", desc := "(I)I" } : Jvm.MethodName)) ∈ lw_all := lw_g (lw_at lw_m9 137 rfl) rfl
theorem q2121 : (Jvm.Cond.selects "BrushSellersModel" ({ cls := "BrushSellersModel", name := "append", desc := "(I)I" } : Jvm.MethodName) ({ cls := "BrushSellersModel", name := "append", desc := "(I)I" } : Jvm.MethodName)) ∈ lw_all := lw_g (lw_at lw_m9 138 rfl) rfl
theorem q2122 : (Jvm.Cond.code ({ cls := "BrushSellersModel", name := "append", desc := "(I)I" } : Jvm.MethodName) prog_12_method_48_code (2 : Nat) (Option.some Jvm.ClassFile.FieldType.int)) ∈ lw_all := lw_g (lw_at lw_m9 139 rfl) rfl
theorem q2124 : (Jvm.Cond.instanceMethod ({ cls := "BrushSellersModel", name := "run", desc := "()I" } : Jvm.MethodName)) ∈ lw_all := lw_g (lw_at lw_m9 141 rfl) rfl
theorem q2125 : (Jvm.Cond.selects "BrushSellersModel" ({ cls := "BrushSellersModel", name := "run", desc := "()I" } : Jvm.MethodName) ({ cls := "BrushSellersModel", name := "run", desc := "()I" } : Jvm.MethodName)) ∈ lw_all := lw_g (lw_at lw_m9 142 rfl) rfl
theorem q2126 : (Jvm.Cond.code ({ cls := "BrushSellersModel", name := "run", desc := "()I" } : Jvm.MethodName) prog_12_method_54_code (5 : Nat) (Option.some Jvm.ClassFile.FieldType.int)) ∈ lw_all := lw_g (lw_at lw_m9 143 rfl) rfl
theorem q2127 : (Jvm.Cond.methodLink "BrushSellersModel" (198 : Nat) ({ cls := "BrushSellersModel", name := "isOrder", desc := "()Z" } : Jvm.MethodName)) ∈ lw_all := lw_g (lw_at lw_m9 144 rfl) rfl
theorem q2128 : (Jvm.Cond.privateMethod ({ cls := "BrushSellersModel", name := "isOrder", desc := "()Z" } : Jvm.MethodName)) ∈ lw_tbl := lw_at lw_m9 145 rfl
theorem q2129 : (Jvm.Cond.instanceMethod ({ cls := "BrushSellersModel", name := "isOrder", desc := "()Z" } : Jvm.MethodName)) ∈ lw_all := lw_g (lw_at lw_m9 146 rfl) rfl
theorem q2130 : (Jvm.Cond.code ({ cls := "BrushSellersModel", name := "isOrder", desc := "()Z" } : Jvm.MethodName) prog_12_method_52_code (1 : Nat) (Option.some Jvm.ClassFile.FieldType.boolean)) ∈ lw_all := lw_g (lw_at lw_m9 147 rfl) rfl
theorem q2131 : (Jvm.Cond.stringRef "BrushSellersModel" (175 : Nat) "go ") ∈ lw_tbl := lw_at lw_m9 148 rfl
theorem q2132 : (Jvm.Cond.methodLink "BrushSellersModel" (165 : Nat) ({ cls := "BrushSellersModel", name := "word", desc := "(Ljava/lang/String;)Z" } : Jvm.MethodName)) ∈ lw_all := lw_g (lw_at lw_m9 149 rfl) rfl
theorem q2133 : (Jvm.Cond.privateMethod ({ cls := "BrushSellersModel", name := "word", desc := "(Ljava/lang/String;)Z" } : Jvm.MethodName)) ∈ lw_tbl := lw_at lw_m9 150 rfl
theorem q2134 : (Jvm.Cond.instanceMethod ({ cls := "BrushSellersModel", name := "word", desc := "(Ljava/lang/String;)Z" } : Jvm.MethodName)) ∈ lw_all := lw_g (lw_at lw_m9 151 rfl) rfl
theorem q2135 : (Jvm.Cond.code ({ cls := "BrushSellersModel", name := "word", desc := "(Ljava/lang/String;)Z" } : Jvm.MethodName) prog_12_method_49_code (3 : Nat) (Option.some Jvm.ClassFile.FieldType.boolean)) ∈ lw_all := lw_g (lw_at lw_m9 152 rfl) rfl
theorem q2136 : (Jvm.Cond.methodLink "BrushSellersModel" (152 : Nat) ({ cls := "java/lang/String", name := "length", desc := "()I" } : Jvm.MethodName)) ∈ lw_all := lw_g (lw_at lw_m9 153 rfl) rfl
theorem q2137 : (Jvm.Cond.methodLink "BrushSellersModel" (159 : Nat) ({ cls := "java/lang/String", name := "charAt", desc := "(I)C" } : Jvm.MethodName)) ∈ lw_all := lw_g (lw_at lw_m9 154 rfl) rfl
theorem q2138 : (Jvm.Cond.methodLink "BrushSellersModel" (169 : Nat) ({ cls := "BrushSellersModel", name := "digits", desc := "(II)Z" } : Jvm.MethodName)) ∈ lw_all := lw_g (lw_at lw_m9 155 rfl) rfl
theorem q2139 : (Jvm.Cond.privateMethod ({ cls := "BrushSellersModel", name := "digits", desc := "(II)Z" } : Jvm.MethodName)) ∈ lw_tbl := lw_at lw_m9 156 rfl
theorem q2140 : (Jvm.Cond.instanceMethod ({ cls := "BrushSellersModel", name := "digits", desc := "(II)Z" } : Jvm.MethodName)) ∈ lw_all := lw_g (lw_at lw_m9 157 rfl) rfl
theorem q2141 : (Jvm.Cond.code ({ cls := "BrushSellersModel", name := "digits", desc := "(II)Z" } : Jvm.MethodName) prog_12_method_50_code (4 : Nat) (Option.some Jvm.ClassFile.FieldType.boolean)) ∈ lw_all := lw_g (lw_at lw_m9 158 rfl) rfl
theorem q2142 : (Jvm.Cond.stringRef "BrushSellersModel" (177 : Nat) ">") ∈ lw_tbl := lw_at lw_m9 159 rfl
theorem q2143 : (Jvm.Cond.stringRef "BrushSellersModel" (179 : Nat) "ring ") ∈ lw_tbl := lw_at lw_m9 160 rfl
theorem q2144 : (Jvm.Cond.stringRef "BrushSellersModel" (181 : Nat) " ") ∈ lw_tbl := lw_at lw_m9 161 rfl
theorem q2145 : (Jvm.Cond.stringRef "BrushSellersModel" (183 : Nat) "=") ∈ lw_tbl := lw_at lw_m9 162 rfl
theorem q2146 : (Jvm.Cond.stringRef "BrushSellersModel" (185 : Nat) "pet ") ∈ lw_tbl := lw_at lw_m9 163 rfl
theorem q2147 : (Jvm.Cond.stringRef "BrushSellersModel" (187 : Nat) "take ") ∈ lw_tbl := lw_at lw_m9 164 rfl
theorem q2148 : (Jvm.Cond.methodLink "BrushSellersModel" (189 : Nat) ({ cls := "BrushSellersModel", name := "signed", desc := "(I)Z" } : Jvm.MethodName)) ∈ lw_all := lw_g (lw_at lw_m9 165 rfl) rfl
theorem q2149 : (Jvm.Cond.privateMethod ({ cls := "BrushSellersModel", name := "signed", desc := "(I)Z" } : Jvm.MethodName)) ∈ lw_tbl := lw_at lw_m9 166 rfl
theorem q2150 : (Jvm.Cond.instanceMethod ({ cls := "BrushSellersModel", name := "signed", desc := "(I)Z" } : Jvm.MethodName)) ∈ lw_all := lw_g (lw_at lw_m9 167 rfl) rfl
theorem q2151 : (Jvm.Cond.code ({ cls := "BrushSellersModel", name := "signed", desc := "(I)Z" } : Jvm.MethodName) prog_12_method_51_code (3 : Nat) (Option.some Jvm.ClassFile.FieldType.boolean)) ∈ lw_all := lw_g (lw_at lw_m9 168 rfl) rfl
theorem q2152 : (Jvm.Cond.stringRef "BrushSellersModel" (163 : Nat) "+") ∈ lw_tbl := lw_at lw_m9 169 rfl
theorem q2153 : (Jvm.Cond.stringRef "BrushSellersModel" (192 : Nat) "back ") ∈ lw_tbl := lw_at lw_m9 170 rfl
theorem q2154 : (Jvm.Cond.stringRef "BrushSellersModel" (194 : Nat) "soles ") ∈ lw_tbl := lw_at lw_m9 171 rfl
theorem q2155 : (Jvm.Cond.stringRef "BrushSellersModel" (196 : Nat) "day") ∈ lw_tbl := lw_at lw_m9 172 rfl
theorem q2156 : (Jvm.Cond.stringRef "BrushSellersModel" (202 : Nat) ";") ∈ lw_tbl := lw_at lw_m9 173 rfl
theorem q2157 : (Jvm.Cond.methodLink "BrushSellersModel" (204 : Nat) ({ cls := "BrushSellersModel", name := "carries", desc := "()I" } : Jvm.MethodName)) ∈ lw_all := lw_g (lw_at lw_m9 174 rfl) rfl
theorem q2158 : (Jvm.Cond.privateMethod ({ cls := "BrushSellersModel", name := "carries", desc := "()I" } : Jvm.MethodName)) ∈ lw_tbl := lw_at lw_m9 175 rfl
theorem q2159 : (Jvm.Cond.instanceMethod ({ cls := "BrushSellersModel", name := "carries", desc := "()I" } : Jvm.MethodName)) ∈ lw_all := lw_g (lw_at lw_m9 176 rfl) rfl
theorem q2160 : (Jvm.Cond.code ({ cls := "BrushSellersModel", name := "carries", desc := "()I" } : Jvm.MethodName) prog_12_method_53_code (1 : Nat) (Option.some Jvm.ClassFile.FieldType.int)) ∈ lw_all := lw_g (lw_at lw_m9 177 rfl) rfl
theorem q2161 : (Jvm.Cond.methodLink "BrushSellersModel" (207 : Nat) ({ cls := "BrushSellersModel", name := "comesBack", desc := "()V" } : Jvm.MethodName)) ∈ lw_all := lw_g (lw_at lw_m9 178 rfl) rfl
theorem q2162 : (Jvm.Cond.privateMethod ({ cls := "BrushSellersModel", name := "comesBack", desc := "()V" } : Jvm.MethodName)) ∈ lw_tbl := lw_at lw_m9 179 rfl
theorem q2163 : (Jvm.Cond.instanceMethod ({ cls := "BrushSellersModel", name := "comesBack", desc := "()V" } : Jvm.MethodName)) ∈ lw_all := lw_g (lw_at lw_m9 180 rfl) rfl
theorem q2164 : (Jvm.Cond.code ({ cls := "BrushSellersModel", name := "comesBack", desc := "()V" } : Jvm.MethodName) prog_12_method_4_code (2 : Nat) (Option.none : Option Jvm.ClassFile.FieldType)) ∈ lw_all := lw_g (lw_at lw_m9 181 rfl) rfl
theorem q2166 : (Jvm.Cond.instanceMethod ({ cls := "BrushSellersModel", name := "tell", desc := "(I)I" } : Jvm.MethodName)) ∈ lw_all := lw_g (lw_at lw_m9 183 rfl) rfl
theorem q2167 : (Jvm.Cond.selects "BrushSellersModel" ({ cls := "BrushSellersModel", name := "tell", desc := "(I)I" } : Jvm.MethodName) ({ cls := "BrushSellersModel", name := "tell", desc := "(I)I" } : Jvm.MethodName)) ∈ lw_all := lw_g (lw_at lw_m9 184 rfl) rfl
theorem q2168 : (Jvm.Cond.code ({ cls := "BrushSellersModel", name := "tell", desc := "(I)I" } : Jvm.MethodName) prog_12_method_57_code (2 : Nat) (Option.some Jvm.ClassFile.FieldType.int)) ∈ lw_all := lw_g (lw_at lw_m9 185 rfl) rfl
theorem q2169 : (Jvm.Cond.stringRef "BrushSellersModel" (217 : Nat) "@") ∈ lw_tbl := lw_at lw_m9 186 rfl
theorem q2170 : (Jvm.Cond.methodLink "BrushSellersModel" (219 : Nat) ({ cls := "BrushSellersModel", name := "writes", desc := "(Ljava/lang/String;)V" } : Jvm.MethodName)) ∈ lw_all := lw_g (lw_at lw_m9 187 rfl) rfl
theorem q2171 : (Jvm.Cond.privateMethod ({ cls := "BrushSellersModel", name := "writes", desc := "(Ljava/lang/String;)V" } : Jvm.MethodName)) ∈ lw_tbl := lw_at lw_m9 188 rfl
theorem q2172 : (Jvm.Cond.instanceMethod ({ cls := "BrushSellersModel", name := "writes", desc := "(Ljava/lang/String;)V" } : Jvm.MethodName)) ∈ lw_all := lw_g (lw_at lw_m9 189 rfl) rfl
theorem q2173 : (Jvm.Cond.code ({ cls := "BrushSellersModel", name := "writes", desc := "(Ljava/lang/String;)V" } : Jvm.MethodName) prog_12_method_55_code (3 : Nat) (Option.none : Option Jvm.ClassFile.FieldType)) ∈ lw_all := lw_g (lw_at lw_m9 190 rfl) rfl
theorem q2174 : (Jvm.Cond.methodLink "BrushSellersModel" (213 : Nat) ({ cls := "BrushSellersModel", name := "writesNumber", desc := "(I)V" } : Jvm.MethodName)) ∈ lw_all := lw_g (lw_at lw_m9 191 rfl) rfl
theorem q2175 : (Jvm.Cond.privateMethod ({ cls := "BrushSellersModel", name := "writesNumber", desc := "(I)V" } : Jvm.MethodName)) ∈ lw_tbl := lw_at lw_m9 192 rfl
theorem q2176 : (Jvm.Cond.instanceMethod ({ cls := "BrushSellersModel", name := "writesNumber", desc := "(I)V" } : Jvm.MethodName)) ∈ lw_all := lw_g (lw_at lw_m9 193 rfl) rfl
theorem q2177 : (Jvm.Cond.code ({ cls := "BrushSellersModel", name := "writesNumber", desc := "(I)V" } : Jvm.MethodName) prog_12_method_56_code (2 : Nat) (Option.none : Option Jvm.ClassFile.FieldType)) ∈ lw_all := lw_g (lw_at lw_m9 194 rfl) rfl
theorem q2178 : (Jvm.Cond.stringRef "BrushSellersModel" (223 : Nat) " h") ∈ lw_tbl := lw_at lw_m9 195 rfl
theorem q2179 : (Jvm.Cond.stringRef "BrushSellersModel" (225 : Nat) " o") ∈ lw_tbl := lw_at lw_m9 196 rfl
theorem q2180 : (Jvm.Cond.stringRef "BrushSellersModel" (227 : Nat) " w") ∈ lw_tbl := lw_at lw_m9 197 rfl
theorem q2181 : (Jvm.Cond.stringRef "BrushSellersModel" (229 : Nat) " ~") ∈ lw_tbl := lw_at lw_m9 198 rfl
theorem q2183 : (Jvm.Cond.instanceMethod ({ cls := "BrushSellersModel", name := "tellStreet", desc := "()I" } : Jvm.MethodName)) ∈ lw_all := lw_g (lw_at lw_m9 200 rfl) rfl
theorem q2184 : (Jvm.Cond.selects "BrushSellersModel" ({ cls := "BrushSellersModel", name := "tellStreet", desc := "()I" } : Jvm.MethodName) ({ cls := "BrushSellersModel", name := "tellStreet", desc := "()I" } : Jvm.MethodName)) ∈ lw_all := lw_g (lw_at lw_m9 201 rfl) rfl
theorem q2185 : (Jvm.Cond.code ({ cls := "BrushSellersModel", name := "tellStreet", desc := "()I" } : Jvm.MethodName) prog_12_method_58_code (2 : Nat) (Option.some Jvm.ClassFile.FieldType.int)) ∈ lw_all := lw_g (lw_at lw_m9 202 rfl) rfl
theorem q2186 : (Jvm.Cond.stringRef "BrushSellersModel" (231 : Nat) "!") ∈ lw_tbl := lw_at lw_m9 203 rfl
theorem q2187 : (Jvm.Cond.stringRef "BrushSellersModel" (233 : Nat) "d") ∈ lw_tbl := lw_at lw_m9 204 rfl
theorem q2189 : (Jvm.Cond.instanceMethod ({ cls := "BrushSellersModel", name := "character", desc := "(I)I" } : Jvm.MethodName)) ∈ lw_all := lw_g (lw_at lw_m9 206 rfl) rfl
theorem q2190 : (Jvm.Cond.selects "BrushSellersModel" ({ cls := "BrushSellersModel", name := "character", desc := "(I)I" } : Jvm.MethodName) ({ cls := "BrushSellersModel", name := "character", desc := "(I)I" } : Jvm.MethodName)) ∈ lw_all := lw_g (lw_at lw_m9 207 rfl) rfl
theorem q2191 : (Jvm.Cond.code ({ cls := "BrushSellersModel", name := "character", desc := "(I)I" } : Jvm.MethodName) prog_12_method_59_code (2 : Nat) (Option.some Jvm.ClassFile.FieldType.int)) ∈ lw_all := lw_g (lw_at lw_m9 208 rfl) rfl
theorem q2193 : (Jvm.Cond.instanceMethod ({ cls := "BrushSellersModel", name := "reason", desc := "(Z)I" } : Jvm.MethodName)) ∈ lw_all := lw_g (lw_at lw_m9 210 rfl) rfl
theorem q2194 : (Jvm.Cond.selects "BrushSellersModel" ({ cls := "BrushSellersModel", name := "reason", desc := "(Z)I" } : Jvm.MethodName) ({ cls := "BrushSellersModel", name := "reason", desc := "(Z)I" } : Jvm.MethodName)) ∈ lw_all := lw_g (lw_at lw_m9 211 rfl) rfl
theorem q2195 : (Jvm.Cond.code ({ cls := "BrushSellersModel", name := "reason", desc := "(Z)I" } : Jvm.MethodName) prog_12_method_60_code (2 : Nat) (Option.some Jvm.ClassFile.FieldType.int)) ∈ lw_all := lw_g (lw_at lw_m9 212 rfl) rfl
theorem q2197 : (Jvm.Cond.instanceMethod ({ cls := "BrushSellersModel", name := "account", desc := "(I)I" } : Jvm.MethodName)) ∈ lw_all := lw_g (lw_at lw_m9 214 rfl) rfl
theorem q2198 : (Jvm.Cond.selects "BrushSellersModel" ({ cls := "BrushSellersModel", name := "account", desc := "(I)I" } : Jvm.MethodName) ({ cls := "BrushSellersModel", name := "account", desc := "(I)I" } : Jvm.MethodName)) ∈ lw_all := lw_g (lw_at lw_m9 215 rfl) rfl
theorem q2199 : (Jvm.Cond.code ({ cls := "BrushSellersModel", name := "account", desc := "(I)I" } : Jvm.MethodName) prog_12_method_63_code (2 : Nat) (Option.some Jvm.ClassFile.FieldType.int)) ∈ lw_all := lw_g (lw_at lw_m9 216 rfl) rfl
theorem q2200 : (Jvm.Cond.methodLink "BrushSellersModel" (235 : Nat) ({ cls := "BrushSellersModel", name := "inDepot", desc := "()I" } : Jvm.MethodName)) ∈ lw_all := lw_g (lw_at lw_m9 217 rfl) rfl
theorem q2201 : (Jvm.Cond.privateMethod ({ cls := "BrushSellersModel", name := "inDepot", desc := "()I" } : Jvm.MethodName)) ∈ lw_tbl := lw_at lw_m9 218 rfl
theorem q2202 : (Jvm.Cond.instanceMethod ({ cls := "BrushSellersModel", name := "inDepot", desc := "()I" } : Jvm.MethodName)) ∈ lw_all := lw_g (lw_at lw_m9 219 rfl) rfl
theorem q2203 : (Jvm.Cond.code ({ cls := "BrushSellersModel", name := "inDepot", desc := "()I" } : Jvm.MethodName) prog_12_method_61_code (1 : Nat) (Option.some Jvm.ClassFile.FieldType.int)) ∈ lw_all := lw_g (lw_at lw_m9 220 rfl) rfl
theorem q2204 : (Jvm.Cond.methodLink "BrushSellersModel" (238 : Nat) ({ cls := "BrushSellersModel", name := "inCases", desc := "()I" } : Jvm.MethodName)) ∈ lw_all := lw_g (lw_at lw_m9 221 rfl) rfl
theorem q2205 : (Jvm.Cond.privateMethod ({ cls := "BrushSellersModel", name := "inCases", desc := "()I" } : Jvm.MethodName)) ∈ lw_tbl := lw_at lw_m9 222 rfl
theorem q2206 : (Jvm.Cond.instanceMethod ({ cls := "BrushSellersModel", name := "inCases", desc := "()I" } : Jvm.MethodName)) ∈ lw_all := lw_g (lw_at lw_m9 223 rfl) rfl
theorem q2207 : (Jvm.Cond.code ({ cls := "BrushSellersModel", name := "inCases", desc := "()I" } : Jvm.MethodName) prog_12_method_62_code (4 : Nat) (Option.some Jvm.ClassFile.FieldType.int)) ∈ lw_all := lw_g (lw_at lw_m9 224 rfl) rfl
theorem q2209 : (Jvm.Cond.instanceMethod ({ cls := "BrushSellersModel", name := "isBalanced", desc := "()I" } : Jvm.MethodName)) ∈ lw_all := lw_g (lw_at lw_m9 226 rfl) rfl
theorem q2210 : (Jvm.Cond.selects "BrushSellersModel" ({ cls := "BrushSellersModel", name := "isBalanced", desc := "()I" } : Jvm.MethodName) ({ cls := "BrushSellersModel", name := "isBalanced", desc := "()I" } : Jvm.MethodName)) ∈ lw_all := lw_g (lw_at lw_m9 227 rfl) rfl
theorem q2211 : (Jvm.Cond.code ({ cls := "BrushSellersModel", name := "isBalanced", desc := "()I" } : Jvm.MethodName) prog_12_method_64_code (2 : Nat) (Option.some Jvm.ClassFile.FieldType.int)) ∈ lw_all := lw_g (lw_at lw_m9 228 rfl) rfl
theorem q2213 : (Jvm.Cond.instanceMethod ({ cls := "BrushSellersModel", name := "meanTemper", desc := "()D" } : Jvm.MethodName)) ∈ lw_all := lw_g (lw_at lw_m9 230 rfl) rfl
theorem q2214 : (Jvm.Cond.selects "BrushSellersModel" ({ cls := "BrushSellersModel", name := "meanTemper", desc := "()D" } : Jvm.MethodName) ({ cls := "BrushSellersModel", name := "meanTemper", desc := "()D" } : Jvm.MethodName)) ∈ lw_all := lw_g (lw_at lw_m9 231 rfl) rfl
theorem q2215 : (Jvm.Cond.code ({ cls := "BrushSellersModel", name := "meanTemper", desc := "()D" } : Jvm.MethodName) prog_12_method_65_code (3 : Nat) (Option.some Jvm.ClassFile.FieldType.double)) ∈ lw_all := lw_g (lw_at lw_m9 232 rfl) rfl
theorem q2216 : (Jvm.Cond.constantDouble "BrushSellersModel" (241 : Nat) (4626322717216342016 : UInt64)) ∈ lw_all := lw_g (lw_at lw_m9 233 rfl) rfl
theorem q2218 : (Jvm.Cond.instanceMethod ({ cls := "BrushSellersModel", name := "backShare", desc := "()F" } : Jvm.MethodName)) ∈ lw_all := lw_g (lw_at lw_m9 235 rfl) rfl
theorem q2219 : (Jvm.Cond.selects "BrushSellersModel" ({ cls := "BrushSellersModel", name := "backShare", desc := "()F" } : Jvm.MethodName) ({ cls := "BrushSellersModel", name := "backShare", desc := "()F" } : Jvm.MethodName)) ∈ lw_all := lw_g (lw_at lw_m9 236 rfl) rfl
theorem q2220 : (Jvm.Cond.code ({ cls := "BrushSellersModel", name := "backShare", desc := "()F" } : Jvm.MethodName) prog_12_method_66_code (1 : Nat) (Option.some Jvm.ClassFile.FieldType.float)) ∈ lw_all := lw_g (lw_at lw_m9 237 rfl) rfl
theorem q2222 : (Jvm.Cond.instanceMethod ({ cls := "BrushSellersModel", name := "undo", desc := "()I" } : Jvm.MethodName)) ∈ lw_all := lw_g (lw_at lw_m9 239 rfl) rfl
theorem q2223 : (Jvm.Cond.selects "BrushSellersModel" ({ cls := "BrushSellersModel", name := "undo", desc := "()I" } : Jvm.MethodName) ({ cls := "BrushSellersModel", name := "undo", desc := "()I" } : Jvm.MethodName)) ∈ lw_all := lw_g (lw_at lw_m10 0 rfl) rfl
theorem q2224 : (Jvm.Cond.code ({ cls := "BrushSellersModel", name := "undo", desc := "()I" } : Jvm.MethodName) prog_12_method_67_code (2 : Nat) (Option.some Jvm.ClassFile.FieldType.int)) ∈ lw_all := lw_g (lw_at lw_m10 1 rfl) rfl
theorem q2226 : (Jvm.Cond.instanceMethod ({ cls := "BrushSellersModel", name := "save", desc := "()I" } : Jvm.MethodName)) ∈ lw_all := lw_g (lw_at lw_m10 3 rfl) rfl
theorem q2227 : (Jvm.Cond.selects "BrushSellersModel" ({ cls := "BrushSellersModel", name := "save", desc := "()I" } : Jvm.MethodName) ({ cls := "BrushSellersModel", name := "save", desc := "()I" } : Jvm.MethodName)) ∈ lw_all := lw_g (lw_at lw_m10 4 rfl) rfl
theorem q2228 : (Jvm.Cond.code ({ cls := "BrushSellersModel", name := "save", desc := "()I" } : Jvm.MethodName) prog_12_method_68_code (2 : Nat) (Option.some Jvm.ClassFile.FieldType.int)) ∈ lw_all := lw_g (lw_at lw_m10 5 rfl) rfl
theorem q2230 : (Jvm.Cond.instanceMethod ({ cls := "BrushSellersModel", name := "restore", desc := "()I" } : Jvm.MethodName)) ∈ lw_all := lw_g (lw_at lw_m10 7 rfl) rfl
theorem q2231 : (Jvm.Cond.selects "BrushSellersModel" ({ cls := "BrushSellersModel", name := "restore", desc := "()I" } : Jvm.MethodName) ({ cls := "BrushSellersModel", name := "restore", desc := "()I" } : Jvm.MethodName)) ∈ lw_all := lw_g (lw_at lw_m10 8 rfl) rfl
theorem q2232 : (Jvm.Cond.code ({ cls := "BrushSellersModel", name := "restore", desc := "()I" } : Jvm.MethodName) prog_12_method_69_code (2 : Nat) (Option.some Jvm.ClassFile.FieldType.int)) ∈ lw_all := lw_g (lw_at lw_m10 9 rfl) rfl
theorem q2261 : (Jvm.Cond.castable "BrushSellersModel" "java/lang/Object") ∈ lw_tbl := lw_at lw_m10 38 rfl
theorem in_X3 : ∀ w ∈ wsX30, w ∈ lw_all := lw_in wsX30 [1906, 1908, 1910, 1912, 1914, 1916, 1918, 1920, 1922, 1924, 1926, 1928, 1930, 1932, 1934, 1936] (by decide +kernel) (by decide +kernel)

/-! the law's own entry -/
set_option maxRecDepth 100000
abbrev cL_law : ByteArray := code
def dkwL_law_40 : List UInt8 := [4, 172]
abbrev dktL_law_40 : List UInt8 := dkwL_law_40 ++ []
def dkwL_law_39 : List UInt8 := [159, 0, 18, 3, 172, 43, 182, 0, 141, 44, 182, 0, 144, 159, 0, 5, 3, 172, 132, 3, 5, 167, 252, 0]
abbrev dktL_law_39 : List UInt8 := dkwL_law_39 ++ dktL_law_40
def dkwL_law_38 : List UInt8 := [167, 0, 42, 43, 182, 0, 133, 44, 182, 0, 136, 159, 0, 31, 3, 172, 43, 182, 0, 137, 44, 182, 0, 140]
abbrev dktL_law_38 : List UInt8 := dkwL_law_38 ++ dktL_law_39
def dkwL_law_37 : List UInt8 := [24, 6, 151, 153, 0, 21, 24, 4, 24, 4, 151, 153, 0, 11, 24, 6, 24, 6, 151, 154, 0, 5, 3, 172]
abbrev dktL_law_37 : List UInt8 := dkwL_law_37 ++ dktL_law_38
def dkwL_law_36 : List UInt8 := [154, 0, 5, 3, 172, 167, 0, 85, 43, 182, 0, 128, 141, 57, 4, 44, 182, 0, 132, 141, 57, 6, 24, 4]
abbrev dktL_law_36 : List UInt8 := dkwL_law_36 ++ dktL_law_37
def dkwL_law_35 : List UInt8 := [57, 6, 24, 4, 24, 6, 151, 153, 0, 21, 24, 4, 24, 4, 151, 153, 0, 11, 24, 6, 24, 6, 151]
abbrev dktL_law_35 : List UInt8 := dkwL_law_35 ++ dktL_law_36
def dkwL_law_34 : List UInt8 := [43, 182, 0, 119, 44, 182, 0, 122, 159, 0, 128, 3, 172, 43, 182, 0, 123, 57, 4, 44, 182, 0, 127]
abbrev dktL_law_34 : List UInt8 := dkwL_law_34 ++ dktL_law_35
def dkwL_law_33 : List UInt8 := [172, 43, 42, 29, 4, 96, 46, 182, 0, 115, 44, 42, 29, 4, 96, 46, 182, 0, 118, 159, 0, 141, 3, 172]
abbrev dktL_law_33 : List UInt8 := dkwL_law_33 ++ dktL_law_34
def dkwL_law_32 : List UInt8 := [182, 0, 110, 44, 42, 29, 4, 96, 46, 153, 0, 7, 4, 167, 0, 4, 3, 182, 0, 114, 159, 0, 164, 3]
abbrev dktL_law_32 : List UInt8 := dkwL_law_32 ++ dktL_law_33
def dkwL_law_31 : List UInt8 := [182, 0, 109, 159, 0, 203, 3, 172, 43, 42, 29, 4, 96, 46, 153, 0, 7, 4, 167, 0, 4, 3]
abbrev dktL_law_31 : List UInt8 := dkwL_law_31 ++ dktL_law_32
def dkwL_law_30 : List UInt8 := [44, 182, 0, 105, 159, 0, 226, 3, 172, 43, 42, 29, 4, 96, 46, 182, 0, 106, 44, 42, 29, 4, 96, 46]
abbrev dktL_law_30 : List UInt8 := dkwL_law_30 ++ dktL_law_31
def dkwL_law_29 : List UInt8 := [4, 96, 46, 182, 0, 98, 44, 42, 29, 4, 96, 46, 182, 0, 101, 159, 0, 239, 3, 172, 43, 182, 0, 102]
abbrev dktL_law_29 : List UInt8 := dkwL_law_29 ++ dktL_law_30
def dkwL_law_28 : List UInt8 := [182, 0, 93, 159, 1, 19, 3, 172, 43, 182, 0, 94, 44, 182, 0, 97, 159, 1, 6, 3, 172, 43, 42, 29]
abbrev dktL_law_28 : List UInt8 := dkwL_law_28 ++ dktL_law_29
def dkwL_law_27 : List UInt8 := [182, 0, 89, 159, 1, 42, 3, 172, 43, 42, 29, 4, 96, 46, 182, 0, 90, 44, 42, 29, 4, 96, 46]
abbrev dktL_law_27 : List UInt8 := dkwL_law_27 ++ dktL_law_28
def dkwL_law_26 : List UInt8 := [29, 4, 96, 46, 42, 29, 5, 96, 46, 182, 0, 84, 159, 1, 55, 3, 172, 43, 182, 0, 85, 44]
abbrev dktL_law_26 : List UInt8 := dkwL_law_26 ++ dktL_law_27
def dkwL_law_25 : List UInt8 := [182, 0, 80, 159, 1, 88, 3, 172, 43, 42, 29, 4, 96, 46, 42, 29, 5, 96, 46, 182, 0, 81, 44, 42]
abbrev dktL_law_25 : List UInt8 := dkwL_law_25 ++ dktL_law_26
def dkwL_law_24 : List UInt8 := [182, 0, 76, 159, 1, 111, 3, 172, 43, 42, 29, 4, 96, 46, 182, 0, 77, 44, 42, 29, 4, 96, 46]
abbrev dktL_law_24 : List UInt8 := dkwL_law_24 ++ dktL_law_25
def dkwL_law_23 : List UInt8 := [6, 96, 46, 182, 0, 73, 44, 42, 29, 4, 96, 46, 42, 29, 5, 96, 46, 42, 29, 6, 96, 46]
abbrev dktL_law_23 : List UInt8 := dkwL_law_23 ++ dktL_law_24
def dkwL_law_22 : List UInt8 := [6, 96, 46, 182, 0, 72, 159, 1, 154, 3, 172, 43, 42, 29, 4, 96, 46, 42, 29, 5, 96, 46, 42, 29]
abbrev dktL_law_22 : List UInt8 := dkwL_law_22 ++ dktL_law_23
def dkwL_law_21 : List UInt8 := [5, 96, 46, 42, 29, 6, 96, 46, 182, 0, 69, 44, 42, 29, 4, 96, 46, 42, 29, 5, 96, 46, 42, 29]
abbrev dktL_law_21 : List UInt8 := dkwL_law_21 ++ dktL_law_22
def dkwL_law_20 : List UInt8 := [6, 96, 46, 42, 29, 7, 96, 46, 182, 0, 68, 159, 1, 197, 3, 172, 43, 42, 29, 4, 96, 46, 42, 29]
abbrev dktL_law_20 : List UInt8 := dkwL_law_20 ++ dktL_law_21
def dkwL_law_19 : List UInt8 := [6, 96, 46, 42, 29, 7, 96, 46, 182, 0, 64, 44, 42, 29, 4, 96, 46, 42, 29, 5, 96, 46, 42, 29]
abbrev dktL_law_19 : List UInt8 := dkwL_law_19 ++ dktL_law_20
def dkwL_law_18 : List UInt8 := [5, 96, 46, 182, 0, 63, 159, 1, 250, 3, 172, 43, 42, 29, 4, 96, 46, 42, 29, 5, 96, 46, 42, 29]
abbrev dktL_law_18 : List UInt8 := dkwL_law_18 ++ dktL_law_19
def dkwL_law_17 : List UInt8 := [3, 172, 43, 42, 29, 4, 96, 46, 42, 29, 5, 96, 46, 182, 0, 60, 44, 42, 29, 4, 96, 46, 42, 29]
abbrev dktL_law_17 : List UInt8 := dkwL_law_17 ++ dktL_law_18
def dkwL_law_16 : List UInt8 := [29, 5, 96, 46, 182, 0, 56, 44, 42, 29, 4, 96, 46, 42, 29, 5, 96, 46, 182, 0, 59, 159, 2, 27]
abbrev dktL_law_16 : List UInt8 := dkwL_law_16 ++ dktL_law_17
def dkwL_law_15 : List UInt8 := [182, 0, 52, 44, 42, 29, 4, 96, 46, 182, 0, 55, 159, 2, 60, 3, 172, 43, 42, 29, 4, 96, 46, 42]
abbrev dktL_law_15 : List UInt8 := dkwL_law_15 ++ dktL_law_16
def dkwL_law_14 : List UInt8 := [182, 0, 48, 44, 42, 29, 4, 96, 46, 182, 0, 51, 159, 2, 83, 3, 172, 43, 42, 29, 4, 96, 46]
abbrev dktL_law_14 : List UInt8 := dkwL_law_14 ++ dktL_law_15
def dkwL_law_13 : List UInt8 := [29, 4, 96, 46, 42, 29, 5, 96, 46, 182, 0, 47, 159, 2, 106, 3, 172, 43, 42, 29, 4, 96, 46]
abbrev dktL_law_13 : List UInt8 := dkwL_law_13 ++ dktL_law_14
def dkwL_law_12 : List UInt8 := [182, 0, 43, 159, 2, 139, 3, 172, 43, 42, 29, 4, 96, 46, 42, 29, 5, 96, 46, 182, 0, 44, 44, 42]
abbrev dktL_law_12 : List UInt8 := dkwL_law_12 ++ dktL_law_13
def dkwL_law_11 : List UInt8 := [182, 0, 39, 159, 2, 162, 3, 172, 43, 42, 29, 4, 96, 46, 182, 0, 40, 44, 42, 29, 4, 96, 46]
abbrev dktL_law_11 : List UInt8 := dkwL_law_11 ++ dktL_law_12
def dkwL_law_10 : List UInt8 := [29, 4, 96, 46, 42, 29, 5, 96, 46, 182, 0, 36, 44, 42, 29, 4, 96, 46, 42, 29, 5, 96, 46]
abbrev dktL_law_10 : List UInt8 := dkwL_law_10 ++ dktL_law_11
def dkwL_law_9 : List UInt8 := [182, 0, 32, 44, 42, 29, 4, 96, 46, 42, 29, 5, 96, 46, 182, 0, 35, 159, 2, 195, 3, 172, 43, 42]
abbrev dktL_law_9 : List UInt8 := dkwL_law_9 ++ dktL_law_10
def dkwL_law_8 : List UInt8 := [29, 6, 96, 46, 182, 0, 31, 159, 2, 228, 3, 172, 43, 42, 29, 4, 96, 46, 42, 29, 5, 96, 46]
abbrev dktL_law_8 : List UInt8 := dkwL_law_8 ++ dktL_law_9
def dkwL_law_7 : List UInt8 := [29, 5, 96, 46, 42, 29, 6, 96, 46, 182, 0, 27, 44, 42, 29, 4, 96, 46, 42, 29, 5, 96, 46, 42]
abbrev dktL_law_7 : List UInt8 := dkwL_law_7 ++ dktL_law_8
def dkwL_law_6 : List UInt8 := [29, 4, 96, 46, 42, 29, 5, 96, 46, 182, 0, 26, 159, 3, 15, 3, 172, 43, 42, 29, 4, 96, 46, 42]
abbrev dktL_law_6 : List UInt8 := dkwL_law_6 ++ dktL_law_7
def dkwL_law_5 : List UInt8 := [182, 0, 22, 159, 3, 48, 3, 172, 43, 42, 29, 4, 96, 46, 42, 29, 5, 96, 46, 182, 0, 23, 44, 42]
abbrev dktL_law_5 : List UInt8 := dkwL_law_5 ++ dktL_law_6
def dkwL_law_4 : List UInt8 := [42, 29, 4, 96, 46, 42, 29, 5, 96, 46, 182, 0, 18, 44, 42, 29, 4, 96, 46, 42, 29, 5, 96, 46]
abbrev dktL_law_4 : List UInt8 := dkwL_law_4 ++ dktL_law_5
def dkwL_law_3 : List UInt8 := [43, 42, 29, 4, 96, 46, 182, 0, 13, 44, 42, 29, 4, 96, 46, 182, 0, 17, 159, 3, 81, 3, 172, 43]
abbrev dktL_law_3 : List UInt8 := dkwL_law_3 ++ dktL_law_4
def dkwL_law_2 : List UInt8 := [170, 0, 0, 0, 0, 0, 3, 239, 0, 0, 0, 0, 0, 0, 0, 30, 0, 0, 0, 140, 0, 0, 0, 163, 0, 0, 0, 196, 0, 0, 0, 229, 0, 0, 1, 16, 0, 0, 1, 49, 0, 0, 1, 82, 0, 0, 1, 105, 0, 0, 1, 138, 0, 0, 1, 161, 0, 0, 1, 184, 0, 0, 1, 217, 0, 0, 1, 250, 0, 0, 2, 47, 0, 0, 2, 90, 0, 0, 2, 133, 0, 0, 2, 156, 0, 0, 2, 189, 0, 0, 2, 202, 0, 0, 2, 225, 0, 0, 2, 238, 0, 0, 3, 5, 0, 0, 3, 18, 0, 0, 3, 41, 0, 0, 3, 80, 0, 0, 3, 103, 0, 0, 3, 116, 0, 0, 3, 157, 0, 0, 3, 200, 0, 0, 3, 213, 0, 0, 3, 226]
abbrev dktL_law_2 : List UInt8 := dkwL_law_2 ++ dktL_law_3
def dkwL_law_1 : List UInt8 := [163, 3, 254, 42, 29, 46, 16, 31, 126]
abbrev dktL_law_1 : List UInt8 := dkwL_law_1 ++ dktL_law_2
def dkwL_law_0 : List UInt8 := [187, 0, 7, 89, 183, 0, 9, 76, 187, 0, 10, 89, 183, 0, 12, 77, 3, 62, 29, 42, 190, 8, 100]
abbrev dktL_law_0 : List UInt8 := dkwL_law_0 ++ dktL_law_1
theorem dksL_law_0 : cL_law.data.toList.drop 0 = dktL_law_0 := by decide +kernel
theorem dksL_law_1 : cL_law.data.toList.drop 23 = dktL_law_1 := dk_seg dksL_law_0 23 rfl rfl
theorem dksL_law_2 : cL_law.data.toList.drop 32 = dktL_law_2 := dk_seg dksL_law_1 9 rfl rfl
theorem dksL_law_3 : cL_law.data.toList.drop 172 = dktL_law_3 := dk_seg dksL_law_2 140 rfl rfl
theorem dksL_law_4 : cL_law.data.toList.drop 196 = dktL_law_4 := dk_seg dksL_law_3 24 rfl rfl
theorem dksL_law_5 : cL_law.data.toList.drop 220 = dktL_law_5 := dk_seg dksL_law_4 24 rfl rfl
theorem dksL_law_6 : cL_law.data.toList.drop 244 = dktL_law_6 := dk_seg dksL_law_5 24 rfl rfl
theorem dksL_law_7 : cL_law.data.toList.drop 268 = dktL_law_7 := dk_seg dksL_law_6 24 rfl rfl
theorem dksL_law_8 : cL_law.data.toList.drop 292 = dktL_law_8 := dk_seg dksL_law_7 24 rfl rfl
theorem dksL_law_9 : cL_law.data.toList.drop 315 = dktL_law_9 := dk_seg dksL_law_8 23 rfl rfl
theorem dksL_law_10 : cL_law.data.toList.drop 339 = dktL_law_10 := dk_seg dksL_law_9 24 rfl rfl
theorem dksL_law_11 : cL_law.data.toList.drop 362 = dktL_law_11 := dk_seg dksL_law_10 23 rfl rfl
theorem dksL_law_12 : cL_law.data.toList.drop 385 = dktL_law_12 := dk_seg dksL_law_11 23 rfl rfl
theorem dksL_law_13 : cL_law.data.toList.drop 409 = dktL_law_13 := dk_seg dksL_law_12 24 rfl rfl
theorem dksL_law_14 : cL_law.data.toList.drop 432 = dktL_law_14 := dk_seg dksL_law_13 23 rfl rfl
theorem dksL_law_15 : cL_law.data.toList.drop 455 = dktL_law_15 := dk_seg dksL_law_14 23 rfl rfl
theorem dksL_law_16 : cL_law.data.toList.drop 479 = dktL_law_16 := dk_seg dksL_law_15 24 rfl rfl
theorem dksL_law_17 : cL_law.data.toList.drop 503 = dktL_law_17 := dk_seg dksL_law_16 24 rfl rfl
theorem dksL_law_18 : cL_law.data.toList.drop 527 = dktL_law_18 := dk_seg dksL_law_17 24 rfl rfl
theorem dksL_law_19 : cL_law.data.toList.drop 551 = dktL_law_19 := dk_seg dksL_law_18 24 rfl rfl
theorem dksL_law_20 : cL_law.data.toList.drop 575 = dktL_law_20 := dk_seg dksL_law_19 24 rfl rfl
theorem dksL_law_21 : cL_law.data.toList.drop 599 = dktL_law_21 := dk_seg dksL_law_20 24 rfl rfl
theorem dksL_law_22 : cL_law.data.toList.drop 623 = dktL_law_22 := dk_seg dksL_law_21 24 rfl rfl
theorem dksL_law_23 : cL_law.data.toList.drop 647 = dktL_law_23 := dk_seg dksL_law_22 24 rfl rfl
theorem dksL_law_24 : cL_law.data.toList.drop 669 = dktL_law_24 := dk_seg dksL_law_23 22 rfl rfl
theorem dksL_law_25 : cL_law.data.toList.drop 692 = dktL_law_25 := dk_seg dksL_law_24 23 rfl rfl
theorem dksL_law_26 : cL_law.data.toList.drop 716 = dktL_law_26 := dk_seg dksL_law_25 24 rfl rfl
theorem dksL_law_27 : cL_law.data.toList.drop 738 = dktL_law_27 := dk_seg dksL_law_26 22 rfl rfl
theorem dksL_law_28 : cL_law.data.toList.drop 761 = dktL_law_28 := dk_seg dksL_law_27 23 rfl rfl
theorem dksL_law_29 : cL_law.data.toList.drop 785 = dktL_law_29 := dk_seg dksL_law_28 24 rfl rfl
theorem dksL_law_30 : cL_law.data.toList.drop 809 = dktL_law_30 := dk_seg dksL_law_29 24 rfl rfl
theorem dksL_law_31 : cL_law.data.toList.drop 833 = dktL_law_31 := dk_seg dksL_law_30 24 rfl rfl
theorem dksL_law_32 : cL_law.data.toList.drop 855 = dktL_law_32 := dk_seg dksL_law_31 22 rfl rfl
theorem dksL_law_33 : cL_law.data.toList.drop 879 = dktL_law_33 := dk_seg dksL_law_32 24 rfl rfl
theorem dksL_law_34 : cL_law.data.toList.drop 903 = dktL_law_34 := dk_seg dksL_law_33 24 rfl rfl
theorem dksL_law_35 : cL_law.data.toList.drop 926 = dktL_law_35 := dk_seg dksL_law_34 23 rfl rfl
theorem dksL_law_36 : cL_law.data.toList.drop 949 = dktL_law_36 := dk_seg dksL_law_35 23 rfl rfl
theorem dksL_law_37 : cL_law.data.toList.drop 973 = dktL_law_37 := dk_seg dksL_law_36 24 rfl rfl
theorem dksL_law_38 : cL_law.data.toList.drop 997 = dktL_law_38 := dk_seg dksL_law_37 24 rfl rfl
theorem dksL_law_39 : cL_law.data.toList.drop 1021 = dktL_law_39 := dk_seg dksL_law_38 24 rfl rfl
theorem dksL_law_40 : cL_law.data.toList.drop 1045 = dktL_law_40 := dk_seg dksL_law_39 24 rfl rfl
theorem dL_law_0 : decode cL_law 0 = .ok (.new 7, 3) := dk_187 0 7 (dk_at dksL_law_0 0 rfl rfl)
theorem dL_law_3 : decode cL_law 3 = .ok (.dup, 1) := dk_89 (dk_at dksL_law_0 3 rfl rfl)
theorem dL_law_4 : decode cL_law 4 = .ok (.invokespecial 9, 3) := dk_183 0 9 (dk_at dksL_law_0 4 rfl rfl)
theorem dL_law_7 : decode cL_law 7 = .ok (.astore_n 1, 1) := dk_76 (dk_at dksL_law_0 7 rfl rfl)
theorem dL_law_8 : decode cL_law 8 = .ok (.new 10, 3) := dk_187 0 10 (dk_at dksL_law_0 8 rfl rfl)
theorem dL_law_11 : decode cL_law 11 = .ok (.dup, 1) := dk_89 (dk_at dksL_law_0 11 rfl rfl)
theorem dL_law_12 : decode cL_law 12 = .ok (.invokespecial 12, 3) := dk_183 0 12 (dk_at dksL_law_0 12 rfl rfl)
theorem dL_law_15 : decode cL_law 15 = .ok (.astore_n 2, 1) := dk_77 (dk_at dksL_law_0 15 rfl rfl)
theorem dL_law_16 : decode cL_law 16 = .ok (.iconst 0, 1) := dk_3 (dk_at dksL_law_0 16 rfl rfl)
theorem dL_law_17 : decode cL_law 17 = .ok (.istore_n 3, 1) := dk_62 (dk_at dksL_law_0 17 rfl rfl)
theorem dL_law_18 : decode cL_law 18 = .ok (.iload_n 3, 1) := dk_29 (dk_at dksL_law_0 18 rfl rfl)
theorem dL_law_19 : decode cL_law 19 = .ok (.aload_n 0, 1) := dk_42 (dk_at dksL_law_0 19 rfl rfl)
theorem dL_law_20 : decode cL_law 20 = .ok (.arraylength, 1) := dk_190 (dk_at dksL_law_0 20 rfl rfl)
theorem dL_law_21 : decode cL_law 21 = .ok (.iconst 5, 1) := dk_8 (dk_at dksL_law_0 21 rfl rfl)
theorem dL_law_22 : decode cL_law 22 = .ok (.isub, 1) := dk_100 (dk_at dksL_law_0 22 rfl rfl)
theorem dL_law_23 : decode cL_law 23 = .ok (.if_icmp .gt 1022, 3) := dk_163 3 254 (dk_at dksL_law_1 0 rfl rfl)
theorem dL_law_26 : decode cL_law 26 = .ok (.aload_n 0, 1) := dk_42 (dk_at dksL_law_1 3 rfl rfl)
theorem dL_law_27 : decode cL_law 27 = .ok (.iload_n 3, 1) := dk_29 (dk_at dksL_law_1 4 rfl rfl)
theorem dL_law_28 : decode cL_law 28 = .ok (.iaload, 1) := dk_46 (dk_at dksL_law_1 5 rfl rfl)
theorem dL_law_29 : decode cL_law 29 = .ok (.bipush 31, 2) := dk_16 31 (dk_at dksL_law_1 6 rfl rfl)
theorem dL_law_31 : decode cL_law 31 = .ok (.iand, 1) := dk_126 (dk_at dksL_law_1 8 rfl rfl)
theorem dL_law_32 : decode cL_law 32 = .ok (.tableswitch 1007 0 30 #[140, 163, 196, 229, 272, 305, 338, 361, 394, 417, 440, 473, 506, 559, 602, 645, 668, 701, 714, 737, 750, 773, 786, 809, 848, 871, 884, 925, 968, 981, 994], 140) := by decide +kernel
theorem dL_law_172 : decode cL_law 172 = .ok (.aload_n 1, 1) := dk_43 (dk_at dksL_law_3 0 rfl rfl)
theorem dL_law_173 : decode cL_law 173 = .ok (.aload_n 0, 1) := dk_42 (dk_at dksL_law_3 1 rfl rfl)
theorem dL_law_174 : decode cL_law 174 = .ok (.iload_n 3, 1) := dk_29 (dk_at dksL_law_3 2 rfl rfl)
theorem dL_law_175 : decode cL_law 175 = .ok (.iconst 1, 1) := dk_4 (dk_at dksL_law_3 3 rfl rfl)
theorem dL_law_176 : decode cL_law 176 = .ok (.iadd, 1) := dk_96 (dk_at dksL_law_3 4 rfl rfl)
theorem dL_law_177 : decode cL_law 177 = .ok (.iaload, 1) := dk_46 (dk_at dksL_law_3 5 rfl rfl)
theorem dL_law_178 : decode cL_law 178 = .ok (.invokevirtual 13, 3) := dk_182 0 13 (dk_at dksL_law_3 6 rfl rfl)
theorem dL_law_181 : decode cL_law 181 = .ok (.aload_n 2, 1) := dk_44 (dk_at dksL_law_3 9 rfl rfl)
theorem dL_law_182 : decode cL_law 182 = .ok (.aload_n 0, 1) := dk_42 (dk_at dksL_law_3 10 rfl rfl)
theorem dL_law_183 : decode cL_law 183 = .ok (.iload_n 3, 1) := dk_29 (dk_at dksL_law_3 11 rfl rfl)
theorem dL_law_184 : decode cL_law 184 = .ok (.iconst 1, 1) := dk_4 (dk_at dksL_law_3 12 rfl rfl)
theorem dL_law_185 : decode cL_law 185 = .ok (.iadd, 1) := dk_96 (dk_at dksL_law_3 13 rfl rfl)
theorem dL_law_186 : decode cL_law 186 = .ok (.iaload, 1) := dk_46 (dk_at dksL_law_3 14 rfl rfl)
theorem dL_law_187 : decode cL_law 187 = .ok (.invokevirtual 17, 3) := dk_182 0 17 (dk_at dksL_law_3 15 rfl rfl)
theorem dL_law_190 : decode cL_law 190 = .ok (.if_icmp .eq 849, 3) := dk_159 3 81 (dk_at dksL_law_3 18 rfl rfl)
theorem dL_law_193 : decode cL_law 193 = .ok (.iconst 0, 1) := dk_3 (dk_at dksL_law_3 21 rfl rfl)
theorem dL_law_194 : decode cL_law 194 = .ok (.ireturn, 1) := dk_172 (dk_at dksL_law_3 22 rfl rfl)
theorem dL_law_195 : decode cL_law 195 = .ok (.aload_n 1, 1) := dk_43 (dk_at dksL_law_3 23 rfl rfl)
theorem dL_law_196 : decode cL_law 196 = .ok (.aload_n 0, 1) := dk_42 (dk_at dksL_law_4 0 rfl rfl)
theorem dL_law_197 : decode cL_law 197 = .ok (.iload_n 3, 1) := dk_29 (dk_at dksL_law_4 1 rfl rfl)
theorem dL_law_198 : decode cL_law 198 = .ok (.iconst 1, 1) := dk_4 (dk_at dksL_law_4 2 rfl rfl)
theorem dL_law_199 : decode cL_law 199 = .ok (.iadd, 1) := dk_96 (dk_at dksL_law_4 3 rfl rfl)
theorem dL_law_200 : decode cL_law 200 = .ok (.iaload, 1) := dk_46 (dk_at dksL_law_4 4 rfl rfl)
theorem dL_law_201 : decode cL_law 201 = .ok (.aload_n 0, 1) := dk_42 (dk_at dksL_law_4 5 rfl rfl)
theorem dL_law_202 : decode cL_law 202 = .ok (.iload_n 3, 1) := dk_29 (dk_at dksL_law_4 6 rfl rfl)
theorem dL_law_203 : decode cL_law 203 = .ok (.iconst 2, 1) := dk_5 (dk_at dksL_law_4 7 rfl rfl)
theorem dL_law_204 : decode cL_law 204 = .ok (.iadd, 1) := dk_96 (dk_at dksL_law_4 8 rfl rfl)
theorem dL_law_205 : decode cL_law 205 = .ok (.iaload, 1) := dk_46 (dk_at dksL_law_4 9 rfl rfl)
theorem dL_law_206 : decode cL_law 206 = .ok (.invokevirtual 18, 3) := dk_182 0 18 (dk_at dksL_law_4 10 rfl rfl)
theorem dL_law_209 : decode cL_law 209 = .ok (.aload_n 2, 1) := dk_44 (dk_at dksL_law_4 13 rfl rfl)
theorem dL_law_210 : decode cL_law 210 = .ok (.aload_n 0, 1) := dk_42 (dk_at dksL_law_4 14 rfl rfl)
theorem dL_law_211 : decode cL_law 211 = .ok (.iload_n 3, 1) := dk_29 (dk_at dksL_law_4 15 rfl rfl)
theorem dL_law_212 : decode cL_law 212 = .ok (.iconst 1, 1) := dk_4 (dk_at dksL_law_4 16 rfl rfl)
theorem dL_law_213 : decode cL_law 213 = .ok (.iadd, 1) := dk_96 (dk_at dksL_law_4 17 rfl rfl)
theorem dL_law_214 : decode cL_law 214 = .ok (.iaload, 1) := dk_46 (dk_at dksL_law_4 18 rfl rfl)
theorem dL_law_215 : decode cL_law 215 = .ok (.aload_n 0, 1) := dk_42 (dk_at dksL_law_4 19 rfl rfl)
theorem dL_law_216 : decode cL_law 216 = .ok (.iload_n 3, 1) := dk_29 (dk_at dksL_law_4 20 rfl rfl)
theorem dL_law_217 : decode cL_law 217 = .ok (.iconst 2, 1) := dk_5 (dk_at dksL_law_4 21 rfl rfl)
theorem dL_law_218 : decode cL_law 218 = .ok (.iadd, 1) := dk_96 (dk_at dksL_law_4 22 rfl rfl)
theorem dL_law_219 : decode cL_law 219 = .ok (.iaload, 1) := dk_46 (dk_at dksL_law_4 23 rfl rfl)
theorem dL_law_220 : decode cL_law 220 = .ok (.invokevirtual 22, 3) := dk_182 0 22 (dk_at dksL_law_5 0 rfl rfl)
theorem dL_law_223 : decode cL_law 223 = .ok (.if_icmp .eq 816, 3) := dk_159 3 48 (dk_at dksL_law_5 3 rfl rfl)
theorem dL_law_226 : decode cL_law 226 = .ok (.iconst 0, 1) := dk_3 (dk_at dksL_law_5 6 rfl rfl)
theorem dL_law_227 : decode cL_law 227 = .ok (.ireturn, 1) := dk_172 (dk_at dksL_law_5 7 rfl rfl)
theorem dL_law_228 : decode cL_law 228 = .ok (.aload_n 1, 1) := dk_43 (dk_at dksL_law_5 8 rfl rfl)
theorem dL_law_229 : decode cL_law 229 = .ok (.aload_n 0, 1) := dk_42 (dk_at dksL_law_5 9 rfl rfl)
theorem dL_law_230 : decode cL_law 230 = .ok (.iload_n 3, 1) := dk_29 (dk_at dksL_law_5 10 rfl rfl)
theorem dL_law_231 : decode cL_law 231 = .ok (.iconst 1, 1) := dk_4 (dk_at dksL_law_5 11 rfl rfl)
theorem dL_law_232 : decode cL_law 232 = .ok (.iadd, 1) := dk_96 (dk_at dksL_law_5 12 rfl rfl)
theorem dL_law_233 : decode cL_law 233 = .ok (.iaload, 1) := dk_46 (dk_at dksL_law_5 13 rfl rfl)
theorem dL_law_234 : decode cL_law 234 = .ok (.aload_n 0, 1) := dk_42 (dk_at dksL_law_5 14 rfl rfl)
theorem dL_law_235 : decode cL_law 235 = .ok (.iload_n 3, 1) := dk_29 (dk_at dksL_law_5 15 rfl rfl)
theorem dL_law_236 : decode cL_law 236 = .ok (.iconst 2, 1) := dk_5 (dk_at dksL_law_5 16 rfl rfl)
theorem dL_law_237 : decode cL_law 237 = .ok (.iadd, 1) := dk_96 (dk_at dksL_law_5 17 rfl rfl)
theorem dL_law_238 : decode cL_law 238 = .ok (.iaload, 1) := dk_46 (dk_at dksL_law_5 18 rfl rfl)
theorem dL_law_239 : decode cL_law 239 = .ok (.invokevirtual 23, 3) := dk_182 0 23 (dk_at dksL_law_5 19 rfl rfl)
theorem dL_law_242 : decode cL_law 242 = .ok (.aload_n 2, 1) := dk_44 (dk_at dksL_law_5 22 rfl rfl)
theorem dL_law_243 : decode cL_law 243 = .ok (.aload_n 0, 1) := dk_42 (dk_at dksL_law_5 23 rfl rfl)
theorem dL_law_244 : decode cL_law 244 = .ok (.iload_n 3, 1) := dk_29 (dk_at dksL_law_6 0 rfl rfl)
theorem dL_law_245 : decode cL_law 245 = .ok (.iconst 1, 1) := dk_4 (dk_at dksL_law_6 1 rfl rfl)
theorem dL_law_246 : decode cL_law 246 = .ok (.iadd, 1) := dk_96 (dk_at dksL_law_6 2 rfl rfl)
theorem dL_law_247 : decode cL_law 247 = .ok (.iaload, 1) := dk_46 (dk_at dksL_law_6 3 rfl rfl)
theorem dL_law_248 : decode cL_law 248 = .ok (.aload_n 0, 1) := dk_42 (dk_at dksL_law_6 4 rfl rfl)
theorem dL_law_249 : decode cL_law 249 = .ok (.iload_n 3, 1) := dk_29 (dk_at dksL_law_6 5 rfl rfl)
theorem dL_law_250 : decode cL_law 250 = .ok (.iconst 2, 1) := dk_5 (dk_at dksL_law_6 6 rfl rfl)
theorem dL_law_251 : decode cL_law 251 = .ok (.iadd, 1) := dk_96 (dk_at dksL_law_6 7 rfl rfl)
theorem dL_law_252 : decode cL_law 252 = .ok (.iaload, 1) := dk_46 (dk_at dksL_law_6 8 rfl rfl)
theorem dL_law_253 : decode cL_law 253 = .ok (.invokevirtual 26, 3) := dk_182 0 26 (dk_at dksL_law_6 9 rfl rfl)
theorem dL_law_256 : decode cL_law 256 = .ok (.if_icmp .eq 783, 3) := dk_159 3 15 (dk_at dksL_law_6 12 rfl rfl)
theorem dL_law_259 : decode cL_law 259 = .ok (.iconst 0, 1) := dk_3 (dk_at dksL_law_6 15 rfl rfl)
theorem dL_law_260 : decode cL_law 260 = .ok (.ireturn, 1) := dk_172 (dk_at dksL_law_6 16 rfl rfl)
theorem dL_law_261 : decode cL_law 261 = .ok (.aload_n 1, 1) := dk_43 (dk_at dksL_law_6 17 rfl rfl)
theorem dL_law_262 : decode cL_law 262 = .ok (.aload_n 0, 1) := dk_42 (dk_at dksL_law_6 18 rfl rfl)
theorem dL_law_263 : decode cL_law 263 = .ok (.iload_n 3, 1) := dk_29 (dk_at dksL_law_6 19 rfl rfl)
theorem dL_law_264 : decode cL_law 264 = .ok (.iconst 1, 1) := dk_4 (dk_at dksL_law_6 20 rfl rfl)
theorem dL_law_265 : decode cL_law 265 = .ok (.iadd, 1) := dk_96 (dk_at dksL_law_6 21 rfl rfl)
theorem dL_law_266 : decode cL_law 266 = .ok (.iaload, 1) := dk_46 (dk_at dksL_law_6 22 rfl rfl)
theorem dL_law_267 : decode cL_law 267 = .ok (.aload_n 0, 1) := dk_42 (dk_at dksL_law_6 23 rfl rfl)
theorem dL_law_268 : decode cL_law 268 = .ok (.iload_n 3, 1) := dk_29 (dk_at dksL_law_7 0 rfl rfl)
theorem dL_law_269 : decode cL_law 269 = .ok (.iconst 2, 1) := dk_5 (dk_at dksL_law_7 1 rfl rfl)
theorem dL_law_270 : decode cL_law 270 = .ok (.iadd, 1) := dk_96 (dk_at dksL_law_7 2 rfl rfl)
theorem dL_law_271 : decode cL_law 271 = .ok (.iaload, 1) := dk_46 (dk_at dksL_law_7 3 rfl rfl)
theorem dL_law_272 : decode cL_law 272 = .ok (.aload_n 0, 1) := dk_42 (dk_at dksL_law_7 4 rfl rfl)
theorem dL_law_273 : decode cL_law 273 = .ok (.iload_n 3, 1) := dk_29 (dk_at dksL_law_7 5 rfl rfl)
theorem dL_law_274 : decode cL_law 274 = .ok (.iconst 3, 1) := dk_6 (dk_at dksL_law_7 6 rfl rfl)
theorem dL_law_275 : decode cL_law 275 = .ok (.iadd, 1) := dk_96 (dk_at dksL_law_7 7 rfl rfl)
theorem dL_law_276 : decode cL_law 276 = .ok (.iaload, 1) := dk_46 (dk_at dksL_law_7 8 rfl rfl)
theorem dL_law_277 : decode cL_law 277 = .ok (.invokevirtual 27, 3) := dk_182 0 27 (dk_at dksL_law_7 9 rfl rfl)
theorem dL_law_280 : decode cL_law 280 = .ok (.aload_n 2, 1) := dk_44 (dk_at dksL_law_7 12 rfl rfl)
theorem dL_law_281 : decode cL_law 281 = .ok (.aload_n 0, 1) := dk_42 (dk_at dksL_law_7 13 rfl rfl)
theorem dL_law_282 : decode cL_law 282 = .ok (.iload_n 3, 1) := dk_29 (dk_at dksL_law_7 14 rfl rfl)
theorem dL_law_283 : decode cL_law 283 = .ok (.iconst 1, 1) := dk_4 (dk_at dksL_law_7 15 rfl rfl)
theorem dL_law_284 : decode cL_law 284 = .ok (.iadd, 1) := dk_96 (dk_at dksL_law_7 16 rfl rfl)
theorem dL_law_285 : decode cL_law 285 = .ok (.iaload, 1) := dk_46 (dk_at dksL_law_7 17 rfl rfl)
theorem dL_law_286 : decode cL_law 286 = .ok (.aload_n 0, 1) := dk_42 (dk_at dksL_law_7 18 rfl rfl)
theorem dL_law_287 : decode cL_law 287 = .ok (.iload_n 3, 1) := dk_29 (dk_at dksL_law_7 19 rfl rfl)
theorem dL_law_288 : decode cL_law 288 = .ok (.iconst 2, 1) := dk_5 (dk_at dksL_law_7 20 rfl rfl)
theorem dL_law_289 : decode cL_law 289 = .ok (.iadd, 1) := dk_96 (dk_at dksL_law_7 21 rfl rfl)
theorem dL_law_290 : decode cL_law 290 = .ok (.iaload, 1) := dk_46 (dk_at dksL_law_7 22 rfl rfl)
theorem dL_law_291 : decode cL_law 291 = .ok (.aload_n 0, 1) := dk_42 (dk_at dksL_law_7 23 rfl rfl)
theorem dL_law_292 : decode cL_law 292 = .ok (.iload_n 3, 1) := dk_29 (dk_at dksL_law_8 0 rfl rfl)
theorem dL_law_293 : decode cL_law 293 = .ok (.iconst 3, 1) := dk_6 (dk_at dksL_law_8 1 rfl rfl)
theorem dL_law_294 : decode cL_law 294 = .ok (.iadd, 1) := dk_96 (dk_at dksL_law_8 2 rfl rfl)
theorem dL_law_295 : decode cL_law 295 = .ok (.iaload, 1) := dk_46 (dk_at dksL_law_8 3 rfl rfl)
theorem dL_law_296 : decode cL_law 296 = .ok (.invokevirtual 31, 3) := dk_182 0 31 (dk_at dksL_law_8 4 rfl rfl)
theorem dL_law_299 : decode cL_law 299 = .ok (.if_icmp .eq 740, 3) := dk_159 2 228 (dk_at dksL_law_8 7 rfl rfl)
theorem dL_law_302 : decode cL_law 302 = .ok (.iconst 0, 1) := dk_3 (dk_at dksL_law_8 10 rfl rfl)
theorem dL_law_303 : decode cL_law 303 = .ok (.ireturn, 1) := dk_172 (dk_at dksL_law_8 11 rfl rfl)
theorem dL_law_304 : decode cL_law 304 = .ok (.aload_n 1, 1) := dk_43 (dk_at dksL_law_8 12 rfl rfl)
theorem dL_law_305 : decode cL_law 305 = .ok (.aload_n 0, 1) := dk_42 (dk_at dksL_law_8 13 rfl rfl)
theorem dL_law_306 : decode cL_law 306 = .ok (.iload_n 3, 1) := dk_29 (dk_at dksL_law_8 14 rfl rfl)
theorem dL_law_307 : decode cL_law 307 = .ok (.iconst 1, 1) := dk_4 (dk_at dksL_law_8 15 rfl rfl)
theorem dL_law_308 : decode cL_law 308 = .ok (.iadd, 1) := dk_96 (dk_at dksL_law_8 16 rfl rfl)
theorem dL_law_309 : decode cL_law 309 = .ok (.iaload, 1) := dk_46 (dk_at dksL_law_8 17 rfl rfl)
theorem dL_law_310 : decode cL_law 310 = .ok (.aload_n 0, 1) := dk_42 (dk_at dksL_law_8 18 rfl rfl)
theorem dL_law_311 : decode cL_law 311 = .ok (.iload_n 3, 1) := dk_29 (dk_at dksL_law_8 19 rfl rfl)
theorem dL_law_312 : decode cL_law 312 = .ok (.iconst 2, 1) := dk_5 (dk_at dksL_law_8 20 rfl rfl)
theorem dL_law_313 : decode cL_law 313 = .ok (.iadd, 1) := dk_96 (dk_at dksL_law_8 21 rfl rfl)
theorem dL_law_314 : decode cL_law 314 = .ok (.iaload, 1) := dk_46 (dk_at dksL_law_8 22 rfl rfl)
theorem dL_law_315 : decode cL_law 315 = .ok (.invokevirtual 32, 3) := dk_182 0 32 (dk_at dksL_law_9 0 rfl rfl)
theorem dL_law_318 : decode cL_law 318 = .ok (.aload_n 2, 1) := dk_44 (dk_at dksL_law_9 3 rfl rfl)
theorem dL_law_319 : decode cL_law 319 = .ok (.aload_n 0, 1) := dk_42 (dk_at dksL_law_9 4 rfl rfl)
theorem dL_law_320 : decode cL_law 320 = .ok (.iload_n 3, 1) := dk_29 (dk_at dksL_law_9 5 rfl rfl)
theorem dL_law_321 : decode cL_law 321 = .ok (.iconst 1, 1) := dk_4 (dk_at dksL_law_9 6 rfl rfl)
theorem dL_law_322 : decode cL_law 322 = .ok (.iadd, 1) := dk_96 (dk_at dksL_law_9 7 rfl rfl)
theorem dL_law_323 : decode cL_law 323 = .ok (.iaload, 1) := dk_46 (dk_at dksL_law_9 8 rfl rfl)
theorem dL_law_324 : decode cL_law 324 = .ok (.aload_n 0, 1) := dk_42 (dk_at dksL_law_9 9 rfl rfl)
theorem dL_law_325 : decode cL_law 325 = .ok (.iload_n 3, 1) := dk_29 (dk_at dksL_law_9 10 rfl rfl)
theorem dL_law_326 : decode cL_law 326 = .ok (.iconst 2, 1) := dk_5 (dk_at dksL_law_9 11 rfl rfl)
theorem dL_law_327 : decode cL_law 327 = .ok (.iadd, 1) := dk_96 (dk_at dksL_law_9 12 rfl rfl)
theorem dL_law_328 : decode cL_law 328 = .ok (.iaload, 1) := dk_46 (dk_at dksL_law_9 13 rfl rfl)
theorem dL_law_329 : decode cL_law 329 = .ok (.invokevirtual 35, 3) := dk_182 0 35 (dk_at dksL_law_9 14 rfl rfl)
theorem dL_law_332 : decode cL_law 332 = .ok (.if_icmp .eq 707, 3) := dk_159 2 195 (dk_at dksL_law_9 17 rfl rfl)
theorem dL_law_335 : decode cL_law 335 = .ok (.iconst 0, 1) := dk_3 (dk_at dksL_law_9 20 rfl rfl)
theorem dL_law_336 : decode cL_law 336 = .ok (.ireturn, 1) := dk_172 (dk_at dksL_law_9 21 rfl rfl)
theorem dL_law_337 : decode cL_law 337 = .ok (.aload_n 1, 1) := dk_43 (dk_at dksL_law_9 22 rfl rfl)
theorem dL_law_338 : decode cL_law 338 = .ok (.aload_n 0, 1) := dk_42 (dk_at dksL_law_9 23 rfl rfl)
theorem dL_law_339 : decode cL_law 339 = .ok (.iload_n 3, 1) := dk_29 (dk_at dksL_law_10 0 rfl rfl)
theorem dL_law_340 : decode cL_law 340 = .ok (.iconst 1, 1) := dk_4 (dk_at dksL_law_10 1 rfl rfl)
theorem dL_law_341 : decode cL_law 341 = .ok (.iadd, 1) := dk_96 (dk_at dksL_law_10 2 rfl rfl)
theorem dL_law_342 : decode cL_law 342 = .ok (.iaload, 1) := dk_46 (dk_at dksL_law_10 3 rfl rfl)
theorem dL_law_343 : decode cL_law 343 = .ok (.aload_n 0, 1) := dk_42 (dk_at dksL_law_10 4 rfl rfl)
theorem dL_law_344 : decode cL_law 344 = .ok (.iload_n 3, 1) := dk_29 (dk_at dksL_law_10 5 rfl rfl)
theorem dL_law_345 : decode cL_law 345 = .ok (.iconst 2, 1) := dk_5 (dk_at dksL_law_10 6 rfl rfl)
theorem dL_law_346 : decode cL_law 346 = .ok (.iadd, 1) := dk_96 (dk_at dksL_law_10 7 rfl rfl)
theorem dL_law_347 : decode cL_law 347 = .ok (.iaload, 1) := dk_46 (dk_at dksL_law_10 8 rfl rfl)
theorem dL_law_348 : decode cL_law 348 = .ok (.invokevirtual 36, 3) := dk_182 0 36 (dk_at dksL_law_10 9 rfl rfl)
theorem dL_law_351 : decode cL_law 351 = .ok (.aload_n 2, 1) := dk_44 (dk_at dksL_law_10 12 rfl rfl)
theorem dL_law_352 : decode cL_law 352 = .ok (.aload_n 0, 1) := dk_42 (dk_at dksL_law_10 13 rfl rfl)
theorem dL_law_353 : decode cL_law 353 = .ok (.iload_n 3, 1) := dk_29 (dk_at dksL_law_10 14 rfl rfl)
theorem dL_law_354 : decode cL_law 354 = .ok (.iconst 1, 1) := dk_4 (dk_at dksL_law_10 15 rfl rfl)
theorem dL_law_355 : decode cL_law 355 = .ok (.iadd, 1) := dk_96 (dk_at dksL_law_10 16 rfl rfl)
theorem dL_law_356 : decode cL_law 356 = .ok (.iaload, 1) := dk_46 (dk_at dksL_law_10 17 rfl rfl)
theorem dL_law_357 : decode cL_law 357 = .ok (.aload_n 0, 1) := dk_42 (dk_at dksL_law_10 18 rfl rfl)
theorem dL_law_358 : decode cL_law 358 = .ok (.iload_n 3, 1) := dk_29 (dk_at dksL_law_10 19 rfl rfl)
theorem dL_law_359 : decode cL_law 359 = .ok (.iconst 2, 1) := dk_5 (dk_at dksL_law_10 20 rfl rfl)
theorem dL_law_360 : decode cL_law 360 = .ok (.iadd, 1) := dk_96 (dk_at dksL_law_10 21 rfl rfl)
theorem dL_law_361 : decode cL_law 361 = .ok (.iaload, 1) := dk_46 (dk_at dksL_law_10 22 rfl rfl)
theorem dL_law_362 : decode cL_law 362 = .ok (.invokevirtual 39, 3) := dk_182 0 39 (dk_at dksL_law_11 0 rfl rfl)
theorem dL_law_365 : decode cL_law 365 = .ok (.if_icmp .eq 674, 3) := dk_159 2 162 (dk_at dksL_law_11 3 rfl rfl)
theorem dL_law_368 : decode cL_law 368 = .ok (.iconst 0, 1) := dk_3 (dk_at dksL_law_11 6 rfl rfl)
theorem dL_law_369 : decode cL_law 369 = .ok (.ireturn, 1) := dk_172 (dk_at dksL_law_11 7 rfl rfl)
theorem dL_law_370 : decode cL_law 370 = .ok (.aload_n 1, 1) := dk_43 (dk_at dksL_law_11 8 rfl rfl)
theorem dL_law_371 : decode cL_law 371 = .ok (.aload_n 0, 1) := dk_42 (dk_at dksL_law_11 9 rfl rfl)
theorem dL_law_372 : decode cL_law 372 = .ok (.iload_n 3, 1) := dk_29 (dk_at dksL_law_11 10 rfl rfl)
theorem dL_law_373 : decode cL_law 373 = .ok (.iconst 1, 1) := dk_4 (dk_at dksL_law_11 11 rfl rfl)
theorem dL_law_374 : decode cL_law 374 = .ok (.iadd, 1) := dk_96 (dk_at dksL_law_11 12 rfl rfl)
theorem dL_law_375 : decode cL_law 375 = .ok (.iaload, 1) := dk_46 (dk_at dksL_law_11 13 rfl rfl)
theorem dL_law_376 : decode cL_law 376 = .ok (.invokevirtual 40, 3) := dk_182 0 40 (dk_at dksL_law_11 14 rfl rfl)
theorem dL_law_379 : decode cL_law 379 = .ok (.aload_n 2, 1) := dk_44 (dk_at dksL_law_11 17 rfl rfl)
theorem dL_law_380 : decode cL_law 380 = .ok (.aload_n 0, 1) := dk_42 (dk_at dksL_law_11 18 rfl rfl)
theorem dL_law_381 : decode cL_law 381 = .ok (.iload_n 3, 1) := dk_29 (dk_at dksL_law_11 19 rfl rfl)
theorem dL_law_382 : decode cL_law 382 = .ok (.iconst 1, 1) := dk_4 (dk_at dksL_law_11 20 rfl rfl)
theorem dL_law_383 : decode cL_law 383 = .ok (.iadd, 1) := dk_96 (dk_at dksL_law_11 21 rfl rfl)
theorem dL_law_384 : decode cL_law 384 = .ok (.iaload, 1) := dk_46 (dk_at dksL_law_11 22 rfl rfl)
theorem dL_law_385 : decode cL_law 385 = .ok (.invokevirtual 43, 3) := dk_182 0 43 (dk_at dksL_law_12 0 rfl rfl)
theorem dL_law_388 : decode cL_law 388 = .ok (.if_icmp .eq 651, 3) := dk_159 2 139 (dk_at dksL_law_12 3 rfl rfl)
theorem dL_law_391 : decode cL_law 391 = .ok (.iconst 0, 1) := dk_3 (dk_at dksL_law_12 6 rfl rfl)
theorem dL_law_392 : decode cL_law 392 = .ok (.ireturn, 1) := dk_172 (dk_at dksL_law_12 7 rfl rfl)
theorem dL_law_393 : decode cL_law 393 = .ok (.aload_n 1, 1) := dk_43 (dk_at dksL_law_12 8 rfl rfl)
theorem dL_law_394 : decode cL_law 394 = .ok (.aload_n 0, 1) := dk_42 (dk_at dksL_law_12 9 rfl rfl)
theorem dL_law_395 : decode cL_law 395 = .ok (.iload_n 3, 1) := dk_29 (dk_at dksL_law_12 10 rfl rfl)
theorem dL_law_396 : decode cL_law 396 = .ok (.iconst 1, 1) := dk_4 (dk_at dksL_law_12 11 rfl rfl)
theorem dL_law_397 : decode cL_law 397 = .ok (.iadd, 1) := dk_96 (dk_at dksL_law_12 12 rfl rfl)
theorem dL_law_398 : decode cL_law 398 = .ok (.iaload, 1) := dk_46 (dk_at dksL_law_12 13 rfl rfl)
theorem dL_law_399 : decode cL_law 399 = .ok (.aload_n 0, 1) := dk_42 (dk_at dksL_law_12 14 rfl rfl)
theorem dL_law_400 : decode cL_law 400 = .ok (.iload_n 3, 1) := dk_29 (dk_at dksL_law_12 15 rfl rfl)
theorem dL_law_401 : decode cL_law 401 = .ok (.iconst 2, 1) := dk_5 (dk_at dksL_law_12 16 rfl rfl)
theorem dL_law_402 : decode cL_law 402 = .ok (.iadd, 1) := dk_96 (dk_at dksL_law_12 17 rfl rfl)
theorem dL_law_403 : decode cL_law 403 = .ok (.iaload, 1) := dk_46 (dk_at dksL_law_12 18 rfl rfl)
theorem dL_law_404 : decode cL_law 404 = .ok (.invokevirtual 44, 3) := dk_182 0 44 (dk_at dksL_law_12 19 rfl rfl)
theorem dL_law_407 : decode cL_law 407 = .ok (.aload_n 2, 1) := dk_44 (dk_at dksL_law_12 22 rfl rfl)
theorem dL_law_408 : decode cL_law 408 = .ok (.aload_n 0, 1) := dk_42 (dk_at dksL_law_12 23 rfl rfl)
theorem dL_law_409 : decode cL_law 409 = .ok (.iload_n 3, 1) := dk_29 (dk_at dksL_law_13 0 rfl rfl)
theorem dL_law_410 : decode cL_law 410 = .ok (.iconst 1, 1) := dk_4 (dk_at dksL_law_13 1 rfl rfl)
theorem dL_law_411 : decode cL_law 411 = .ok (.iadd, 1) := dk_96 (dk_at dksL_law_13 2 rfl rfl)
theorem dL_law_412 : decode cL_law 412 = .ok (.iaload, 1) := dk_46 (dk_at dksL_law_13 3 rfl rfl)
theorem dL_law_413 : decode cL_law 413 = .ok (.aload_n 0, 1) := dk_42 (dk_at dksL_law_13 4 rfl rfl)
theorem dL_law_414 : decode cL_law 414 = .ok (.iload_n 3, 1) := dk_29 (dk_at dksL_law_13 5 rfl rfl)
theorem dL_law_415 : decode cL_law 415 = .ok (.iconst 2, 1) := dk_5 (dk_at dksL_law_13 6 rfl rfl)
theorem dL_law_416 : decode cL_law 416 = .ok (.iadd, 1) := dk_96 (dk_at dksL_law_13 7 rfl rfl)
theorem dL_law_417 : decode cL_law 417 = .ok (.iaload, 1) := dk_46 (dk_at dksL_law_13 8 rfl rfl)
theorem dL_law_418 : decode cL_law 418 = .ok (.invokevirtual 47, 3) := dk_182 0 47 (dk_at dksL_law_13 9 rfl rfl)
theorem dL_law_421 : decode cL_law 421 = .ok (.if_icmp .eq 618, 3) := dk_159 2 106 (dk_at dksL_law_13 12 rfl rfl)
theorem dL_law_424 : decode cL_law 424 = .ok (.iconst 0, 1) := dk_3 (dk_at dksL_law_13 15 rfl rfl)
theorem dL_law_425 : decode cL_law 425 = .ok (.ireturn, 1) := dk_172 (dk_at dksL_law_13 16 rfl rfl)
theorem dL_law_426 : decode cL_law 426 = .ok (.aload_n 1, 1) := dk_43 (dk_at dksL_law_13 17 rfl rfl)
theorem dL_law_427 : decode cL_law 427 = .ok (.aload_n 0, 1) := dk_42 (dk_at dksL_law_13 18 rfl rfl)
theorem dL_law_428 : decode cL_law 428 = .ok (.iload_n 3, 1) := dk_29 (dk_at dksL_law_13 19 rfl rfl)
theorem dL_law_429 : decode cL_law 429 = .ok (.iconst 1, 1) := dk_4 (dk_at dksL_law_13 20 rfl rfl)
theorem dL_law_430 : decode cL_law 430 = .ok (.iadd, 1) := dk_96 (dk_at dksL_law_13 21 rfl rfl)
theorem dL_law_431 : decode cL_law 431 = .ok (.iaload, 1) := dk_46 (dk_at dksL_law_13 22 rfl rfl)
theorem dL_law_432 : decode cL_law 432 = .ok (.invokevirtual 48, 3) := dk_182 0 48 (dk_at dksL_law_14 0 rfl rfl)
theorem dL_law_435 : decode cL_law 435 = .ok (.aload_n 2, 1) := dk_44 (dk_at dksL_law_14 3 rfl rfl)
theorem dL_law_436 : decode cL_law 436 = .ok (.aload_n 0, 1) := dk_42 (dk_at dksL_law_14 4 rfl rfl)
theorem dL_law_437 : decode cL_law 437 = .ok (.iload_n 3, 1) := dk_29 (dk_at dksL_law_14 5 rfl rfl)
theorem dL_law_438 : decode cL_law 438 = .ok (.iconst 1, 1) := dk_4 (dk_at dksL_law_14 6 rfl rfl)
theorem dL_law_439 : decode cL_law 439 = .ok (.iadd, 1) := dk_96 (dk_at dksL_law_14 7 rfl rfl)
theorem dL_law_440 : decode cL_law 440 = .ok (.iaload, 1) := dk_46 (dk_at dksL_law_14 8 rfl rfl)
theorem dL_law_441 : decode cL_law 441 = .ok (.invokevirtual 51, 3) := dk_182 0 51 (dk_at dksL_law_14 9 rfl rfl)
theorem dL_law_444 : decode cL_law 444 = .ok (.if_icmp .eq 595, 3) := dk_159 2 83 (dk_at dksL_law_14 12 rfl rfl)
theorem dL_law_447 : decode cL_law 447 = .ok (.iconst 0, 1) := dk_3 (dk_at dksL_law_14 15 rfl rfl)
theorem dL_law_448 : decode cL_law 448 = .ok (.ireturn, 1) := dk_172 (dk_at dksL_law_14 16 rfl rfl)
theorem dL_law_449 : decode cL_law 449 = .ok (.aload_n 1, 1) := dk_43 (dk_at dksL_law_14 17 rfl rfl)
theorem dL_law_450 : decode cL_law 450 = .ok (.aload_n 0, 1) := dk_42 (dk_at dksL_law_14 18 rfl rfl)
theorem dL_law_451 : decode cL_law 451 = .ok (.iload_n 3, 1) := dk_29 (dk_at dksL_law_14 19 rfl rfl)
theorem dL_law_452 : decode cL_law 452 = .ok (.iconst 1, 1) := dk_4 (dk_at dksL_law_14 20 rfl rfl)
theorem dL_law_453 : decode cL_law 453 = .ok (.iadd, 1) := dk_96 (dk_at dksL_law_14 21 rfl rfl)
theorem dL_law_454 : decode cL_law 454 = .ok (.iaload, 1) := dk_46 (dk_at dksL_law_14 22 rfl rfl)
theorem dL_law_455 : decode cL_law 455 = .ok (.invokevirtual 52, 3) := dk_182 0 52 (dk_at dksL_law_15 0 rfl rfl)
theorem dL_law_458 : decode cL_law 458 = .ok (.aload_n 2, 1) := dk_44 (dk_at dksL_law_15 3 rfl rfl)
theorem dL_law_459 : decode cL_law 459 = .ok (.aload_n 0, 1) := dk_42 (dk_at dksL_law_15 4 rfl rfl)
theorem dL_law_460 : decode cL_law 460 = .ok (.iload_n 3, 1) := dk_29 (dk_at dksL_law_15 5 rfl rfl)
theorem dL_law_461 : decode cL_law 461 = .ok (.iconst 1, 1) := dk_4 (dk_at dksL_law_15 6 rfl rfl)
theorem dL_law_462 : decode cL_law 462 = .ok (.iadd, 1) := dk_96 (dk_at dksL_law_15 7 rfl rfl)
theorem dL_law_463 : decode cL_law 463 = .ok (.iaload, 1) := dk_46 (dk_at dksL_law_15 8 rfl rfl)
theorem dL_law_464 : decode cL_law 464 = .ok (.invokevirtual 55, 3) := dk_182 0 55 (dk_at dksL_law_15 9 rfl rfl)
theorem dL_law_467 : decode cL_law 467 = .ok (.if_icmp .eq 572, 3) := dk_159 2 60 (dk_at dksL_law_15 12 rfl rfl)
theorem dL_law_470 : decode cL_law 470 = .ok (.iconst 0, 1) := dk_3 (dk_at dksL_law_15 15 rfl rfl)
theorem dL_law_471 : decode cL_law 471 = .ok (.ireturn, 1) := dk_172 (dk_at dksL_law_15 16 rfl rfl)
theorem dL_law_472 : decode cL_law 472 = .ok (.aload_n 1, 1) := dk_43 (dk_at dksL_law_15 17 rfl rfl)
theorem dL_law_473 : decode cL_law 473 = .ok (.aload_n 0, 1) := dk_42 (dk_at dksL_law_15 18 rfl rfl)
theorem dL_law_474 : decode cL_law 474 = .ok (.iload_n 3, 1) := dk_29 (dk_at dksL_law_15 19 rfl rfl)
theorem dL_law_475 : decode cL_law 475 = .ok (.iconst 1, 1) := dk_4 (dk_at dksL_law_15 20 rfl rfl)
theorem dL_law_476 : decode cL_law 476 = .ok (.iadd, 1) := dk_96 (dk_at dksL_law_15 21 rfl rfl)
theorem dL_law_477 : decode cL_law 477 = .ok (.iaload, 1) := dk_46 (dk_at dksL_law_15 22 rfl rfl)
theorem dL_law_478 : decode cL_law 478 = .ok (.aload_n 0, 1) := dk_42 (dk_at dksL_law_15 23 rfl rfl)
theorem dL_law_479 : decode cL_law 479 = .ok (.iload_n 3, 1) := dk_29 (dk_at dksL_law_16 0 rfl rfl)
theorem dL_law_480 : decode cL_law 480 = .ok (.iconst 2, 1) := dk_5 (dk_at dksL_law_16 1 rfl rfl)
theorem dL_law_481 : decode cL_law 481 = .ok (.iadd, 1) := dk_96 (dk_at dksL_law_16 2 rfl rfl)
theorem dL_law_482 : decode cL_law 482 = .ok (.iaload, 1) := dk_46 (dk_at dksL_law_16 3 rfl rfl)
theorem dL_law_483 : decode cL_law 483 = .ok (.invokevirtual 56, 3) := dk_182 0 56 (dk_at dksL_law_16 4 rfl rfl)
theorem dL_law_486 : decode cL_law 486 = .ok (.aload_n 2, 1) := dk_44 (dk_at dksL_law_16 7 rfl rfl)
theorem dL_law_487 : decode cL_law 487 = .ok (.aload_n 0, 1) := dk_42 (dk_at dksL_law_16 8 rfl rfl)
theorem dL_law_488 : decode cL_law 488 = .ok (.iload_n 3, 1) := dk_29 (dk_at dksL_law_16 9 rfl rfl)
theorem dL_law_489 : decode cL_law 489 = .ok (.iconst 1, 1) := dk_4 (dk_at dksL_law_16 10 rfl rfl)
theorem dL_law_490 : decode cL_law 490 = .ok (.iadd, 1) := dk_96 (dk_at dksL_law_16 11 rfl rfl)
theorem dL_law_491 : decode cL_law 491 = .ok (.iaload, 1) := dk_46 (dk_at dksL_law_16 12 rfl rfl)
theorem dL_law_492 : decode cL_law 492 = .ok (.aload_n 0, 1) := dk_42 (dk_at dksL_law_16 13 rfl rfl)
theorem dL_law_493 : decode cL_law 493 = .ok (.iload_n 3, 1) := dk_29 (dk_at dksL_law_16 14 rfl rfl)
theorem dL_law_494 : decode cL_law 494 = .ok (.iconst 2, 1) := dk_5 (dk_at dksL_law_16 15 rfl rfl)
theorem dL_law_495 : decode cL_law 495 = .ok (.iadd, 1) := dk_96 (dk_at dksL_law_16 16 rfl rfl)
theorem dL_law_496 : decode cL_law 496 = .ok (.iaload, 1) := dk_46 (dk_at dksL_law_16 17 rfl rfl)
theorem dL_law_497 : decode cL_law 497 = .ok (.invokevirtual 59, 3) := dk_182 0 59 (dk_at dksL_law_16 18 rfl rfl)
theorem dL_law_500 : decode cL_law 500 = .ok (.if_icmp .eq 539, 3) := dk_159 2 27 (dk_at dksL_law_16 21 rfl rfl)
theorem dL_law_503 : decode cL_law 503 = .ok (.iconst 0, 1) := dk_3 (dk_at dksL_law_17 0 rfl rfl)
theorem dL_law_504 : decode cL_law 504 = .ok (.ireturn, 1) := dk_172 (dk_at dksL_law_17 1 rfl rfl)
theorem dL_law_505 : decode cL_law 505 = .ok (.aload_n 1, 1) := dk_43 (dk_at dksL_law_17 2 rfl rfl)
theorem dL_law_506 : decode cL_law 506 = .ok (.aload_n 0, 1) := dk_42 (dk_at dksL_law_17 3 rfl rfl)
theorem dL_law_507 : decode cL_law 507 = .ok (.iload_n 3, 1) := dk_29 (dk_at dksL_law_17 4 rfl rfl)
theorem dL_law_508 : decode cL_law 508 = .ok (.iconst 1, 1) := dk_4 (dk_at dksL_law_17 5 rfl rfl)
theorem dL_law_509 : decode cL_law 509 = .ok (.iadd, 1) := dk_96 (dk_at dksL_law_17 6 rfl rfl)
theorem dL_law_510 : decode cL_law 510 = .ok (.iaload, 1) := dk_46 (dk_at dksL_law_17 7 rfl rfl)
theorem dL_law_511 : decode cL_law 511 = .ok (.aload_n 0, 1) := dk_42 (dk_at dksL_law_17 8 rfl rfl)
theorem dL_law_512 : decode cL_law 512 = .ok (.iload_n 3, 1) := dk_29 (dk_at dksL_law_17 9 rfl rfl)
theorem dL_law_513 : decode cL_law 513 = .ok (.iconst 2, 1) := dk_5 (dk_at dksL_law_17 10 rfl rfl)
theorem dL_law_514 : decode cL_law 514 = .ok (.iadd, 1) := dk_96 (dk_at dksL_law_17 11 rfl rfl)
theorem dL_law_515 : decode cL_law 515 = .ok (.iaload, 1) := dk_46 (dk_at dksL_law_17 12 rfl rfl)
theorem dL_law_516 : decode cL_law 516 = .ok (.invokevirtual 60, 3) := dk_182 0 60 (dk_at dksL_law_17 13 rfl rfl)
theorem dL_law_519 : decode cL_law 519 = .ok (.aload_n 2, 1) := dk_44 (dk_at dksL_law_17 16 rfl rfl)
theorem dL_law_520 : decode cL_law 520 = .ok (.aload_n 0, 1) := dk_42 (dk_at dksL_law_17 17 rfl rfl)
theorem dL_law_521 : decode cL_law 521 = .ok (.iload_n 3, 1) := dk_29 (dk_at dksL_law_17 18 rfl rfl)
theorem dL_law_522 : decode cL_law 522 = .ok (.iconst 1, 1) := dk_4 (dk_at dksL_law_17 19 rfl rfl)
theorem dL_law_523 : decode cL_law 523 = .ok (.iadd, 1) := dk_96 (dk_at dksL_law_17 20 rfl rfl)
theorem dL_law_524 : decode cL_law 524 = .ok (.iaload, 1) := dk_46 (dk_at dksL_law_17 21 rfl rfl)
theorem dL_law_525 : decode cL_law 525 = .ok (.aload_n 0, 1) := dk_42 (dk_at dksL_law_17 22 rfl rfl)
theorem dL_law_526 : decode cL_law 526 = .ok (.iload_n 3, 1) := dk_29 (dk_at dksL_law_17 23 rfl rfl)
theorem dL_law_527 : decode cL_law 527 = .ok (.iconst 2, 1) := dk_5 (dk_at dksL_law_18 0 rfl rfl)
theorem dL_law_528 : decode cL_law 528 = .ok (.iadd, 1) := dk_96 (dk_at dksL_law_18 1 rfl rfl)
theorem dL_law_529 : decode cL_law 529 = .ok (.iaload, 1) := dk_46 (dk_at dksL_law_18 2 rfl rfl)
theorem dL_law_530 : decode cL_law 530 = .ok (.invokevirtual 63, 3) := dk_182 0 63 (dk_at dksL_law_18 3 rfl rfl)
theorem dL_law_533 : decode cL_law 533 = .ok (.if_icmp .eq 506, 3) := dk_159 1 250 (dk_at dksL_law_18 6 rfl rfl)
theorem dL_law_536 : decode cL_law 536 = .ok (.iconst 0, 1) := dk_3 (dk_at dksL_law_18 9 rfl rfl)
theorem dL_law_537 : decode cL_law 537 = .ok (.ireturn, 1) := dk_172 (dk_at dksL_law_18 10 rfl rfl)
theorem dL_law_538 : decode cL_law 538 = .ok (.aload_n 1, 1) := dk_43 (dk_at dksL_law_18 11 rfl rfl)
theorem dL_law_539 : decode cL_law 539 = .ok (.aload_n 0, 1) := dk_42 (dk_at dksL_law_18 12 rfl rfl)
theorem dL_law_540 : decode cL_law 540 = .ok (.iload_n 3, 1) := dk_29 (dk_at dksL_law_18 13 rfl rfl)
theorem dL_law_541 : decode cL_law 541 = .ok (.iconst 1, 1) := dk_4 (dk_at dksL_law_18 14 rfl rfl)
theorem dL_law_542 : decode cL_law 542 = .ok (.iadd, 1) := dk_96 (dk_at dksL_law_18 15 rfl rfl)
theorem dL_law_543 : decode cL_law 543 = .ok (.iaload, 1) := dk_46 (dk_at dksL_law_18 16 rfl rfl)
theorem dL_law_544 : decode cL_law 544 = .ok (.aload_n 0, 1) := dk_42 (dk_at dksL_law_18 17 rfl rfl)
theorem dL_law_545 : decode cL_law 545 = .ok (.iload_n 3, 1) := dk_29 (dk_at dksL_law_18 18 rfl rfl)
theorem dL_law_546 : decode cL_law 546 = .ok (.iconst 2, 1) := dk_5 (dk_at dksL_law_18 19 rfl rfl)
theorem dL_law_547 : decode cL_law 547 = .ok (.iadd, 1) := dk_96 (dk_at dksL_law_18 20 rfl rfl)
theorem dL_law_548 : decode cL_law 548 = .ok (.iaload, 1) := dk_46 (dk_at dksL_law_18 21 rfl rfl)
theorem dL_law_549 : decode cL_law 549 = .ok (.aload_n 0, 1) := dk_42 (dk_at dksL_law_18 22 rfl rfl)
theorem dL_law_550 : decode cL_law 550 = .ok (.iload_n 3, 1) := dk_29 (dk_at dksL_law_18 23 rfl rfl)
theorem dL_law_551 : decode cL_law 551 = .ok (.iconst 3, 1) := dk_6 (dk_at dksL_law_19 0 rfl rfl)
theorem dL_law_552 : decode cL_law 552 = .ok (.iadd, 1) := dk_96 (dk_at dksL_law_19 1 rfl rfl)
theorem dL_law_553 : decode cL_law 553 = .ok (.iaload, 1) := dk_46 (dk_at dksL_law_19 2 rfl rfl)
theorem dL_law_554 : decode cL_law 554 = .ok (.aload_n 0, 1) := dk_42 (dk_at dksL_law_19 3 rfl rfl)
theorem dL_law_555 : decode cL_law 555 = .ok (.iload_n 3, 1) := dk_29 (dk_at dksL_law_19 4 rfl rfl)
theorem dL_law_556 : decode cL_law 556 = .ok (.iconst 4, 1) := dk_7 (dk_at dksL_law_19 5 rfl rfl)
theorem dL_law_557 : decode cL_law 557 = .ok (.iadd, 1) := dk_96 (dk_at dksL_law_19 6 rfl rfl)
theorem dL_law_558 : decode cL_law 558 = .ok (.iaload, 1) := dk_46 (dk_at dksL_law_19 7 rfl rfl)
theorem dL_law_559 : decode cL_law 559 = .ok (.invokevirtual 64, 3) := dk_182 0 64 (dk_at dksL_law_19 8 rfl rfl)
theorem dL_law_562 : decode cL_law 562 = .ok (.aload_n 2, 1) := dk_44 (dk_at dksL_law_19 11 rfl rfl)
theorem dL_law_563 : decode cL_law 563 = .ok (.aload_n 0, 1) := dk_42 (dk_at dksL_law_19 12 rfl rfl)
theorem dL_law_564 : decode cL_law 564 = .ok (.iload_n 3, 1) := dk_29 (dk_at dksL_law_19 13 rfl rfl)
theorem dL_law_565 : decode cL_law 565 = .ok (.iconst 1, 1) := dk_4 (dk_at dksL_law_19 14 rfl rfl)
theorem dL_law_566 : decode cL_law 566 = .ok (.iadd, 1) := dk_96 (dk_at dksL_law_19 15 rfl rfl)
theorem dL_law_567 : decode cL_law 567 = .ok (.iaload, 1) := dk_46 (dk_at dksL_law_19 16 rfl rfl)
theorem dL_law_568 : decode cL_law 568 = .ok (.aload_n 0, 1) := dk_42 (dk_at dksL_law_19 17 rfl rfl)
theorem dL_law_569 : decode cL_law 569 = .ok (.iload_n 3, 1) := dk_29 (dk_at dksL_law_19 18 rfl rfl)
theorem dL_law_570 : decode cL_law 570 = .ok (.iconst 2, 1) := dk_5 (dk_at dksL_law_19 19 rfl rfl)
theorem dL_law_571 : decode cL_law 571 = .ok (.iadd, 1) := dk_96 (dk_at dksL_law_19 20 rfl rfl)
theorem dL_law_572 : decode cL_law 572 = .ok (.iaload, 1) := dk_46 (dk_at dksL_law_19 21 rfl rfl)
theorem dL_law_573 : decode cL_law 573 = .ok (.aload_n 0, 1) := dk_42 (dk_at dksL_law_19 22 rfl rfl)
theorem dL_law_574 : decode cL_law 574 = .ok (.iload_n 3, 1) := dk_29 (dk_at dksL_law_19 23 rfl rfl)
theorem dL_law_575 : decode cL_law 575 = .ok (.iconst 3, 1) := dk_6 (dk_at dksL_law_20 0 rfl rfl)
theorem dL_law_576 : decode cL_law 576 = .ok (.iadd, 1) := dk_96 (dk_at dksL_law_20 1 rfl rfl)
theorem dL_law_577 : decode cL_law 577 = .ok (.iaload, 1) := dk_46 (dk_at dksL_law_20 2 rfl rfl)
theorem dL_law_578 : decode cL_law 578 = .ok (.aload_n 0, 1) := dk_42 (dk_at dksL_law_20 3 rfl rfl)
theorem dL_law_579 : decode cL_law 579 = .ok (.iload_n 3, 1) := dk_29 (dk_at dksL_law_20 4 rfl rfl)
theorem dL_law_580 : decode cL_law 580 = .ok (.iconst 4, 1) := dk_7 (dk_at dksL_law_20 5 rfl rfl)
theorem dL_law_581 : decode cL_law 581 = .ok (.iadd, 1) := dk_96 (dk_at dksL_law_20 6 rfl rfl)
theorem dL_law_582 : decode cL_law 582 = .ok (.iaload, 1) := dk_46 (dk_at dksL_law_20 7 rfl rfl)
theorem dL_law_583 : decode cL_law 583 = .ok (.invokevirtual 68, 3) := dk_182 0 68 (dk_at dksL_law_20 8 rfl rfl)
theorem dL_law_586 : decode cL_law 586 = .ok (.if_icmp .eq 453, 3) := dk_159 1 197 (dk_at dksL_law_20 11 rfl rfl)
theorem dL_law_589 : decode cL_law 589 = .ok (.iconst 0, 1) := dk_3 (dk_at dksL_law_20 14 rfl rfl)
theorem dL_law_590 : decode cL_law 590 = .ok (.ireturn, 1) := dk_172 (dk_at dksL_law_20 15 rfl rfl)
theorem dL_law_591 : decode cL_law 591 = .ok (.aload_n 1, 1) := dk_43 (dk_at dksL_law_20 16 rfl rfl)
theorem dL_law_592 : decode cL_law 592 = .ok (.aload_n 0, 1) := dk_42 (dk_at dksL_law_20 17 rfl rfl)
theorem dL_law_593 : decode cL_law 593 = .ok (.iload_n 3, 1) := dk_29 (dk_at dksL_law_20 18 rfl rfl)
theorem dL_law_594 : decode cL_law 594 = .ok (.iconst 1, 1) := dk_4 (dk_at dksL_law_20 19 rfl rfl)
theorem dL_law_595 : decode cL_law 595 = .ok (.iadd, 1) := dk_96 (dk_at dksL_law_20 20 rfl rfl)
theorem dL_law_596 : decode cL_law 596 = .ok (.iaload, 1) := dk_46 (dk_at dksL_law_20 21 rfl rfl)
theorem dL_law_597 : decode cL_law 597 = .ok (.aload_n 0, 1) := dk_42 (dk_at dksL_law_20 22 rfl rfl)
theorem dL_law_598 : decode cL_law 598 = .ok (.iload_n 3, 1) := dk_29 (dk_at dksL_law_20 23 rfl rfl)
theorem dL_law_599 : decode cL_law 599 = .ok (.iconst 2, 1) := dk_5 (dk_at dksL_law_21 0 rfl rfl)
theorem dL_law_600 : decode cL_law 600 = .ok (.iadd, 1) := dk_96 (dk_at dksL_law_21 1 rfl rfl)
theorem dL_law_601 : decode cL_law 601 = .ok (.iaload, 1) := dk_46 (dk_at dksL_law_21 2 rfl rfl)
theorem dL_law_602 : decode cL_law 602 = .ok (.aload_n 0, 1) := dk_42 (dk_at dksL_law_21 3 rfl rfl)
theorem dL_law_603 : decode cL_law 603 = .ok (.iload_n 3, 1) := dk_29 (dk_at dksL_law_21 4 rfl rfl)
theorem dL_law_604 : decode cL_law 604 = .ok (.iconst 3, 1) := dk_6 (dk_at dksL_law_21 5 rfl rfl)
theorem dL_law_605 : decode cL_law 605 = .ok (.iadd, 1) := dk_96 (dk_at dksL_law_21 6 rfl rfl)
theorem dL_law_606 : decode cL_law 606 = .ok (.iaload, 1) := dk_46 (dk_at dksL_law_21 7 rfl rfl)
theorem dL_law_607 : decode cL_law 607 = .ok (.invokevirtual 69, 3) := dk_182 0 69 (dk_at dksL_law_21 8 rfl rfl)
theorem dL_law_610 : decode cL_law 610 = .ok (.aload_n 2, 1) := dk_44 (dk_at dksL_law_21 11 rfl rfl)
theorem dL_law_611 : decode cL_law 611 = .ok (.aload_n 0, 1) := dk_42 (dk_at dksL_law_21 12 rfl rfl)
theorem dL_law_612 : decode cL_law 612 = .ok (.iload_n 3, 1) := dk_29 (dk_at dksL_law_21 13 rfl rfl)
theorem dL_law_613 : decode cL_law 613 = .ok (.iconst 1, 1) := dk_4 (dk_at dksL_law_21 14 rfl rfl)
theorem dL_law_614 : decode cL_law 614 = .ok (.iadd, 1) := dk_96 (dk_at dksL_law_21 15 rfl rfl)
theorem dL_law_615 : decode cL_law 615 = .ok (.iaload, 1) := dk_46 (dk_at dksL_law_21 16 rfl rfl)
theorem dL_law_616 : decode cL_law 616 = .ok (.aload_n 0, 1) := dk_42 (dk_at dksL_law_21 17 rfl rfl)
theorem dL_law_617 : decode cL_law 617 = .ok (.iload_n 3, 1) := dk_29 (dk_at dksL_law_21 18 rfl rfl)
theorem dL_law_618 : decode cL_law 618 = .ok (.iconst 2, 1) := dk_5 (dk_at dksL_law_21 19 rfl rfl)
theorem dL_law_619 : decode cL_law 619 = .ok (.iadd, 1) := dk_96 (dk_at dksL_law_21 20 rfl rfl)
theorem dL_law_620 : decode cL_law 620 = .ok (.iaload, 1) := dk_46 (dk_at dksL_law_21 21 rfl rfl)
theorem dL_law_621 : decode cL_law 621 = .ok (.aload_n 0, 1) := dk_42 (dk_at dksL_law_21 22 rfl rfl)
theorem dL_law_622 : decode cL_law 622 = .ok (.iload_n 3, 1) := dk_29 (dk_at dksL_law_21 23 rfl rfl)
theorem dL_law_623 : decode cL_law 623 = .ok (.iconst 3, 1) := dk_6 (dk_at dksL_law_22 0 rfl rfl)
theorem dL_law_624 : decode cL_law 624 = .ok (.iadd, 1) := dk_96 (dk_at dksL_law_22 1 rfl rfl)
theorem dL_law_625 : decode cL_law 625 = .ok (.iaload, 1) := dk_46 (dk_at dksL_law_22 2 rfl rfl)
theorem dL_law_626 : decode cL_law 626 = .ok (.invokevirtual 72, 3) := dk_182 0 72 (dk_at dksL_law_22 3 rfl rfl)
theorem dL_law_629 : decode cL_law 629 = .ok (.if_icmp .eq 410, 3) := dk_159 1 154 (dk_at dksL_law_22 6 rfl rfl)
theorem dL_law_632 : decode cL_law 632 = .ok (.iconst 0, 1) := dk_3 (dk_at dksL_law_22 9 rfl rfl)
theorem dL_law_633 : decode cL_law 633 = .ok (.ireturn, 1) := dk_172 (dk_at dksL_law_22 10 rfl rfl)
theorem dL_law_634 : decode cL_law 634 = .ok (.aload_n 1, 1) := dk_43 (dk_at dksL_law_22 11 rfl rfl)
theorem dL_law_635 : decode cL_law 635 = .ok (.aload_n 0, 1) := dk_42 (dk_at dksL_law_22 12 rfl rfl)
theorem dL_law_636 : decode cL_law 636 = .ok (.iload_n 3, 1) := dk_29 (dk_at dksL_law_22 13 rfl rfl)
theorem dL_law_637 : decode cL_law 637 = .ok (.iconst 1, 1) := dk_4 (dk_at dksL_law_22 14 rfl rfl)
theorem dL_law_638 : decode cL_law 638 = .ok (.iadd, 1) := dk_96 (dk_at dksL_law_22 15 rfl rfl)
theorem dL_law_639 : decode cL_law 639 = .ok (.iaload, 1) := dk_46 (dk_at dksL_law_22 16 rfl rfl)
theorem dL_law_640 : decode cL_law 640 = .ok (.aload_n 0, 1) := dk_42 (dk_at dksL_law_22 17 rfl rfl)
theorem dL_law_641 : decode cL_law 641 = .ok (.iload_n 3, 1) := dk_29 (dk_at dksL_law_22 18 rfl rfl)
theorem dL_law_642 : decode cL_law 642 = .ok (.iconst 2, 1) := dk_5 (dk_at dksL_law_22 19 rfl rfl)
theorem dL_law_643 : decode cL_law 643 = .ok (.iadd, 1) := dk_96 (dk_at dksL_law_22 20 rfl rfl)
theorem dL_law_644 : decode cL_law 644 = .ok (.iaload, 1) := dk_46 (dk_at dksL_law_22 21 rfl rfl)
theorem dL_law_645 : decode cL_law 645 = .ok (.aload_n 0, 1) := dk_42 (dk_at dksL_law_22 22 rfl rfl)
theorem dL_law_646 : decode cL_law 646 = .ok (.iload_n 3, 1) := dk_29 (dk_at dksL_law_22 23 rfl rfl)
theorem dL_law_647 : decode cL_law 647 = .ok (.iconst 3, 1) := dk_6 (dk_at dksL_law_23 0 rfl rfl)
theorem dL_law_648 : decode cL_law 648 = .ok (.iadd, 1) := dk_96 (dk_at dksL_law_23 1 rfl rfl)
theorem dL_law_649 : decode cL_law 649 = .ok (.iaload, 1) := dk_46 (dk_at dksL_law_23 2 rfl rfl)
theorem dL_law_650 : decode cL_law 650 = .ok (.invokevirtual 73, 3) := dk_182 0 73 (dk_at dksL_law_23 3 rfl rfl)
theorem dL_law_653 : decode cL_law 653 = .ok (.aload_n 2, 1) := dk_44 (dk_at dksL_law_23 6 rfl rfl)
theorem dL_law_654 : decode cL_law 654 = .ok (.aload_n 0, 1) := dk_42 (dk_at dksL_law_23 7 rfl rfl)
theorem dL_law_655 : decode cL_law 655 = .ok (.iload_n 3, 1) := dk_29 (dk_at dksL_law_23 8 rfl rfl)
theorem dL_law_656 : decode cL_law 656 = .ok (.iconst 1, 1) := dk_4 (dk_at dksL_law_23 9 rfl rfl)
theorem dL_law_657 : decode cL_law 657 = .ok (.iadd, 1) := dk_96 (dk_at dksL_law_23 10 rfl rfl)
theorem dL_law_658 : decode cL_law 658 = .ok (.iaload, 1) := dk_46 (dk_at dksL_law_23 11 rfl rfl)
theorem dL_law_659 : decode cL_law 659 = .ok (.aload_n 0, 1) := dk_42 (dk_at dksL_law_23 12 rfl rfl)
theorem dL_law_660 : decode cL_law 660 = .ok (.iload_n 3, 1) := dk_29 (dk_at dksL_law_23 13 rfl rfl)
theorem dL_law_661 : decode cL_law 661 = .ok (.iconst 2, 1) := dk_5 (dk_at dksL_law_23 14 rfl rfl)
theorem dL_law_662 : decode cL_law 662 = .ok (.iadd, 1) := dk_96 (dk_at dksL_law_23 15 rfl rfl)
theorem dL_law_663 : decode cL_law 663 = .ok (.iaload, 1) := dk_46 (dk_at dksL_law_23 16 rfl rfl)
theorem dL_law_664 : decode cL_law 664 = .ok (.aload_n 0, 1) := dk_42 (dk_at dksL_law_23 17 rfl rfl)
theorem dL_law_665 : decode cL_law 665 = .ok (.iload_n 3, 1) := dk_29 (dk_at dksL_law_23 18 rfl rfl)
theorem dL_law_666 : decode cL_law 666 = .ok (.iconst 3, 1) := dk_6 (dk_at dksL_law_23 19 rfl rfl)
theorem dL_law_667 : decode cL_law 667 = .ok (.iadd, 1) := dk_96 (dk_at dksL_law_23 20 rfl rfl)
theorem dL_law_668 : decode cL_law 668 = .ok (.iaload, 1) := dk_46 (dk_at dksL_law_23 21 rfl rfl)
theorem dL_law_669 : decode cL_law 669 = .ok (.invokevirtual 76, 3) := dk_182 0 76 (dk_at dksL_law_24 0 rfl rfl)
theorem dL_law_672 : decode cL_law 672 = .ok (.if_icmp .eq 367, 3) := dk_159 1 111 (dk_at dksL_law_24 3 rfl rfl)
theorem dL_law_675 : decode cL_law 675 = .ok (.iconst 0, 1) := dk_3 (dk_at dksL_law_24 6 rfl rfl)
theorem dL_law_676 : decode cL_law 676 = .ok (.ireturn, 1) := dk_172 (dk_at dksL_law_24 7 rfl rfl)
theorem dL_law_677 : decode cL_law 677 = .ok (.aload_n 1, 1) := dk_43 (dk_at dksL_law_24 8 rfl rfl)
theorem dL_law_678 : decode cL_law 678 = .ok (.aload_n 0, 1) := dk_42 (dk_at dksL_law_24 9 rfl rfl)
theorem dL_law_679 : decode cL_law 679 = .ok (.iload_n 3, 1) := dk_29 (dk_at dksL_law_24 10 rfl rfl)
theorem dL_law_680 : decode cL_law 680 = .ok (.iconst 1, 1) := dk_4 (dk_at dksL_law_24 11 rfl rfl)
theorem dL_law_681 : decode cL_law 681 = .ok (.iadd, 1) := dk_96 (dk_at dksL_law_24 12 rfl rfl)
theorem dL_law_682 : decode cL_law 682 = .ok (.iaload, 1) := dk_46 (dk_at dksL_law_24 13 rfl rfl)
theorem dL_law_683 : decode cL_law 683 = .ok (.invokevirtual 77, 3) := dk_182 0 77 (dk_at dksL_law_24 14 rfl rfl)
theorem dL_law_686 : decode cL_law 686 = .ok (.aload_n 2, 1) := dk_44 (dk_at dksL_law_24 17 rfl rfl)
theorem dL_law_687 : decode cL_law 687 = .ok (.aload_n 0, 1) := dk_42 (dk_at dksL_law_24 18 rfl rfl)
theorem dL_law_688 : decode cL_law 688 = .ok (.iload_n 3, 1) := dk_29 (dk_at dksL_law_24 19 rfl rfl)
theorem dL_law_689 : decode cL_law 689 = .ok (.iconst 1, 1) := dk_4 (dk_at dksL_law_24 20 rfl rfl)
theorem dL_law_690 : decode cL_law 690 = .ok (.iadd, 1) := dk_96 (dk_at dksL_law_24 21 rfl rfl)
theorem dL_law_691 : decode cL_law 691 = .ok (.iaload, 1) := dk_46 (dk_at dksL_law_24 22 rfl rfl)
theorem dL_law_692 : decode cL_law 692 = .ok (.invokevirtual 80, 3) := dk_182 0 80 (dk_at dksL_law_25 0 rfl rfl)
theorem dL_law_695 : decode cL_law 695 = .ok (.if_icmp .eq 344, 3) := dk_159 1 88 (dk_at dksL_law_25 3 rfl rfl)
theorem dL_law_698 : decode cL_law 698 = .ok (.iconst 0, 1) := dk_3 (dk_at dksL_law_25 6 rfl rfl)
theorem dL_law_699 : decode cL_law 699 = .ok (.ireturn, 1) := dk_172 (dk_at dksL_law_25 7 rfl rfl)
theorem dL_law_700 : decode cL_law 700 = .ok (.aload_n 1, 1) := dk_43 (dk_at dksL_law_25 8 rfl rfl)
theorem dL_law_701 : decode cL_law 701 = .ok (.aload_n 0, 1) := dk_42 (dk_at dksL_law_25 9 rfl rfl)
theorem dL_law_702 : decode cL_law 702 = .ok (.iload_n 3, 1) := dk_29 (dk_at dksL_law_25 10 rfl rfl)
theorem dL_law_703 : decode cL_law 703 = .ok (.iconst 1, 1) := dk_4 (dk_at dksL_law_25 11 rfl rfl)
theorem dL_law_704 : decode cL_law 704 = .ok (.iadd, 1) := dk_96 (dk_at dksL_law_25 12 rfl rfl)
theorem dL_law_705 : decode cL_law 705 = .ok (.iaload, 1) := dk_46 (dk_at dksL_law_25 13 rfl rfl)
theorem dL_law_706 : decode cL_law 706 = .ok (.aload_n 0, 1) := dk_42 (dk_at dksL_law_25 14 rfl rfl)
theorem dL_law_707 : decode cL_law 707 = .ok (.iload_n 3, 1) := dk_29 (dk_at dksL_law_25 15 rfl rfl)
theorem dL_law_708 : decode cL_law 708 = .ok (.iconst 2, 1) := dk_5 (dk_at dksL_law_25 16 rfl rfl)
theorem dL_law_709 : decode cL_law 709 = .ok (.iadd, 1) := dk_96 (dk_at dksL_law_25 17 rfl rfl)
theorem dL_law_710 : decode cL_law 710 = .ok (.iaload, 1) := dk_46 (dk_at dksL_law_25 18 rfl rfl)
theorem dL_law_711 : decode cL_law 711 = .ok (.invokevirtual 81, 3) := dk_182 0 81 (dk_at dksL_law_25 19 rfl rfl)
theorem dL_law_714 : decode cL_law 714 = .ok (.aload_n 2, 1) := dk_44 (dk_at dksL_law_25 22 rfl rfl)
theorem dL_law_715 : decode cL_law 715 = .ok (.aload_n 0, 1) := dk_42 (dk_at dksL_law_25 23 rfl rfl)
theorem dL_law_716 : decode cL_law 716 = .ok (.iload_n 3, 1) := dk_29 (dk_at dksL_law_26 0 rfl rfl)
theorem dL_law_717 : decode cL_law 717 = .ok (.iconst 1, 1) := dk_4 (dk_at dksL_law_26 1 rfl rfl)
theorem dL_law_718 : decode cL_law 718 = .ok (.iadd, 1) := dk_96 (dk_at dksL_law_26 2 rfl rfl)
theorem dL_law_719 : decode cL_law 719 = .ok (.iaload, 1) := dk_46 (dk_at dksL_law_26 3 rfl rfl)
theorem dL_law_720 : decode cL_law 720 = .ok (.aload_n 0, 1) := dk_42 (dk_at dksL_law_26 4 rfl rfl)
theorem dL_law_721 : decode cL_law 721 = .ok (.iload_n 3, 1) := dk_29 (dk_at dksL_law_26 5 rfl rfl)
theorem dL_law_722 : decode cL_law 722 = .ok (.iconst 2, 1) := dk_5 (dk_at dksL_law_26 6 rfl rfl)
theorem dL_law_723 : decode cL_law 723 = .ok (.iadd, 1) := dk_96 (dk_at dksL_law_26 7 rfl rfl)
theorem dL_law_724 : decode cL_law 724 = .ok (.iaload, 1) := dk_46 (dk_at dksL_law_26 8 rfl rfl)
theorem dL_law_725 : decode cL_law 725 = .ok (.invokevirtual 84, 3) := dk_182 0 84 (dk_at dksL_law_26 9 rfl rfl)
theorem dL_law_728 : decode cL_law 728 = .ok (.if_icmp .eq 311, 3) := dk_159 1 55 (dk_at dksL_law_26 12 rfl rfl)
theorem dL_law_731 : decode cL_law 731 = .ok (.iconst 0, 1) := dk_3 (dk_at dksL_law_26 15 rfl rfl)
theorem dL_law_732 : decode cL_law 732 = .ok (.ireturn, 1) := dk_172 (dk_at dksL_law_26 16 rfl rfl)
theorem dL_law_733 : decode cL_law 733 = .ok (.aload_n 1, 1) := dk_43 (dk_at dksL_law_26 17 rfl rfl)
theorem dL_law_734 : decode cL_law 734 = .ok (.invokevirtual 85, 3) := dk_182 0 85 (dk_at dksL_law_26 18 rfl rfl)
theorem dL_law_737 : decode cL_law 737 = .ok (.aload_n 2, 1) := dk_44 (dk_at dksL_law_26 21 rfl rfl)
theorem dL_law_738 : decode cL_law 738 = .ok (.invokevirtual 89, 3) := dk_182 0 89 (dk_at dksL_law_27 0 rfl rfl)
theorem dL_law_741 : decode cL_law 741 = .ok (.if_icmp .eq 298, 3) := dk_159 1 42 (dk_at dksL_law_27 3 rfl rfl)
theorem dL_law_744 : decode cL_law 744 = .ok (.iconst 0, 1) := dk_3 (dk_at dksL_law_27 6 rfl rfl)
theorem dL_law_745 : decode cL_law 745 = .ok (.ireturn, 1) := dk_172 (dk_at dksL_law_27 7 rfl rfl)
theorem dL_law_746 : decode cL_law 746 = .ok (.aload_n 1, 1) := dk_43 (dk_at dksL_law_27 8 rfl rfl)
theorem dL_law_747 : decode cL_law 747 = .ok (.aload_n 0, 1) := dk_42 (dk_at dksL_law_27 9 rfl rfl)
theorem dL_law_748 : decode cL_law 748 = .ok (.iload_n 3, 1) := dk_29 (dk_at dksL_law_27 10 rfl rfl)
theorem dL_law_749 : decode cL_law 749 = .ok (.iconst 1, 1) := dk_4 (dk_at dksL_law_27 11 rfl rfl)
theorem dL_law_750 : decode cL_law 750 = .ok (.iadd, 1) := dk_96 (dk_at dksL_law_27 12 rfl rfl)
theorem dL_law_751 : decode cL_law 751 = .ok (.iaload, 1) := dk_46 (dk_at dksL_law_27 13 rfl rfl)
theorem dL_law_752 : decode cL_law 752 = .ok (.invokevirtual 90, 3) := dk_182 0 90 (dk_at dksL_law_27 14 rfl rfl)
theorem dL_law_755 : decode cL_law 755 = .ok (.aload_n 2, 1) := dk_44 (dk_at dksL_law_27 17 rfl rfl)
theorem dL_law_756 : decode cL_law 756 = .ok (.aload_n 0, 1) := dk_42 (dk_at dksL_law_27 18 rfl rfl)
theorem dL_law_757 : decode cL_law 757 = .ok (.iload_n 3, 1) := dk_29 (dk_at dksL_law_27 19 rfl rfl)
theorem dL_law_758 : decode cL_law 758 = .ok (.iconst 1, 1) := dk_4 (dk_at dksL_law_27 20 rfl rfl)
theorem dL_law_759 : decode cL_law 759 = .ok (.iadd, 1) := dk_96 (dk_at dksL_law_27 21 rfl rfl)
theorem dL_law_760 : decode cL_law 760 = .ok (.iaload, 1) := dk_46 (dk_at dksL_law_27 22 rfl rfl)
theorem dL_law_761 : decode cL_law 761 = .ok (.invokevirtual 93, 3) := dk_182 0 93 (dk_at dksL_law_28 0 rfl rfl)
theorem dL_law_764 : decode cL_law 764 = .ok (.if_icmp .eq 275, 3) := dk_159 1 19 (dk_at dksL_law_28 3 rfl rfl)
theorem dL_law_767 : decode cL_law 767 = .ok (.iconst 0, 1) := dk_3 (dk_at dksL_law_28 6 rfl rfl)
theorem dL_law_768 : decode cL_law 768 = .ok (.ireturn, 1) := dk_172 (dk_at dksL_law_28 7 rfl rfl)
theorem dL_law_769 : decode cL_law 769 = .ok (.aload_n 1, 1) := dk_43 (dk_at dksL_law_28 8 rfl rfl)
theorem dL_law_770 : decode cL_law 770 = .ok (.invokevirtual 94, 3) := dk_182 0 94 (dk_at dksL_law_28 9 rfl rfl)
theorem dL_law_773 : decode cL_law 773 = .ok (.aload_n 2, 1) := dk_44 (dk_at dksL_law_28 12 rfl rfl)
theorem dL_law_774 : decode cL_law 774 = .ok (.invokevirtual 97, 3) := dk_182 0 97 (dk_at dksL_law_28 13 rfl rfl)
theorem dL_law_777 : decode cL_law 777 = .ok (.if_icmp .eq 262, 3) := dk_159 1 6 (dk_at dksL_law_28 16 rfl rfl)
theorem dL_law_780 : decode cL_law 780 = .ok (.iconst 0, 1) := dk_3 (dk_at dksL_law_28 19 rfl rfl)
theorem dL_law_781 : decode cL_law 781 = .ok (.ireturn, 1) := dk_172 (dk_at dksL_law_28 20 rfl rfl)
theorem dL_law_782 : decode cL_law 782 = .ok (.aload_n 1, 1) := dk_43 (dk_at dksL_law_28 21 rfl rfl)
theorem dL_law_783 : decode cL_law 783 = .ok (.aload_n 0, 1) := dk_42 (dk_at dksL_law_28 22 rfl rfl)
theorem dL_law_784 : decode cL_law 784 = .ok (.iload_n 3, 1) := dk_29 (dk_at dksL_law_28 23 rfl rfl)
theorem dL_law_785 : decode cL_law 785 = .ok (.iconst 1, 1) := dk_4 (dk_at dksL_law_29 0 rfl rfl)
theorem dL_law_786 : decode cL_law 786 = .ok (.iadd, 1) := dk_96 (dk_at dksL_law_29 1 rfl rfl)
theorem dL_law_787 : decode cL_law 787 = .ok (.iaload, 1) := dk_46 (dk_at dksL_law_29 2 rfl rfl)
theorem dL_law_788 : decode cL_law 788 = .ok (.invokevirtual 98, 3) := dk_182 0 98 (dk_at dksL_law_29 3 rfl rfl)
theorem dL_law_791 : decode cL_law 791 = .ok (.aload_n 2, 1) := dk_44 (dk_at dksL_law_29 6 rfl rfl)
theorem dL_law_792 : decode cL_law 792 = .ok (.aload_n 0, 1) := dk_42 (dk_at dksL_law_29 7 rfl rfl)
theorem dL_law_793 : decode cL_law 793 = .ok (.iload_n 3, 1) := dk_29 (dk_at dksL_law_29 8 rfl rfl)
theorem dL_law_794 : decode cL_law 794 = .ok (.iconst 1, 1) := dk_4 (dk_at dksL_law_29 9 rfl rfl)
theorem dL_law_795 : decode cL_law 795 = .ok (.iadd, 1) := dk_96 (dk_at dksL_law_29 10 rfl rfl)
theorem dL_law_796 : decode cL_law 796 = .ok (.iaload, 1) := dk_46 (dk_at dksL_law_29 11 rfl rfl)
theorem dL_law_797 : decode cL_law 797 = .ok (.invokevirtual 101, 3) := dk_182 0 101 (dk_at dksL_law_29 12 rfl rfl)
theorem dL_law_800 : decode cL_law 800 = .ok (.if_icmp .eq 239, 3) := dk_159 0 239 (dk_at dksL_law_29 15 rfl rfl)
theorem dL_law_803 : decode cL_law 803 = .ok (.iconst 0, 1) := dk_3 (dk_at dksL_law_29 18 rfl rfl)
theorem dL_law_804 : decode cL_law 804 = .ok (.ireturn, 1) := dk_172 (dk_at dksL_law_29 19 rfl rfl)
theorem dL_law_805 : decode cL_law 805 = .ok (.aload_n 1, 1) := dk_43 (dk_at dksL_law_29 20 rfl rfl)
theorem dL_law_806 : decode cL_law 806 = .ok (.invokevirtual 102, 3) := dk_182 0 102 (dk_at dksL_law_29 21 rfl rfl)
theorem dL_law_809 : decode cL_law 809 = .ok (.aload_n 2, 1) := dk_44 (dk_at dksL_law_30 0 rfl rfl)
theorem dL_law_810 : decode cL_law 810 = .ok (.invokevirtual 105, 3) := dk_182 0 105 (dk_at dksL_law_30 1 rfl rfl)
theorem dL_law_813 : decode cL_law 813 = .ok (.if_icmp .eq 226, 3) := dk_159 0 226 (dk_at dksL_law_30 4 rfl rfl)
theorem dL_law_816 : decode cL_law 816 = .ok (.iconst 0, 1) := dk_3 (dk_at dksL_law_30 7 rfl rfl)
theorem dL_law_817 : decode cL_law 817 = .ok (.ireturn, 1) := dk_172 (dk_at dksL_law_30 8 rfl rfl)
theorem dL_law_818 : decode cL_law 818 = .ok (.aload_n 1, 1) := dk_43 (dk_at dksL_law_30 9 rfl rfl)
theorem dL_law_819 : decode cL_law 819 = .ok (.aload_n 0, 1) := dk_42 (dk_at dksL_law_30 10 rfl rfl)
theorem dL_law_820 : decode cL_law 820 = .ok (.iload_n 3, 1) := dk_29 (dk_at dksL_law_30 11 rfl rfl)
theorem dL_law_821 : decode cL_law 821 = .ok (.iconst 1, 1) := dk_4 (dk_at dksL_law_30 12 rfl rfl)
theorem dL_law_822 : decode cL_law 822 = .ok (.iadd, 1) := dk_96 (dk_at dksL_law_30 13 rfl rfl)
theorem dL_law_823 : decode cL_law 823 = .ok (.iaload, 1) := dk_46 (dk_at dksL_law_30 14 rfl rfl)
theorem dL_law_824 : decode cL_law 824 = .ok (.invokevirtual 106, 3) := dk_182 0 106 (dk_at dksL_law_30 15 rfl rfl)
theorem dL_law_827 : decode cL_law 827 = .ok (.aload_n 2, 1) := dk_44 (dk_at dksL_law_30 18 rfl rfl)
theorem dL_law_828 : decode cL_law 828 = .ok (.aload_n 0, 1) := dk_42 (dk_at dksL_law_30 19 rfl rfl)
theorem dL_law_829 : decode cL_law 829 = .ok (.iload_n 3, 1) := dk_29 (dk_at dksL_law_30 20 rfl rfl)
theorem dL_law_830 : decode cL_law 830 = .ok (.iconst 1, 1) := dk_4 (dk_at dksL_law_30 21 rfl rfl)
theorem dL_law_831 : decode cL_law 831 = .ok (.iadd, 1) := dk_96 (dk_at dksL_law_30 22 rfl rfl)
theorem dL_law_832 : decode cL_law 832 = .ok (.iaload, 1) := dk_46 (dk_at dksL_law_30 23 rfl rfl)
theorem dL_law_833 : decode cL_law 833 = .ok (.invokevirtual 109, 3) := dk_182 0 109 (dk_at dksL_law_31 0 rfl rfl)
theorem dL_law_836 : decode cL_law 836 = .ok (.if_icmp .eq 203, 3) := dk_159 0 203 (dk_at dksL_law_31 3 rfl rfl)
theorem dL_law_839 : decode cL_law 839 = .ok (.iconst 0, 1) := dk_3 (dk_at dksL_law_31 6 rfl rfl)
theorem dL_law_840 : decode cL_law 840 = .ok (.ireturn, 1) := dk_172 (dk_at dksL_law_31 7 rfl rfl)
theorem dL_law_841 : decode cL_law 841 = .ok (.aload_n 1, 1) := dk_43 (dk_at dksL_law_31 8 rfl rfl)
theorem dL_law_842 : decode cL_law 842 = .ok (.aload_n 0, 1) := dk_42 (dk_at dksL_law_31 9 rfl rfl)
theorem dL_law_843 : decode cL_law 843 = .ok (.iload_n 3, 1) := dk_29 (dk_at dksL_law_31 10 rfl rfl)
theorem dL_law_844 : decode cL_law 844 = .ok (.iconst 1, 1) := dk_4 (dk_at dksL_law_31 11 rfl rfl)
theorem dL_law_845 : decode cL_law 845 = .ok (.iadd, 1) := dk_96 (dk_at dksL_law_31 12 rfl rfl)
theorem dL_law_846 : decode cL_law 846 = .ok (.iaload, 1) := dk_46 (dk_at dksL_law_31 13 rfl rfl)
theorem dL_law_847 : decode cL_law 847 = .ok (.ifCond .eq 7, 3) := dk_153 0 7 (dk_at dksL_law_31 14 rfl rfl)
theorem dL_law_850 : decode cL_law 850 = .ok (.iconst 1, 1) := dk_4 (dk_at dksL_law_31 17 rfl rfl)
theorem dL_law_851 : decode cL_law 851 = .ok (.goto 4, 3) := dk_167 0 4 (dk_at dksL_law_31 18 rfl rfl)
theorem dL_law_854 : decode cL_law 854 = .ok (.iconst 0, 1) := dk_3 (dk_at dksL_law_31 21 rfl rfl)
theorem dL_law_855 : decode cL_law 855 = .ok (.invokevirtual 110, 3) := dk_182 0 110 (dk_at dksL_law_32 0 rfl rfl)
theorem dL_law_858 : decode cL_law 858 = .ok (.aload_n 2, 1) := dk_44 (dk_at dksL_law_32 3 rfl rfl)
theorem dL_law_859 : decode cL_law 859 = .ok (.aload_n 0, 1) := dk_42 (dk_at dksL_law_32 4 rfl rfl)
theorem dL_law_860 : decode cL_law 860 = .ok (.iload_n 3, 1) := dk_29 (dk_at dksL_law_32 5 rfl rfl)
theorem dL_law_861 : decode cL_law 861 = .ok (.iconst 1, 1) := dk_4 (dk_at dksL_law_32 6 rfl rfl)
theorem dL_law_862 : decode cL_law 862 = .ok (.iadd, 1) := dk_96 (dk_at dksL_law_32 7 rfl rfl)
theorem dL_law_863 : decode cL_law 863 = .ok (.iaload, 1) := dk_46 (dk_at dksL_law_32 8 rfl rfl)
theorem dL_law_864 : decode cL_law 864 = .ok (.ifCond .eq 7, 3) := dk_153 0 7 (dk_at dksL_law_32 9 rfl rfl)
theorem dL_law_867 : decode cL_law 867 = .ok (.iconst 1, 1) := dk_4 (dk_at dksL_law_32 12 rfl rfl)
theorem dL_law_868 : decode cL_law 868 = .ok (.goto 4, 3) := dk_167 0 4 (dk_at dksL_law_32 13 rfl rfl)
theorem dL_law_871 : decode cL_law 871 = .ok (.iconst 0, 1) := dk_3 (dk_at dksL_law_32 16 rfl rfl)
theorem dL_law_872 : decode cL_law 872 = .ok (.invokevirtual 114, 3) := dk_182 0 114 (dk_at dksL_law_32 17 rfl rfl)
theorem dL_law_875 : decode cL_law 875 = .ok (.if_icmp .eq 164, 3) := dk_159 0 164 (dk_at dksL_law_32 20 rfl rfl)
theorem dL_law_878 : decode cL_law 878 = .ok (.iconst 0, 1) := dk_3 (dk_at dksL_law_32 23 rfl rfl)
theorem dL_law_879 : decode cL_law 879 = .ok (.ireturn, 1) := dk_172 (dk_at dksL_law_33 0 rfl rfl)
theorem dL_law_880 : decode cL_law 880 = .ok (.aload_n 1, 1) := dk_43 (dk_at dksL_law_33 1 rfl rfl)
theorem dL_law_881 : decode cL_law 881 = .ok (.aload_n 0, 1) := dk_42 (dk_at dksL_law_33 2 rfl rfl)
theorem dL_law_882 : decode cL_law 882 = .ok (.iload_n 3, 1) := dk_29 (dk_at dksL_law_33 3 rfl rfl)
theorem dL_law_883 : decode cL_law 883 = .ok (.iconst 1, 1) := dk_4 (dk_at dksL_law_33 4 rfl rfl)
theorem dL_law_884 : decode cL_law 884 = .ok (.iadd, 1) := dk_96 (dk_at dksL_law_33 5 rfl rfl)
theorem dL_law_885 : decode cL_law 885 = .ok (.iaload, 1) := dk_46 (dk_at dksL_law_33 6 rfl rfl)
theorem dL_law_886 : decode cL_law 886 = .ok (.invokevirtual 115, 3) := dk_182 0 115 (dk_at dksL_law_33 7 rfl rfl)
theorem dL_law_889 : decode cL_law 889 = .ok (.aload_n 2, 1) := dk_44 (dk_at dksL_law_33 10 rfl rfl)
theorem dL_law_890 : decode cL_law 890 = .ok (.aload_n 0, 1) := dk_42 (dk_at dksL_law_33 11 rfl rfl)
theorem dL_law_891 : decode cL_law 891 = .ok (.iload_n 3, 1) := dk_29 (dk_at dksL_law_33 12 rfl rfl)
theorem dL_law_892 : decode cL_law 892 = .ok (.iconst 1, 1) := dk_4 (dk_at dksL_law_33 13 rfl rfl)
theorem dL_law_893 : decode cL_law 893 = .ok (.iadd, 1) := dk_96 (dk_at dksL_law_33 14 rfl rfl)
theorem dL_law_894 : decode cL_law 894 = .ok (.iaload, 1) := dk_46 (dk_at dksL_law_33 15 rfl rfl)
theorem dL_law_895 : decode cL_law 895 = .ok (.invokevirtual 118, 3) := dk_182 0 118 (dk_at dksL_law_33 16 rfl rfl)
theorem dL_law_898 : decode cL_law 898 = .ok (.if_icmp .eq 141, 3) := dk_159 0 141 (dk_at dksL_law_33 19 rfl rfl)
theorem dL_law_901 : decode cL_law 901 = .ok (.iconst 0, 1) := dk_3 (dk_at dksL_law_33 22 rfl rfl)
theorem dL_law_902 : decode cL_law 902 = .ok (.ireturn, 1) := dk_172 (dk_at dksL_law_33 23 rfl rfl)
theorem dL_law_903 : decode cL_law 903 = .ok (.aload_n 1, 1) := dk_43 (dk_at dksL_law_34 0 rfl rfl)
theorem dL_law_904 : decode cL_law 904 = .ok (.invokevirtual 119, 3) := dk_182 0 119 (dk_at dksL_law_34 1 rfl rfl)
theorem dL_law_907 : decode cL_law 907 = .ok (.aload_n 2, 1) := dk_44 (dk_at dksL_law_34 4 rfl rfl)
theorem dL_law_908 : decode cL_law 908 = .ok (.invokevirtual 122, 3) := dk_182 0 122 (dk_at dksL_law_34 5 rfl rfl)
theorem dL_law_911 : decode cL_law 911 = .ok (.if_icmp .eq 128, 3) := dk_159 0 128 (dk_at dksL_law_34 8 rfl rfl)
theorem dL_law_914 : decode cL_law 914 = .ok (.iconst 0, 1) := dk_3 (dk_at dksL_law_34 11 rfl rfl)
theorem dL_law_915 : decode cL_law 915 = .ok (.ireturn, 1) := dk_172 (dk_at dksL_law_34 12 rfl rfl)
theorem dL_law_916 : decode cL_law 916 = .ok (.aload_n 1, 1) := dk_43 (dk_at dksL_law_34 13 rfl rfl)
theorem dL_law_917 : decode cL_law 917 = .ok (.invokevirtual 123, 3) := dk_182 0 123 (dk_at dksL_law_34 14 rfl rfl)
theorem dL_law_920 : decode cL_law 920 = .ok (.dstore 4, 2) := dk_57 4 (dk_at dksL_law_34 17 rfl rfl)
theorem dL_law_922 : decode cL_law 922 = .ok (.aload_n 2, 1) := dk_44 (dk_at dksL_law_34 19 rfl rfl)
theorem dL_law_923 : decode cL_law 923 = .ok (.invokevirtual 127, 3) := dk_182 0 127 (dk_at dksL_law_34 20 rfl rfl)
theorem dL_law_926 : decode cL_law 926 = .ok (.dstore 6, 2) := dk_57 6 (dk_at dksL_law_35 0 rfl rfl)
theorem dL_law_928 : decode cL_law 928 = .ok (.dload 4, 2) := dk_24 4 (dk_at dksL_law_35 2 rfl rfl)
theorem dL_law_930 : decode cL_law 930 = .ok (.dload 6, 2) := dk_24 6 (dk_at dksL_law_35 4 rfl rfl)
theorem dL_law_932 : decode cL_law 932 = .ok (.dcmp .l, 1) := dk_151 (dk_at dksL_law_35 6 rfl rfl)
theorem dL_law_933 : decode cL_law 933 = .ok (.ifCond .eq 21, 3) := dk_153 0 21 (dk_at dksL_law_35 7 rfl rfl)
theorem dL_law_936 : decode cL_law 936 = .ok (.dload 4, 2) := dk_24 4 (dk_at dksL_law_35 10 rfl rfl)
theorem dL_law_938 : decode cL_law 938 = .ok (.dload 4, 2) := dk_24 4 (dk_at dksL_law_35 12 rfl rfl)
theorem dL_law_940 : decode cL_law 940 = .ok (.dcmp .l, 1) := dk_151 (dk_at dksL_law_35 14 rfl rfl)
theorem dL_law_941 : decode cL_law 941 = .ok (.ifCond .eq 11, 3) := dk_153 0 11 (dk_at dksL_law_35 15 rfl rfl)
theorem dL_law_944 : decode cL_law 944 = .ok (.dload 6, 2) := dk_24 6 (dk_at dksL_law_35 18 rfl rfl)
theorem dL_law_946 : decode cL_law 946 = .ok (.dload 6, 2) := dk_24 6 (dk_at dksL_law_35 20 rfl rfl)
theorem dL_law_948 : decode cL_law 948 = .ok (.dcmp .l, 1) := dk_151 (dk_at dksL_law_35 22 rfl rfl)
theorem dL_law_949 : decode cL_law 949 = .ok (.ifCond .ne 5, 3) := dk_154 0 5 (dk_at dksL_law_36 0 rfl rfl)
theorem dL_law_952 : decode cL_law 952 = .ok (.iconst 0, 1) := dk_3 (dk_at dksL_law_36 3 rfl rfl)
theorem dL_law_953 : decode cL_law 953 = .ok (.ireturn, 1) := dk_172 (dk_at dksL_law_36 4 rfl rfl)
theorem dL_law_954 : decode cL_law 954 = .ok (.goto 85, 3) := dk_167 0 85 (dk_at dksL_law_36 5 rfl rfl)
theorem dL_law_957 : decode cL_law 957 = .ok (.aload_n 1, 1) := dk_43 (dk_at dksL_law_36 8 rfl rfl)
theorem dL_law_958 : decode cL_law 958 = .ok (.invokevirtual 128, 3) := dk_182 0 128 (dk_at dksL_law_36 9 rfl rfl)
theorem dL_law_961 : decode cL_law 961 = .ok (.f2d, 1) := dk_141 (dk_at dksL_law_36 12 rfl rfl)
theorem dL_law_962 : decode cL_law 962 = .ok (.dstore 4, 2) := dk_57 4 (dk_at dksL_law_36 13 rfl rfl)
theorem dL_law_964 : decode cL_law 964 = .ok (.aload_n 2, 1) := dk_44 (dk_at dksL_law_36 15 rfl rfl)
theorem dL_law_965 : decode cL_law 965 = .ok (.invokevirtual 132, 3) := dk_182 0 132 (dk_at dksL_law_36 16 rfl rfl)
theorem dL_law_968 : decode cL_law 968 = .ok (.f2d, 1) := dk_141 (dk_at dksL_law_36 19 rfl rfl)
theorem dL_law_969 : decode cL_law 969 = .ok (.dstore 6, 2) := dk_57 6 (dk_at dksL_law_36 20 rfl rfl)
theorem dL_law_971 : decode cL_law 971 = .ok (.dload 4, 2) := dk_24 4 (dk_at dksL_law_36 22 rfl rfl)
theorem dL_law_973 : decode cL_law 973 = .ok (.dload 6, 2) := dk_24 6 (dk_at dksL_law_37 0 rfl rfl)
theorem dL_law_975 : decode cL_law 975 = .ok (.dcmp .l, 1) := dk_151 (dk_at dksL_law_37 2 rfl rfl)
theorem dL_law_976 : decode cL_law 976 = .ok (.ifCond .eq 21, 3) := dk_153 0 21 (dk_at dksL_law_37 3 rfl rfl)
theorem dL_law_979 : decode cL_law 979 = .ok (.dload 4, 2) := dk_24 4 (dk_at dksL_law_37 6 rfl rfl)
theorem dL_law_981 : decode cL_law 981 = .ok (.dload 4, 2) := dk_24 4 (dk_at dksL_law_37 8 rfl rfl)
theorem dL_law_983 : decode cL_law 983 = .ok (.dcmp .l, 1) := dk_151 (dk_at dksL_law_37 10 rfl rfl)
theorem dL_law_984 : decode cL_law 984 = .ok (.ifCond .eq 11, 3) := dk_153 0 11 (dk_at dksL_law_37 11 rfl rfl)
theorem dL_law_987 : decode cL_law 987 = .ok (.dload 6, 2) := dk_24 6 (dk_at dksL_law_37 14 rfl rfl)
theorem dL_law_989 : decode cL_law 989 = .ok (.dload 6, 2) := dk_24 6 (dk_at dksL_law_37 16 rfl rfl)
theorem dL_law_991 : decode cL_law 991 = .ok (.dcmp .l, 1) := dk_151 (dk_at dksL_law_37 18 rfl rfl)
theorem dL_law_992 : decode cL_law 992 = .ok (.ifCond .ne 5, 3) := dk_154 0 5 (dk_at dksL_law_37 19 rfl rfl)
theorem dL_law_995 : decode cL_law 995 = .ok (.iconst 0, 1) := dk_3 (dk_at dksL_law_37 22 rfl rfl)
theorem dL_law_996 : decode cL_law 996 = .ok (.ireturn, 1) := dk_172 (dk_at dksL_law_37 23 rfl rfl)
theorem dL_law_997 : decode cL_law 997 = .ok (.goto 42, 3) := dk_167 0 42 (dk_at dksL_law_38 0 rfl rfl)
theorem dL_law_1000 : decode cL_law 1000 = .ok (.aload_n 1, 1) := dk_43 (dk_at dksL_law_38 3 rfl rfl)
theorem dL_law_1001 : decode cL_law 1001 = .ok (.invokevirtual 133, 3) := dk_182 0 133 (dk_at dksL_law_38 4 rfl rfl)
theorem dL_law_1004 : decode cL_law 1004 = .ok (.aload_n 2, 1) := dk_44 (dk_at dksL_law_38 7 rfl rfl)
theorem dL_law_1005 : decode cL_law 1005 = .ok (.invokevirtual 136, 3) := dk_182 0 136 (dk_at dksL_law_38 8 rfl rfl)
theorem dL_law_1008 : decode cL_law 1008 = .ok (.if_icmp .eq 31, 3) := dk_159 0 31 (dk_at dksL_law_38 11 rfl rfl)
theorem dL_law_1011 : decode cL_law 1011 = .ok (.iconst 0, 1) := dk_3 (dk_at dksL_law_38 14 rfl rfl)
theorem dL_law_1012 : decode cL_law 1012 = .ok (.ireturn, 1) := dk_172 (dk_at dksL_law_38 15 rfl rfl)
theorem dL_law_1013 : decode cL_law 1013 = .ok (.aload_n 1, 1) := dk_43 (dk_at dksL_law_38 16 rfl rfl)
theorem dL_law_1014 : decode cL_law 1014 = .ok (.invokevirtual 137, 3) := dk_182 0 137 (dk_at dksL_law_38 17 rfl rfl)
theorem dL_law_1017 : decode cL_law 1017 = .ok (.aload_n 2, 1) := dk_44 (dk_at dksL_law_38 20 rfl rfl)
theorem dL_law_1018 : decode cL_law 1018 = .ok (.invokevirtual 140, 3) := dk_182 0 140 (dk_at dksL_law_38 21 rfl rfl)
theorem dL_law_1021 : decode cL_law 1021 = .ok (.if_icmp .eq 18, 3) := dk_159 0 18 (dk_at dksL_law_39 0 rfl rfl)
theorem dL_law_1024 : decode cL_law 1024 = .ok (.iconst 0, 1) := dk_3 (dk_at dksL_law_39 3 rfl rfl)
theorem dL_law_1025 : decode cL_law 1025 = .ok (.ireturn, 1) := dk_172 (dk_at dksL_law_39 4 rfl rfl)
theorem dL_law_1026 : decode cL_law 1026 = .ok (.aload_n 1, 1) := dk_43 (dk_at dksL_law_39 5 rfl rfl)
theorem dL_law_1027 : decode cL_law 1027 = .ok (.invokevirtual 141, 3) := dk_182 0 141 (dk_at dksL_law_39 6 rfl rfl)
theorem dL_law_1030 : decode cL_law 1030 = .ok (.aload_n 2, 1) := dk_44 (dk_at dksL_law_39 9 rfl rfl)
theorem dL_law_1031 : decode cL_law 1031 = .ok (.invokevirtual 144, 3) := dk_182 0 144 (dk_at dksL_law_39 10 rfl rfl)
theorem dL_law_1034 : decode cL_law 1034 = .ok (.if_icmp .eq 5, 3) := dk_159 0 5 (dk_at dksL_law_39 13 rfl rfl)
theorem dL_law_1037 : decode cL_law 1037 = .ok (.iconst 0, 1) := dk_3 (dk_at dksL_law_39 16 rfl rfl)
theorem dL_law_1038 : decode cL_law 1038 = .ok (.ireturn, 1) := dk_172 (dk_at dksL_law_39 17 rfl rfl)
theorem dL_law_1039 : decode cL_law 1039 = .ok (.iinc 3 5, 3) := dk_132 3 5 (dk_at dksL_law_39 18 rfl rfl)
theorem dL_law_1042 : decode cL_law 1042 = .ok (.goto (-1024), 3) := dk_167 252 0 (dk_at dksL_law_39 21 rfl rfl)
theorem dL_law_1045 : decode cL_law 1045 = .ok (.iconst 1, 1) := dk_4 (dk_at dksL_law_40 0 rfl rfl)
theorem dL_law_1046 : decode cL_law 1046 = .ok (.ireturn, 1) := dk_172 (dk_at dksL_law_40 1 rfl rfl)

