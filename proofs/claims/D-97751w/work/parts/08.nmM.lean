/-! RentedViewsModel -/
set_option maxRecDepth 100000
def RX5 : String := "RentedViewsModel"
def TX5 : u_T := fun k => match k with
  | 0 => ("RentedViewsModel", "now", "[I", true)
  | 1 => ("RentedViewsModel", "kept", "[I", true)
  | 2 => ("RentedViewsModel", "isKept", "[Z", true)
  | 3 => ("RentedViewsModel", "refused", "[I", true)
  | 4 => ("RentedViewsModel", "above", "J", false)
  | 5 => ("RentedViewsModel", "below", "J", false)
  | 6 => ("RentedViewsModel", "costs", "[I", true)
  | 7 => ("RentedViewsModel", "handRenters", "I", false)
  | 8 => ("RentedViewsModel", "walls", "[I", true)
  | 9 => ("RentedViewsModel", "purses", "[I", true)
  | 10 => ("RentedViewsModel", "wants", "[I", true)
  | 11 => ("RentedViewsModel", "suit", "[I", true)
  | 12 => ("RentedViewsModel", "row", "[I", true)
  | 13 => ("RentedViewsModel", "bestRow", "[I", true)
  | 14 => ("RentedViewsModel", "bestMany", "I", false)
  | 15 => ("RentedViewsModel", "bestMoney", "I", false)
  | 16 => ("RentedViewsModel", "comeMany", "I", false)
  | 17 => ("RentedViewsModel", "comeMoney", "I", false)
  | 18 => ("RentedViewsModel", "manyLike", "[I", true)
  | 19 => ("RentedViewsModel", "bytes", "[I", true)
  | 20 => ("RentedViewsModel", "bytesLong", "I", false)
  | 21 => ("RentedViewsModel", "tokenAt", "I", false)
  | 22 => ("RentedViewsModel", "tokenLong", "I", false)
  | 23 => ("RentedViewsModel", "token", "I", false)
  | 24 => ("RentedViewsModel", "value", "I", false)
  | 25 => ("RentedViewsModel", "anew", "[I", true)
  | _ => ("RentedViewsModel", "values", "[I", true)
def tyX5 : Nat → FieldType := fun k => match k with
  | 0 => .array .int
  | 1 => .array .int
  | 2 => .array .boolean
  | 3 => .array .int
  | 4 => .long
  | 5 => .long
  | 6 => .array .int
  | 7 => .int
  | 8 => .array .int
  | 9 => .array .int
  | 10 => .array .int
  | 11 => .array .int
  | 12 => .array .int
  | 13 => .array .int
  | 14 => .int
  | 15 => .int
  | 16 => .int
  | 17 => .int
  | 18 => .array .int
  | 19 => .array .int
  | 20 => .int
  | 21 => .int
  | 22 => .int
  | 23 => .int
  | 24 => .int
  | 25 => .array .int
  | _ => .array .int
abbrev wsX50 : List Cond := u_ws RX5 TX5 27
set_option maxRecDepth 100000 in
theorem nmX5 : ∀ a, a < 27 → ∀ b, b < 27 → a ≠ b → (TX5 a).2.1 ≠ (TX5 b).2.1 := by decide +kernel
set_option maxRecDepth 100000 in
theorem tyX5_ok : ∀ k, k < 27 → parseFieldDescriptor (TX5 k).2.2.1 = some (tyX5 k) := by decide +kernel
abbrev cX5_init : ByteArray := prog_14_method_1_code
def yX5_init : MethodName := ⟨RX5, "<init>", "()V"⟩
def dkwX5_init_5 : List UInt8 := [188, 10, 181, 0, 54, 42, 7, 188, 10, 181, 0, 57, 177]
abbrev dktX5_init_5 : List UInt8 := dkwX5_init_5 ++ []
def dkwX5_init_4 : List UInt8 := [181, 0, 45, 42, 16, 6, 188, 10, 181, 0, 48, 42, 17, 0, 150, 188, 10, 181, 0, 51, 42, 16, 115]
abbrev dktX5_init_4 : List UInt8 := dkwX5_init_4 ++ dktX5_init_5
def dkwX5_init_3 : List UInt8 := [181, 0, 36, 42, 16, 7, 188, 10, 181, 0, 39, 42, 16, 7, 188, 10, 181, 0, 42, 42, 16, 7, 188, 10]
abbrev dktX5_init_3 : List UInt8 := dkwX5_init_3 ++ dktX5_init_4
def dkwX5_init_2 : List UInt8 := [181, 0, 27, 42, 16, 7, 188, 10, 181, 0, 30, 42, 16, 7, 188, 10, 181, 0, 33, 42, 16, 7, 188, 10]
abbrev dktX5_init_2 : List UInt8 := dkwX5_init_2 ++ dktX5_init_3
def dkwX5_init_1 : List UInt8 := [188, 4, 181, 0, 16, 42, 6, 188, 10, 181, 0, 20, 42, 10, 181, 0, 23, 42, 16, 6, 188, 10]
abbrev dktX5_init_1 : List UInt8 := dkwX5_init_1 ++ dktX5_init_2
def dkwX5_init_0 : List UInt8 := [42, 183, 0, 1, 42, 17, 2, 11, 188, 10, 181, 0, 7, 42, 17, 4, 22, 188, 10, 181, 0, 13, 42, 5]
abbrev dktX5_init_0 : List UInt8 := dkwX5_init_0 ++ dktX5_init_1
theorem dksX5_init_0 : cX5_init.data.toList.drop 0 = dktX5_init_0 := by decide +kernel
theorem dksX5_init_1 : cX5_init.data.toList.drop 24 = dktX5_init_1 := dk_seg dksX5_init_0 24 rfl rfl
theorem dksX5_init_2 : cX5_init.data.toList.drop 46 = dktX5_init_2 := dk_seg dksX5_init_1 22 rfl rfl
theorem dksX5_init_3 : cX5_init.data.toList.drop 70 = dktX5_init_3 := dk_seg dksX5_init_2 24 rfl rfl
theorem dksX5_init_4 : cX5_init.data.toList.drop 94 = dktX5_init_4 := dk_seg dksX5_init_3 24 rfl rfl
theorem dksX5_init_5 : cX5_init.data.toList.drop 117 = dktX5_init_5 := dk_seg dksX5_init_4 23 rfl rfl
theorem dX5_init_0 : decode cX5_init 0 = .ok (.aload_n 0, 1) := dk_42 (dk_at dksX5_init_0 0 rfl rfl)
theorem dX5_init_1 : decode cX5_init 1 = .ok (.invokespecial 1, 3) := dk_183 0 1 (dk_at dksX5_init_0 1 rfl rfl)
theorem dX5_init_4 : decode cX5_init 4 = .ok (.aload_n 0, 1) := dk_42 (dk_at dksX5_init_0 4 rfl rfl)
theorem dX5_init_5 : decode cX5_init 5 = .ok (.sipush 523, 3) := dk_17 2 11 (dk_at dksX5_init_0 5 rfl rfl)
theorem dX5_init_8 : decode cX5_init 8 = .ok (.newarray .int, 2) := dk_188_10 (dk_at dksX5_init_0 8 rfl rfl)
theorem dX5_init_10 : decode cX5_init 10 = .ok (.putfield 7, 3) := dk_181 0 7 (dk_at dksX5_init_0 10 rfl rfl)
theorem dX5_init_13 : decode cX5_init 13 = .ok (.aload_n 0, 1) := dk_42 (dk_at dksX5_init_0 13 rfl rfl)
theorem dX5_init_14 : decode cX5_init 14 = .ok (.sipush 1046, 3) := dk_17 4 22 (dk_at dksX5_init_0 14 rfl rfl)
theorem dX5_init_17 : decode cX5_init 17 = .ok (.newarray .int, 2) := dk_188_10 (dk_at dksX5_init_0 17 rfl rfl)
theorem dX5_init_19 : decode cX5_init 19 = .ok (.putfield 13, 3) := dk_181 0 13 (dk_at dksX5_init_0 19 rfl rfl)
theorem dX5_init_22 : decode cX5_init 22 = .ok (.aload_n 0, 1) := dk_42 (dk_at dksX5_init_0 22 rfl rfl)
theorem dX5_init_23 : decode cX5_init 23 = .ok (.iconst 2, 1) := dk_5 (dk_at dksX5_init_0 23 rfl rfl)
theorem dX5_init_24 : decode cX5_init 24 = .ok (.newarray .boolean, 2) := dk_188_4 (dk_at dksX5_init_1 0 rfl rfl)
theorem dX5_init_26 : decode cX5_init 26 = .ok (.putfield 16, 3) := dk_181 0 16 (dk_at dksX5_init_1 2 rfl rfl)
theorem dX5_init_29 : decode cX5_init 29 = .ok (.aload_n 0, 1) := dk_42 (dk_at dksX5_init_1 5 rfl rfl)
theorem dX5_init_30 : decode cX5_init 30 = .ok (.iconst 3, 1) := dk_6 (dk_at dksX5_init_1 6 rfl rfl)
theorem dX5_init_31 : decode cX5_init 31 = .ok (.newarray .int, 2) := dk_188_10 (dk_at dksX5_init_1 7 rfl rfl)
theorem dX5_init_33 : decode cX5_init 33 = .ok (.putfield 20, 3) := dk_181 0 20 (dk_at dksX5_init_1 9 rfl rfl)
theorem dX5_init_36 : decode cX5_init 36 = .ok (.aload_n 0, 1) := dk_42 (dk_at dksX5_init_1 12 rfl rfl)
theorem dX5_init_37 : decode cX5_init 37 = .ok (.lconst 1, 1) := dk_10 (dk_at dksX5_init_1 13 rfl rfl)
theorem dX5_init_38 : decode cX5_init 38 = .ok (.putfield 23, 3) := dk_181 0 23 (dk_at dksX5_init_1 14 rfl rfl)
theorem dX5_init_41 : decode cX5_init 41 = .ok (.aload_n 0, 1) := dk_42 (dk_at dksX5_init_1 17 rfl rfl)
theorem dX5_init_42 : decode cX5_init 42 = .ok (.bipush 6, 2) := dk_16 6 (dk_at dksX5_init_1 18 rfl rfl)
theorem dX5_init_44 : decode cX5_init 44 = .ok (.newarray .int, 2) := dk_188_10 (dk_at dksX5_init_1 20 rfl rfl)
theorem dX5_init_46 : decode cX5_init 46 = .ok (.putfield 27, 3) := dk_181 0 27 (dk_at dksX5_init_2 0 rfl rfl)
theorem dX5_init_49 : decode cX5_init 49 = .ok (.aload_n 0, 1) := dk_42 (dk_at dksX5_init_2 3 rfl rfl)
theorem dX5_init_50 : decode cX5_init 50 = .ok (.bipush 7, 2) := dk_16 7 (dk_at dksX5_init_2 4 rfl rfl)
theorem dX5_init_52 : decode cX5_init 52 = .ok (.newarray .int, 2) := dk_188_10 (dk_at dksX5_init_2 6 rfl rfl)
theorem dX5_init_54 : decode cX5_init 54 = .ok (.putfield 30, 3) := dk_181 0 30 (dk_at dksX5_init_2 8 rfl rfl)
theorem dX5_init_57 : decode cX5_init 57 = .ok (.aload_n 0, 1) := dk_42 (dk_at dksX5_init_2 11 rfl rfl)
theorem dX5_init_58 : decode cX5_init 58 = .ok (.bipush 7, 2) := dk_16 7 (dk_at dksX5_init_2 12 rfl rfl)
theorem dX5_init_60 : decode cX5_init 60 = .ok (.newarray .int, 2) := dk_188_10 (dk_at dksX5_init_2 14 rfl rfl)
theorem dX5_init_62 : decode cX5_init 62 = .ok (.putfield 33, 3) := dk_181 0 33 (dk_at dksX5_init_2 16 rfl rfl)
theorem dX5_init_65 : decode cX5_init 65 = .ok (.aload_n 0, 1) := dk_42 (dk_at dksX5_init_2 19 rfl rfl)
theorem dX5_init_66 : decode cX5_init 66 = .ok (.bipush 7, 2) := dk_16 7 (dk_at dksX5_init_2 20 rfl rfl)
theorem dX5_init_68 : decode cX5_init 68 = .ok (.newarray .int, 2) := dk_188_10 (dk_at dksX5_init_2 22 rfl rfl)
theorem dX5_init_70 : decode cX5_init 70 = .ok (.putfield 36, 3) := dk_181 0 36 (dk_at dksX5_init_3 0 rfl rfl)
theorem dX5_init_73 : decode cX5_init 73 = .ok (.aload_n 0, 1) := dk_42 (dk_at dksX5_init_3 3 rfl rfl)
theorem dX5_init_74 : decode cX5_init 74 = .ok (.bipush 7, 2) := dk_16 7 (dk_at dksX5_init_3 4 rfl rfl)
theorem dX5_init_76 : decode cX5_init 76 = .ok (.newarray .int, 2) := dk_188_10 (dk_at dksX5_init_3 6 rfl rfl)
theorem dX5_init_78 : decode cX5_init 78 = .ok (.putfield 39, 3) := dk_181 0 39 (dk_at dksX5_init_3 8 rfl rfl)
theorem dX5_init_81 : decode cX5_init 81 = .ok (.aload_n 0, 1) := dk_42 (dk_at dksX5_init_3 11 rfl rfl)
theorem dX5_init_82 : decode cX5_init 82 = .ok (.bipush 7, 2) := dk_16 7 (dk_at dksX5_init_3 12 rfl rfl)
theorem dX5_init_84 : decode cX5_init 84 = .ok (.newarray .int, 2) := dk_188_10 (dk_at dksX5_init_3 14 rfl rfl)
theorem dX5_init_86 : decode cX5_init 86 = .ok (.putfield 42, 3) := dk_181 0 42 (dk_at dksX5_init_3 16 rfl rfl)
theorem dX5_init_89 : decode cX5_init 89 = .ok (.aload_n 0, 1) := dk_42 (dk_at dksX5_init_3 19 rfl rfl)
theorem dX5_init_90 : decode cX5_init 90 = .ok (.bipush 7, 2) := dk_16 7 (dk_at dksX5_init_3 20 rfl rfl)
theorem dX5_init_92 : decode cX5_init 92 = .ok (.newarray .int, 2) := dk_188_10 (dk_at dksX5_init_3 22 rfl rfl)
theorem dX5_init_94 : decode cX5_init 94 = .ok (.putfield 45, 3) := dk_181 0 45 (dk_at dksX5_init_4 0 rfl rfl)
theorem dX5_init_97 : decode cX5_init 97 = .ok (.aload_n 0, 1) := dk_42 (dk_at dksX5_init_4 3 rfl rfl)
theorem dX5_init_98 : decode cX5_init 98 = .ok (.bipush 6, 2) := dk_16 6 (dk_at dksX5_init_4 4 rfl rfl)
theorem dX5_init_100 : decode cX5_init 100 = .ok (.newarray .int, 2) := dk_188_10 (dk_at dksX5_init_4 6 rfl rfl)
theorem dX5_init_102 : decode cX5_init 102 = .ok (.putfield 48, 3) := dk_181 0 48 (dk_at dksX5_init_4 8 rfl rfl)
theorem dX5_init_105 : decode cX5_init 105 = .ok (.aload_n 0, 1) := dk_42 (dk_at dksX5_init_4 11 rfl rfl)
theorem dX5_init_106 : decode cX5_init 106 = .ok (.sipush 150, 3) := dk_17 0 150 (dk_at dksX5_init_4 12 rfl rfl)
theorem dX5_init_109 : decode cX5_init 109 = .ok (.newarray .int, 2) := dk_188_10 (dk_at dksX5_init_4 15 rfl rfl)
theorem dX5_init_111 : decode cX5_init 111 = .ok (.putfield 51, 3) := dk_181 0 51 (dk_at dksX5_init_4 17 rfl rfl)
theorem dX5_init_114 : decode cX5_init 114 = .ok (.aload_n 0, 1) := dk_42 (dk_at dksX5_init_4 20 rfl rfl)
theorem dX5_init_115 : decode cX5_init 115 = .ok (.bipush 115, 2) := dk_16 115 (dk_at dksX5_init_4 21 rfl rfl)
theorem dX5_init_117 : decode cX5_init 117 = .ok (.newarray .int, 2) := dk_188_10 (dk_at dksX5_init_5 0 rfl rfl)
theorem dX5_init_119 : decode cX5_init 119 = .ok (.putfield 54, 3) := dk_181 0 54 (dk_at dksX5_init_5 2 rfl rfl)
theorem dX5_init_122 : decode cX5_init 122 = .ok (.aload_n 0, 1) := dk_42 (dk_at dksX5_init_5 5 rfl rfl)
theorem dX5_init_123 : decode cX5_init 123 = .ok (.iconst 4, 1) := dk_7 (dk_at dksX5_init_5 6 rfl rfl)
theorem dX5_init_124 : decode cX5_init 124 = .ok (.newarray .int, 2) := dk_188_10 (dk_at dksX5_init_5 7 rfl rfl)
theorem dX5_init_126 : decode cX5_init 126 = .ok (.putfield 57, 3) := dk_181 0 57 (dk_at dksX5_init_5 9 rfl rfl)
theorem dX5_init_129 : decode cX5_init 129 = .ok (.return_, 1) := dk_177 (dk_at dksX5_init_5 12 rfl rfl)
abbrev cX5_shop : ByteArray := prog_14_method_17_code
def yX5_shop : MethodName := ⟨RX5, "shop", "()I"⟩
def dkwX5_shop_0 : List UInt8 := [42, 182, 0, 60, 60, 42, 180, 0, 7, 184, 0, 75, 27, 172]
abbrev dktX5_shop_0 : List UInt8 := dkwX5_shop_0 ++ []
theorem dksX5_shop_0 : cX5_shop.data.toList.drop 0 = dktX5_shop_0 := by decide +kernel
theorem dX5_shop_0 : decode cX5_shop 0 = .ok (.aload_n 0, 1) := dk_42 (dk_at dksX5_shop_0 0 rfl rfl)
theorem dX5_shop_1 : decode cX5_shop 1 = .ok (.invokevirtual 60, 3) := dk_182 0 60 (dk_at dksX5_shop_0 1 rfl rfl)
theorem dX5_shop_4 : decode cX5_shop 4 = .ok (.istore_n 1, 1) := dk_60 (dk_at dksX5_shop_0 4 rfl rfl)
theorem dX5_shop_5 : decode cX5_shop 5 = .ok (.aload_n 0, 1) := dk_42 (dk_at dksX5_shop_0 5 rfl rfl)
theorem dX5_shop_6 : decode cX5_shop 6 = .ok (.getfield 7, 3) := dk_180 0 7 (dk_at dksX5_shop_0 6 rfl rfl)
theorem dX5_shop_9 : decode cX5_shop 9 = .ok (.invokestatic 75, 3) := dk_184 0 75 (dk_at dksX5_shop_0 9 rfl rfl)
theorem dX5_shop_12 : decode cX5_shop 12 = .ok (.iload_n 1, 1) := dk_27 (dk_at dksX5_shop_0 12 rfl rfl)
theorem dX5_shop_13 : decode cX5_shop 13 = .ok (.ireturn, 1) := dk_172 (dk_at dksX5_shop_0 13 rfl rfl)
abbrev cX5_views : ByteArray := prog_14_method_9_code
def yX5_views : MethodName := ⟨RX5, "views", "()I"⟩
def dkwX5_views_0 : List UInt8 := [42, 180, 0, 7, 3, 46, 172]
abbrev dktX5_views_0 : List UInt8 := dkwX5_views_0 ++ []
theorem dksX5_views_0 : cX5_views.data.toList.drop 0 = dktX5_views_0 := by decide +kernel
theorem dX5_views_0 : decode cX5_views 0 = .ok (.aload_n 0, 1) := dk_42 (dk_at dksX5_views_0 0 rfl rfl)
theorem dX5_views_1 : decode cX5_views 1 = .ok (.getfield 7, 3) := dk_180 0 7 (dk_at dksX5_views_0 1 rfl rfl)
theorem dX5_views_4 : decode cX5_views 4 = .ok (.iconst 0, 1) := dk_3 (dk_at dksX5_views_0 4 rfl rfl)
theorem dX5_views_5 : decode cX5_views 5 = .ok (.iaload, 1) := dk_46 (dk_at dksX5_views_0 5 rfl rfl)
theorem dX5_views_6 : decode cX5_views 6 = .ok (.ireturn, 1) := dk_172 (dk_at dksX5_views_0 6 rfl rfl)
abbrev cX5_begin : ByteArray := prog_14_method_8_code
def yX5_begin : MethodName := ⟨RX5, "begin", "([I)V"⟩
def dkwX5_begin_0 : List UInt8 := [3, 60, 27, 16, 115, 162, 0, 13, 42, 27, 3, 79, 132, 1, 1, 167, 255, 243, 177]
abbrev dktX5_begin_0 : List UInt8 := dkwX5_begin_0 ++ []
theorem dksX5_begin_0 : cX5_begin.data.toList.drop 0 = dktX5_begin_0 := by decide +kernel
theorem dX5_begin_0 : decode cX5_begin 0 = .ok (.iconst 0, 1) := dk_3 (dk_at dksX5_begin_0 0 rfl rfl)
theorem dX5_begin_1 : decode cX5_begin 1 = .ok (.istore_n 1, 1) := dk_60 (dk_at dksX5_begin_0 1 rfl rfl)
theorem dX5_begin_2 : decode cX5_begin 2 = .ok (.iload_n 1, 1) := dk_27 (dk_at dksX5_begin_0 2 rfl rfl)
theorem dX5_begin_3 : decode cX5_begin 3 = .ok (.bipush 115, 2) := dk_16 115 (dk_at dksX5_begin_0 3 rfl rfl)
theorem dX5_begin_5 : decode cX5_begin 5 = .ok (.if_icmp .ge 13, 3) := dk_162 0 13 (dk_at dksX5_begin_0 5 rfl rfl)
theorem dX5_begin_8 : decode cX5_begin 8 = .ok (.aload_n 0, 1) := dk_42 (dk_at dksX5_begin_0 8 rfl rfl)
theorem dX5_begin_9 : decode cX5_begin 9 = .ok (.iload_n 1, 1) := dk_27 (dk_at dksX5_begin_0 9 rfl rfl)
theorem dX5_begin_10 : decode cX5_begin 10 = .ok (.iconst 0, 1) := dk_3 (dk_at dksX5_begin_0 10 rfl rfl)
theorem dX5_begin_11 : decode cX5_begin 11 = .ok (.iastore, 1) := dk_79 (dk_at dksX5_begin_0 11 rfl rfl)
theorem dX5_begin_12 : decode cX5_begin 12 = .ok (.iinc 1 1, 3) := dk_132 1 1 (dk_at dksX5_begin_0 12 rfl rfl)
theorem dX5_begin_15 : decode cX5_begin 15 = .ok (.goto (-13), 3) := dk_167 255 243 (dk_at dksX5_begin_0 15 rfl rfl)
theorem dX5_begin_18 : decode cX5_begin 18 = .ok (.return_, 1) := dk_177 (dk_at dksX5_begin_0 18 rfl rfl)
abbrev cX5_view : ByteArray := prog_14_method_20_code
def yX5_view : MethodName := ⟨RX5, "view", "(IIII)I"⟩
def dkwX5_view_2 : List UInt8 := [16, 6, 3, 79, 42, 182, 0, 60, 4, 100, 172]
abbrev dktX5_view_2 : List UInt8 := dkwX5_view_2 ++ []
def dkwX5_view_1 : List UInt8 := [160, 0, 8, 42, 182, 0, 93, 172, 42, 180, 0, 7, 27, 28, 29, 21, 4, 184, 0, 96, 42, 180, 0, 7]
abbrev dktX5_view_1 : List UInt8 := dkwX5_view_1 ++ dktX5_view_2
def dkwX5_view_0 : List UInt8 := [27, 28, 29, 21, 4, 184, 0, 85, 154, 0, 10, 42, 16, 254, 182, 0, 89, 172, 42, 182, 0, 60, 16, 6]
abbrev dktX5_view_0 : List UInt8 := dkwX5_view_0 ++ dktX5_view_1
theorem dksX5_view_0 : cX5_view.data.toList.drop 0 = dktX5_view_0 := by decide +kernel
theorem dksX5_view_1 : cX5_view.data.toList.drop 24 = dktX5_view_1 := dk_seg dksX5_view_0 24 rfl rfl
theorem dksX5_view_2 : cX5_view.data.toList.drop 48 = dktX5_view_2 := dk_seg dksX5_view_1 24 rfl rfl
theorem dX5_view_0 : decode cX5_view 0 = .ok (.iload_n 1, 1) := dk_27 (dk_at dksX5_view_0 0 rfl rfl)
theorem dX5_view_1 : decode cX5_view 1 = .ok (.iload_n 2, 1) := dk_28 (dk_at dksX5_view_0 1 rfl rfl)
theorem dX5_view_2 : decode cX5_view 2 = .ok (.iload_n 3, 1) := dk_29 (dk_at dksX5_view_0 2 rfl rfl)
theorem dX5_view_3 : decode cX5_view 3 = .ok (.iload 4, 2) := dk_21 4 (dk_at dksX5_view_0 3 rfl rfl)
theorem dX5_view_5 : decode cX5_view 5 = .ok (.invokestatic 85, 3) := dk_184 0 85 (dk_at dksX5_view_0 5 rfl rfl)
theorem dX5_view_8 : decode cX5_view 8 = .ok (.ifCond .ne 10, 3) := dk_154 0 10 (dk_at dksX5_view_0 8 rfl rfl)
theorem dX5_view_11 : decode cX5_view 11 = .ok (.aload_n 0, 1) := dk_42 (dk_at dksX5_view_0 11 rfl rfl)
theorem dX5_view_12 : decode cX5_view 12 = .ok (.bipush (-2), 2) := dk_16 254 (dk_at dksX5_view_0 12 rfl rfl)
theorem dX5_view_14 : decode cX5_view 14 = .ok (.invokevirtual 89, 3) := dk_182 0 89 (dk_at dksX5_view_0 14 rfl rfl)
theorem dX5_view_17 : decode cX5_view 17 = .ok (.ireturn, 1) := dk_172 (dk_at dksX5_view_0 17 rfl rfl)
theorem dX5_view_18 : decode cX5_view 18 = .ok (.aload_n 0, 1) := dk_42 (dk_at dksX5_view_0 18 rfl rfl)
theorem dX5_view_19 : decode cX5_view 19 = .ok (.invokevirtual 60, 3) := dk_182 0 60 (dk_at dksX5_view_0 19 rfl rfl)
theorem dX5_view_22 : decode cX5_view 22 = .ok (.bipush 6, 2) := dk_16 6 (dk_at dksX5_view_0 22 rfl rfl)
theorem dX5_view_24 : decode cX5_view 24 = .ok (.if_icmp .ne 8, 3) := dk_160 0 8 (dk_at dksX5_view_1 0 rfl rfl)
theorem dX5_view_27 : decode cX5_view 27 = .ok (.aload_n 0, 1) := dk_42 (dk_at dksX5_view_1 3 rfl rfl)
theorem dX5_view_28 : decode cX5_view 28 = .ok (.invokevirtual 93, 3) := dk_182 0 93 (dk_at dksX5_view_1 4 rfl rfl)
theorem dX5_view_31 : decode cX5_view 31 = .ok (.ireturn, 1) := dk_172 (dk_at dksX5_view_1 7 rfl rfl)
theorem dX5_view_32 : decode cX5_view 32 = .ok (.aload_n 0, 1) := dk_42 (dk_at dksX5_view_1 8 rfl rfl)
theorem dX5_view_33 : decode cX5_view 33 = .ok (.getfield 7, 3) := dk_180 0 7 (dk_at dksX5_view_1 9 rfl rfl)
theorem dX5_view_36 : decode cX5_view 36 = .ok (.iload_n 1, 1) := dk_27 (dk_at dksX5_view_1 12 rfl rfl)
theorem dX5_view_37 : decode cX5_view 37 = .ok (.iload_n 2, 1) := dk_28 (dk_at dksX5_view_1 13 rfl rfl)
theorem dX5_view_38 : decode cX5_view 38 = .ok (.iload_n 3, 1) := dk_29 (dk_at dksX5_view_1 14 rfl rfl)
theorem dX5_view_39 : decode cX5_view 39 = .ok (.iload 4, 2) := dk_21 4 (dk_at dksX5_view_1 15 rfl rfl)
theorem dX5_view_41 : decode cX5_view 41 = .ok (.invokestatic 96, 3) := dk_184 0 96 (dk_at dksX5_view_1 17 rfl rfl)
theorem dX5_view_44 : decode cX5_view 44 = .ok (.aload_n 0, 1) := dk_42 (dk_at dksX5_view_1 20 rfl rfl)
theorem dX5_view_45 : decode cX5_view 45 = .ok (.getfield 7, 3) := dk_180 0 7 (dk_at dksX5_view_1 21 rfl rfl)
theorem dX5_view_48 : decode cX5_view 48 = .ok (.bipush 6, 2) := dk_16 6 (dk_at dksX5_view_2 0 rfl rfl)
theorem dX5_view_50 : decode cX5_view 50 = .ok (.iconst 0, 1) := dk_3 (dk_at dksX5_view_2 2 rfl rfl)
theorem dX5_view_51 : decode cX5_view 51 = .ok (.iastore, 1) := dk_79 (dk_at dksX5_view_2 3 rfl rfl)
theorem dX5_view_52 : decode cX5_view 52 = .ok (.aload_n 0, 1) := dk_42 (dk_at dksX5_view_2 4 rfl rfl)
theorem dX5_view_53 : decode cX5_view 53 = .ok (.invokevirtual 60, 3) := dk_182 0 60 (dk_at dksX5_view_2 5 rfl rfl)
theorem dX5_view_56 : decode cX5_view 56 = .ok (.iconst 1, 1) := dk_4 (dk_at dksX5_view_2 8 rfl rfl)
theorem dX5_view_57 : decode cX5_view 57 = .ok (.isub, 1) := dk_100 (dk_at dksX5_view_2 9 rfl rfl)
theorem dX5_view_58 : decode cX5_view 58 = .ok (.ireturn, 1) := dk_172 (dk_at dksX5_view_2 10 rfl rfl)
abbrev cX5_isViewTold : ByteArray := prog_14_method_18_code
def yX5_isViewTold : MethodName := ⟨RX5, "isViewTold", "(IIII)Z"⟩
def dkwX5_isViewTold_2 : List UInt8 := [172]
abbrev dktX5_isViewTold_2 : List UInt8 := dkwX5_isViewTold_2 ++ []
def dkwX5_isViewTold_1 : List UInt8 := [28, 133, 9, 20, 0, 71, 184, 0, 64, 153, 0, 14, 29, 184, 0, 81, 153, 0, 7, 4, 167, 0, 4, 3]
abbrev dktX5_isViewTold_1 : List UInt8 := dkwX5_isViewTold_1 ++ dktX5_isViewTold_2
def dkwX5_isViewTold_0 : List UInt8 := [26, 133, 9, 20, 0, 73, 184, 0, 64, 153, 0, 38, 27, 133, 10, 20, 0, 79, 184, 0, 64, 153, 0, 26]
abbrev dktX5_isViewTold_0 : List UInt8 := dkwX5_isViewTold_0 ++ dktX5_isViewTold_1
theorem dksX5_isViewTold_0 : cX5_isViewTold.data.toList.drop 0 = dktX5_isViewTold_0 := by decide +kernel
theorem dksX5_isViewTold_1 : cX5_isViewTold.data.toList.drop 24 = dktX5_isViewTold_1 := dk_seg dksX5_isViewTold_0 24 rfl rfl
theorem dksX5_isViewTold_2 : cX5_isViewTold.data.toList.drop 48 = dktX5_isViewTold_2 := dk_seg dksX5_isViewTold_1 24 rfl rfl
theorem dX5_isViewTold_0 : decode cX5_isViewTold 0 = .ok (.iload_n 0, 1) := dk_26 (dk_at dksX5_isViewTold_0 0 rfl rfl)
theorem dX5_isViewTold_1 : decode cX5_isViewTold 1 = .ok (.i2l, 1) := dk_133 (dk_at dksX5_isViewTold_0 1 rfl rfl)
theorem dX5_isViewTold_2 : decode cX5_isViewTold 2 = .ok (.lconst 0, 1) := dk_9 (dk_at dksX5_isViewTold_0 2 rfl rfl)
theorem dX5_isViewTold_3 : decode cX5_isViewTold 3 = .ok (.ldc2_w 73, 3) := dk_20 0 73 (dk_at dksX5_isViewTold_0 3 rfl rfl)
theorem dX5_isViewTold_6 : decode cX5_isViewTold 6 = .ok (.invokestatic 64, 3) := dk_184 0 64 (dk_at dksX5_isViewTold_0 6 rfl rfl)
theorem dX5_isViewTold_9 : decode cX5_isViewTold 9 = .ok (.ifCond .eq 38, 3) := dk_153 0 38 (dk_at dksX5_isViewTold_0 9 rfl rfl)
theorem dX5_isViewTold_12 : decode cX5_isViewTold 12 = .ok (.iload_n 1, 1) := dk_27 (dk_at dksX5_isViewTold_0 12 rfl rfl)
theorem dX5_isViewTold_13 : decode cX5_isViewTold 13 = .ok (.i2l, 1) := dk_133 (dk_at dksX5_isViewTold_0 13 rfl rfl)
theorem dX5_isViewTold_14 : decode cX5_isViewTold 14 = .ok (.lconst 1, 1) := dk_10 (dk_at dksX5_isViewTold_0 14 rfl rfl)
theorem dX5_isViewTold_15 : decode cX5_isViewTold 15 = .ok (.ldc2_w 79, 3) := dk_20 0 79 (dk_at dksX5_isViewTold_0 15 rfl rfl)
theorem dX5_isViewTold_18 : decode cX5_isViewTold 18 = .ok (.invokestatic 64, 3) := dk_184 0 64 (dk_at dksX5_isViewTold_0 18 rfl rfl)
theorem dX5_isViewTold_21 : decode cX5_isViewTold 21 = .ok (.ifCond .eq 26, 3) := dk_153 0 26 (dk_at dksX5_isViewTold_0 21 rfl rfl)
theorem dX5_isViewTold_24 : decode cX5_isViewTold 24 = .ok (.iload_n 2, 1) := dk_28 (dk_at dksX5_isViewTold_1 0 rfl rfl)
theorem dX5_isViewTold_25 : decode cX5_isViewTold 25 = .ok (.i2l, 1) := dk_133 (dk_at dksX5_isViewTold_1 1 rfl rfl)
theorem dX5_isViewTold_26 : decode cX5_isViewTold 26 = .ok (.lconst 0, 1) := dk_9 (dk_at dksX5_isViewTold_1 2 rfl rfl)
theorem dX5_isViewTold_27 : decode cX5_isViewTold 27 = .ok (.ldc2_w 71, 3) := dk_20 0 71 (dk_at dksX5_isViewTold_1 3 rfl rfl)
theorem dX5_isViewTold_30 : decode cX5_isViewTold 30 = .ok (.invokestatic 64, 3) := dk_184 0 64 (dk_at dksX5_isViewTold_1 6 rfl rfl)
theorem dX5_isViewTold_33 : decode cX5_isViewTold 33 = .ok (.ifCond .eq 14, 3) := dk_153 0 14 (dk_at dksX5_isViewTold_1 9 rfl rfl)
theorem dX5_isViewTold_36 : decode cX5_isViewTold 36 = .ok (.iload_n 3, 1) := dk_29 (dk_at dksX5_isViewTold_1 12 rfl rfl)
theorem dX5_isViewTold_37 : decode cX5_isViewTold 37 = .ok (.invokestatic 81, 3) := dk_184 0 81 (dk_at dksX5_isViewTold_1 13 rfl rfl)
theorem dX5_isViewTold_40 : decode cX5_isViewTold 40 = .ok (.ifCond .eq 7, 3) := dk_153 0 7 (dk_at dksX5_isViewTold_1 16 rfl rfl)
theorem dX5_isViewTold_43 : decode cX5_isViewTold 43 = .ok (.iconst 1, 1) := dk_4 (dk_at dksX5_isViewTold_1 19 rfl rfl)
theorem dX5_isViewTold_44 : decode cX5_isViewTold 44 = .ok (.goto 4, 3) := dk_167 0 4 (dk_at dksX5_isViewTold_1 20 rfl rfl)
theorem dX5_isViewTold_47 : decode cX5_isViewTold 47 = .ok (.iconst 0, 1) := dk_3 (dk_at dksX5_isViewTold_1 23 rfl rfl)
theorem dX5_isViewTold_48 : decode cX5_isViewTold 48 = .ok (.ireturn, 1) := dk_172 (dk_at dksX5_isViewTold_2 0 rfl rfl)
abbrev cX5_in : ByteArray := prog_14_method_3_code
def yX5_in : MethodName := ⟨RX5, "in", "(JJJ)Z"⟩
def dkwX5_in_0 : List UInt8 := [30, 32, 148, 155, 0, 14, 30, 22, 4, 148, 157, 0, 7, 4, 167, 0, 4, 3, 172]
abbrev dktX5_in_0 : List UInt8 := dkwX5_in_0 ++ []
theorem dksX5_in_0 : cX5_in.data.toList.drop 0 = dktX5_in_0 := by decide +kernel
theorem dX5_in_0 : decode cX5_in 0 = .ok (.lload_n 0, 1) := dk_30 (dk_at dksX5_in_0 0 rfl rfl)
theorem dX5_in_1 : decode cX5_in 1 = .ok (.lload_n 2, 1) := dk_32 (dk_at dksX5_in_0 1 rfl rfl)
theorem dX5_in_2 : decode cX5_in 2 = .ok (.lcmp, 1) := dk_148 (dk_at dksX5_in_0 2 rfl rfl)
theorem dX5_in_3 : decode cX5_in 3 = .ok (.ifCond .lt 14, 3) := dk_155 0 14 (dk_at dksX5_in_0 3 rfl rfl)
theorem dX5_in_6 : decode cX5_in 6 = .ok (.lload_n 0, 1) := dk_30 (dk_at dksX5_in_0 6 rfl rfl)
theorem dX5_in_7 : decode cX5_in 7 = .ok (.lload 4, 2) := dk_22 4 (dk_at dksX5_in_0 7 rfl rfl)
theorem dX5_in_9 : decode cX5_in 9 = .ok (.lcmp, 1) := dk_148 (dk_at dksX5_in_0 9 rfl rfl)
theorem dX5_in_10 : decode cX5_in 10 = .ok (.ifCond .gt 7, 3) := dk_157 0 7 (dk_at dksX5_in_0 10 rfl rfl)
theorem dX5_in_13 : decode cX5_in 13 = .ok (.iconst 1, 1) := dk_4 (dk_at dksX5_in_0 13 rfl rfl)
theorem dX5_in_14 : decode cX5_in 14 = .ok (.goto 4, 3) := dk_167 0 4 (dk_at dksX5_in_0 14 rfl rfl)
theorem dX5_in_17 : decode cX5_in 17 = .ok (.iconst 0, 1) := dk_3 (dk_at dksX5_in_0 17 rfl rfl)
theorem dX5_in_18 : decode cX5_in 18 = .ok (.ireturn, 1) := dk_172 (dk_at dksX5_in_0 18 rfl rfl)
abbrev cX5_isWeather : ByteArray := prog_14_method_14_code
def yX5_isWeather : MethodName := ⟨RX5, "isWeather", "(I)Z"⟩
def dkwX5_isWeather_0 : List UInt8 := [26, 133, 9, 20, 0, 73, 184, 0, 64, 172]
abbrev dktX5_isWeather_0 : List UInt8 := dkwX5_isWeather_0 ++ []
theorem dksX5_isWeather_0 : cX5_isWeather.data.toList.drop 0 = dktX5_isWeather_0 := by decide +kernel
theorem dX5_isWeather_0 : decode cX5_isWeather 0 = .ok (.iload_n 0, 1) := dk_26 (dk_at dksX5_isWeather_0 0 rfl rfl)
theorem dX5_isWeather_1 : decode cX5_isWeather 1 = .ok (.i2l, 1) := dk_133 (dk_at dksX5_isWeather_0 1 rfl rfl)
theorem dX5_isWeather_2 : decode cX5_isWeather 2 = .ok (.lconst 0, 1) := dk_9 (dk_at dksX5_isWeather_0 2 rfl rfl)
theorem dX5_isWeather_3 : decode cX5_isWeather 3 = .ok (.ldc2_w 73, 3) := dk_20 0 73 (dk_at dksX5_isWeather_0 3 rfl rfl)
theorem dX5_isWeather_6 : decode cX5_isWeather 6 = .ok (.invokestatic 64, 3) := dk_184 0 64 (dk_at dksX5_isWeather_0 6 rfl rfl)
theorem dX5_isWeather_9 : decode cX5_isWeather 9 = .ok (.ireturn, 1) := dk_172 (dk_at dksX5_isWeather_0 9 rfl rfl)
abbrev cX5_bad : ByteArray := prog_14_method_4_code
def yX5_bad : MethodName := ⟨RX5, "bad", "(I)I"⟩
def dkwX5_bad_0 : List UInt8 := [42, 180, 0, 20, 3, 92, 46, 4, 96, 79, 27, 172]
abbrev dktX5_bad_0 : List UInt8 := dkwX5_bad_0 ++ []
theorem dksX5_bad_0 : cX5_bad.data.toList.drop 0 = dktX5_bad_0 := by decide +kernel
theorem dX5_bad_0 : decode cX5_bad 0 = .ok (.aload_n 0, 1) := dk_42 (dk_at dksX5_bad_0 0 rfl rfl)
theorem dX5_bad_1 : decode cX5_bad 1 = .ok (.getfield 20, 3) := dk_180 0 20 (dk_at dksX5_bad_0 1 rfl rfl)
theorem dX5_bad_4 : decode cX5_bad 4 = .ok (.iconst 0, 1) := dk_3 (dk_at dksX5_bad_0 4 rfl rfl)
theorem dX5_bad_5 : decode cX5_bad 5 = .ok (.dup2, 1) := dk_92 (dk_at dksX5_bad_0 5 rfl rfl)
theorem dX5_bad_6 : decode cX5_bad 6 = .ok (.iaload, 1) := dk_46 (dk_at dksX5_bad_0 6 rfl rfl)
theorem dX5_bad_7 : decode cX5_bad 7 = .ok (.iconst 1, 1) := dk_4 (dk_at dksX5_bad_0 7 rfl rfl)
theorem dX5_bad_8 : decode cX5_bad 8 = .ok (.iadd, 1) := dk_96 (dk_at dksX5_bad_0 8 rfl rfl)
theorem dX5_bad_9 : decode cX5_bad 9 = .ok (.iastore, 1) := dk_79 (dk_at dksX5_bad_0 9 rfl rfl)
theorem dX5_bad_10 : decode cX5_bad 10 = .ok (.iload_n 1, 1) := dk_27 (dk_at dksX5_bad_0 10 rfl rfl)
theorem dX5_bad_11 : decode cX5_bad 11 = .ok (.ireturn, 1) := dk_172 (dk_at dksX5_bad_0 11 rfl rfl)
abbrev cX5_full : ByteArray := prog_14_method_6_code
def yX5_full : MethodName := ⟨RX5, "full", "()I"⟩
def dkwX5_full_0 : List UInt8 := [42, 180, 0, 20, 5, 92, 46, 4, 96, 79, 16, 252, 172]
abbrev dktX5_full_0 : List UInt8 := dkwX5_full_0 ++ []
theorem dksX5_full_0 : cX5_full.data.toList.drop 0 = dktX5_full_0 := by decide +kernel
theorem dX5_full_0 : decode cX5_full 0 = .ok (.aload_n 0, 1) := dk_42 (dk_at dksX5_full_0 0 rfl rfl)
theorem dX5_full_1 : decode cX5_full 1 = .ok (.getfield 20, 3) := dk_180 0 20 (dk_at dksX5_full_0 1 rfl rfl)
theorem dX5_full_4 : decode cX5_full 4 = .ok (.iconst 2, 1) := dk_5 (dk_at dksX5_full_0 4 rfl rfl)
theorem dX5_full_5 : decode cX5_full 5 = .ok (.dup2, 1) := dk_92 (dk_at dksX5_full_0 5 rfl rfl)
theorem dX5_full_6 : decode cX5_full 6 = .ok (.iaload, 1) := dk_46 (dk_at dksX5_full_0 6 rfl rfl)
theorem dX5_full_7 : decode cX5_full 7 = .ok (.iconst 1, 1) := dk_4 (dk_at dksX5_full_0 7 rfl rfl)
theorem dX5_full_8 : decode cX5_full 8 = .ok (.iadd, 1) := dk_96 (dk_at dksX5_full_0 8 rfl rfl)
theorem dX5_full_9 : decode cX5_full 9 = .ok (.iastore, 1) := dk_79 (dk_at dksX5_full_0 9 rfl rfl)
theorem dX5_full_10 : decode cX5_full 10 = .ok (.bipush (-4), 2) := dk_16 252 (dk_at dksX5_full_0 10 rfl rfl)
theorem dX5_full_12 : decode cX5_full 12 = .ok (.ireturn, 1) := dk_172 (dk_at dksX5_full_0 12 rfl rfl)
abbrev cX5_layView : ByteArray := prog_14_method_19_code
def yX5_layView : MethodName := ⟨RX5, "layView", "([IIIII)V"⟩
def dkwX5_layView_2 : List UInt8 := [21, 5, 8, 96, 3, 79, 42, 3, 92, 46, 4, 96, 79, 177]
abbrev dktX5_layView_2 : List UInt8 := dkwX5_layView_2 ++ []
def dkwX5_layView_1 : List UInt8 := [79, 42, 21, 5, 5, 96, 29, 79, 42, 21, 5, 6, 96, 21, 4, 79, 42, 21, 5, 7, 96, 2, 79, 42]
abbrev dktX5_layView_1 : List UInt8 := dkwX5_layView_1 ++ dktX5_layView_2
def dkwX5_layView_0 : List UInt8 := [16, 7, 16, 6, 42, 3, 46, 104, 96, 54, 5, 42, 21, 5, 3, 96, 27, 79, 42, 21, 5, 4, 96, 28]
abbrev dktX5_layView_0 : List UInt8 := dkwX5_layView_0 ++ dktX5_layView_1
theorem dksX5_layView_0 : cX5_layView.data.toList.drop 0 = dktX5_layView_0 := by decide +kernel
theorem dksX5_layView_1 : cX5_layView.data.toList.drop 24 = dktX5_layView_1 := dk_seg dksX5_layView_0 24 rfl rfl
theorem dksX5_layView_2 : cX5_layView.data.toList.drop 48 = dktX5_layView_2 := dk_seg dksX5_layView_1 24 rfl rfl
theorem dX5_layView_0 : decode cX5_layView 0 = .ok (.bipush 7, 2) := dk_16 7 (dk_at dksX5_layView_0 0 rfl rfl)
theorem dX5_layView_2 : decode cX5_layView 2 = .ok (.bipush 6, 2) := dk_16 6 (dk_at dksX5_layView_0 2 rfl rfl)
theorem dX5_layView_4 : decode cX5_layView 4 = .ok (.aload_n 0, 1) := dk_42 (dk_at dksX5_layView_0 4 rfl rfl)
theorem dX5_layView_5 : decode cX5_layView 5 = .ok (.iconst 0, 1) := dk_3 (dk_at dksX5_layView_0 5 rfl rfl)
theorem dX5_layView_6 : decode cX5_layView 6 = .ok (.iaload, 1) := dk_46 (dk_at dksX5_layView_0 6 rfl rfl)
theorem dX5_layView_7 : decode cX5_layView 7 = .ok (.imul, 1) := dk_104 (dk_at dksX5_layView_0 7 rfl rfl)
theorem dX5_layView_8 : decode cX5_layView 8 = .ok (.iadd, 1) := dk_96 (dk_at dksX5_layView_0 8 rfl rfl)
theorem dX5_layView_9 : decode cX5_layView 9 = .ok (.istore 5, 2) := dk_54 5 (dk_at dksX5_layView_0 9 rfl rfl)
theorem dX5_layView_11 : decode cX5_layView 11 = .ok (.aload_n 0, 1) := dk_42 (dk_at dksX5_layView_0 11 rfl rfl)
theorem dX5_layView_12 : decode cX5_layView 12 = .ok (.iload 5, 2) := dk_21 5 (dk_at dksX5_layView_0 12 rfl rfl)
theorem dX5_layView_14 : decode cX5_layView 14 = .ok (.iconst 0, 1) := dk_3 (dk_at dksX5_layView_0 14 rfl rfl)
theorem dX5_layView_15 : decode cX5_layView 15 = .ok (.iadd, 1) := dk_96 (dk_at dksX5_layView_0 15 rfl rfl)
theorem dX5_layView_16 : decode cX5_layView 16 = .ok (.iload_n 1, 1) := dk_27 (dk_at dksX5_layView_0 16 rfl rfl)
theorem dX5_layView_17 : decode cX5_layView 17 = .ok (.iastore, 1) := dk_79 (dk_at dksX5_layView_0 17 rfl rfl)
theorem dX5_layView_18 : decode cX5_layView 18 = .ok (.aload_n 0, 1) := dk_42 (dk_at dksX5_layView_0 18 rfl rfl)
theorem dX5_layView_19 : decode cX5_layView 19 = .ok (.iload 5, 2) := dk_21 5 (dk_at dksX5_layView_0 19 rfl rfl)
theorem dX5_layView_21 : decode cX5_layView 21 = .ok (.iconst 1, 1) := dk_4 (dk_at dksX5_layView_0 21 rfl rfl)
theorem dX5_layView_22 : decode cX5_layView 22 = .ok (.iadd, 1) := dk_96 (dk_at dksX5_layView_0 22 rfl rfl)
theorem dX5_layView_23 : decode cX5_layView 23 = .ok (.iload_n 2, 1) := dk_28 (dk_at dksX5_layView_0 23 rfl rfl)
theorem dX5_layView_24 : decode cX5_layView 24 = .ok (.iastore, 1) := dk_79 (dk_at dksX5_layView_1 0 rfl rfl)
theorem dX5_layView_25 : decode cX5_layView 25 = .ok (.aload_n 0, 1) := dk_42 (dk_at dksX5_layView_1 1 rfl rfl)
theorem dX5_layView_26 : decode cX5_layView 26 = .ok (.iload 5, 2) := dk_21 5 (dk_at dksX5_layView_1 2 rfl rfl)
theorem dX5_layView_28 : decode cX5_layView 28 = .ok (.iconst 2, 1) := dk_5 (dk_at dksX5_layView_1 4 rfl rfl)
theorem dX5_layView_29 : decode cX5_layView 29 = .ok (.iadd, 1) := dk_96 (dk_at dksX5_layView_1 5 rfl rfl)
theorem dX5_layView_30 : decode cX5_layView 30 = .ok (.iload_n 3, 1) := dk_29 (dk_at dksX5_layView_1 6 rfl rfl)
theorem dX5_layView_31 : decode cX5_layView 31 = .ok (.iastore, 1) := dk_79 (dk_at dksX5_layView_1 7 rfl rfl)
theorem dX5_layView_32 : decode cX5_layView 32 = .ok (.aload_n 0, 1) := dk_42 (dk_at dksX5_layView_1 8 rfl rfl)
theorem dX5_layView_33 : decode cX5_layView 33 = .ok (.iload 5, 2) := dk_21 5 (dk_at dksX5_layView_1 9 rfl rfl)
theorem dX5_layView_35 : decode cX5_layView 35 = .ok (.iconst 3, 1) := dk_6 (dk_at dksX5_layView_1 11 rfl rfl)
theorem dX5_layView_36 : decode cX5_layView 36 = .ok (.iadd, 1) := dk_96 (dk_at dksX5_layView_1 12 rfl rfl)
theorem dX5_layView_37 : decode cX5_layView 37 = .ok (.iload 4, 2) := dk_21 4 (dk_at dksX5_layView_1 13 rfl rfl)
theorem dX5_layView_39 : decode cX5_layView 39 = .ok (.iastore, 1) := dk_79 (dk_at dksX5_layView_1 15 rfl rfl)
theorem dX5_layView_40 : decode cX5_layView 40 = .ok (.aload_n 0, 1) := dk_42 (dk_at dksX5_layView_1 16 rfl rfl)
theorem dX5_layView_41 : decode cX5_layView 41 = .ok (.iload 5, 2) := dk_21 5 (dk_at dksX5_layView_1 17 rfl rfl)
theorem dX5_layView_43 : decode cX5_layView 43 = .ok (.iconst 4, 1) := dk_7 (dk_at dksX5_layView_1 19 rfl rfl)
theorem dX5_layView_44 : decode cX5_layView 44 = .ok (.iadd, 1) := dk_96 (dk_at dksX5_layView_1 20 rfl rfl)
theorem dX5_layView_45 : decode cX5_layView 45 = .ok (.iconst (-1), 1) := dk_2 (dk_at dksX5_layView_1 21 rfl rfl)
theorem dX5_layView_46 : decode cX5_layView 46 = .ok (.iastore, 1) := dk_79 (dk_at dksX5_layView_1 22 rfl rfl)
theorem dX5_layView_47 : decode cX5_layView 47 = .ok (.aload_n 0, 1) := dk_42 (dk_at dksX5_layView_1 23 rfl rfl)
theorem dX5_layView_48 : decode cX5_layView 48 = .ok (.iload 5, 2) := dk_21 5 (dk_at dksX5_layView_2 0 rfl rfl)
theorem dX5_layView_50 : decode cX5_layView 50 = .ok (.iconst 5, 1) := dk_8 (dk_at dksX5_layView_2 2 rfl rfl)
theorem dX5_layView_51 : decode cX5_layView 51 = .ok (.iadd, 1) := dk_96 (dk_at dksX5_layView_2 3 rfl rfl)
theorem dX5_layView_52 : decode cX5_layView 52 = .ok (.iconst 0, 1) := dk_3 (dk_at dksX5_layView_2 4 rfl rfl)
theorem dX5_layView_53 : decode cX5_layView 53 = .ok (.iastore, 1) := dk_79 (dk_at dksX5_layView_2 5 rfl rfl)
theorem dX5_layView_54 : decode cX5_layView 54 = .ok (.aload_n 0, 1) := dk_42 (dk_at dksX5_layView_2 6 rfl rfl)
theorem dX5_layView_55 : decode cX5_layView 55 = .ok (.iconst 0, 1) := dk_3 (dk_at dksX5_layView_2 7 rfl rfl)
theorem dX5_layView_56 : decode cX5_layView 56 = .ok (.dup2, 1) := dk_92 (dk_at dksX5_layView_2 8 rfl rfl)
theorem dX5_layView_57 : decode cX5_layView 57 = .ok (.iaload, 1) := dk_46 (dk_at dksX5_layView_2 9 rfl rfl)
theorem dX5_layView_58 : decode cX5_layView 58 = .ok (.iconst 1, 1) := dk_4 (dk_at dksX5_layView_2 10 rfl rfl)
theorem dX5_layView_59 : decode cX5_layView 59 = .ok (.iadd, 1) := dk_96 (dk_at dksX5_layView_2 11 rfl rfl)
theorem dX5_layView_60 : decode cX5_layView 60 = .ok (.iastore, 1) := dk_79 (dk_at dksX5_layView_2 12 rfl rfl)
theorem dX5_layView_61 : decode cX5_layView 61 = .ok (.return_, 1) := dk_177 (dk_at dksX5_layView_2 13 rfl rfl)
abbrev cX5_renter : ByteArray := prog_14_method_23_code
def yX5_renter : MethodName := ⟨RX5, "renter", "(III)I"⟩
def dkwX5_renter_2 : List UInt8 := [3, 79, 42, 182, 0, 68, 4, 100, 172]
abbrev dktX5_renter_2 : List UInt8 := dkwX5_renter_2 ++ []
def dkwX5_renter_1 : List UInt8 := [160, 0, 8, 42, 182, 0, 93, 172, 42, 180, 0, 7, 27, 28, 29, 184, 0, 108, 42, 180, 0, 7, 16, 6]
abbrev dktX5_renter_1 : List UInt8 := dkwX5_renter_1 ++ dktX5_renter_2
def dkwX5_renter_0 : List UInt8 := [27, 28, 29, 184, 0, 104, 154, 0, 10, 42, 16, 254, 182, 0, 89, 172, 42, 182, 0, 68, 16, 6]
abbrev dktX5_renter_0 : List UInt8 := dkwX5_renter_0 ++ dktX5_renter_1
theorem dksX5_renter_0 : cX5_renter.data.toList.drop 0 = dktX5_renter_0 := by decide +kernel
theorem dksX5_renter_1 : cX5_renter.data.toList.drop 22 = dktX5_renter_1 := dk_seg dksX5_renter_0 22 rfl rfl
theorem dksX5_renter_2 : cX5_renter.data.toList.drop 46 = dktX5_renter_2 := dk_seg dksX5_renter_1 24 rfl rfl
theorem dX5_renter_0 : decode cX5_renter 0 = .ok (.iload_n 1, 1) := dk_27 (dk_at dksX5_renter_0 0 rfl rfl)
theorem dX5_renter_1 : decode cX5_renter 1 = .ok (.iload_n 2, 1) := dk_28 (dk_at dksX5_renter_0 1 rfl rfl)
theorem dX5_renter_2 : decode cX5_renter 2 = .ok (.iload_n 3, 1) := dk_29 (dk_at dksX5_renter_0 2 rfl rfl)
theorem dX5_renter_3 : decode cX5_renter 3 = .ok (.invokestatic 104, 3) := dk_184 0 104 (dk_at dksX5_renter_0 3 rfl rfl)
theorem dX5_renter_6 : decode cX5_renter 6 = .ok (.ifCond .ne 10, 3) := dk_154 0 10 (dk_at dksX5_renter_0 6 rfl rfl)
theorem dX5_renter_9 : decode cX5_renter 9 = .ok (.aload_n 0, 1) := dk_42 (dk_at dksX5_renter_0 9 rfl rfl)
theorem dX5_renter_10 : decode cX5_renter 10 = .ok (.bipush (-2), 2) := dk_16 254 (dk_at dksX5_renter_0 10 rfl rfl)
theorem dX5_renter_12 : decode cX5_renter 12 = .ok (.invokevirtual 89, 3) := dk_182 0 89 (dk_at dksX5_renter_0 12 rfl rfl)
theorem dX5_renter_15 : decode cX5_renter 15 = .ok (.ireturn, 1) := dk_172 (dk_at dksX5_renter_0 15 rfl rfl)
theorem dX5_renter_16 : decode cX5_renter 16 = .ok (.aload_n 0, 1) := dk_42 (dk_at dksX5_renter_0 16 rfl rfl)
theorem dX5_renter_17 : decode cX5_renter 17 = .ok (.invokevirtual 68, 3) := dk_182 0 68 (dk_at dksX5_renter_0 17 rfl rfl)
theorem dX5_renter_20 : decode cX5_renter 20 = .ok (.bipush 6, 2) := dk_16 6 (dk_at dksX5_renter_0 20 rfl rfl)
theorem dX5_renter_22 : decode cX5_renter 22 = .ok (.if_icmp .ne 8, 3) := dk_160 0 8 (dk_at dksX5_renter_1 0 rfl rfl)
theorem dX5_renter_25 : decode cX5_renter 25 = .ok (.aload_n 0, 1) := dk_42 (dk_at dksX5_renter_1 3 rfl rfl)
theorem dX5_renter_26 : decode cX5_renter 26 = .ok (.invokevirtual 93, 3) := dk_182 0 93 (dk_at dksX5_renter_1 4 rfl rfl)
theorem dX5_renter_29 : decode cX5_renter 29 = .ok (.ireturn, 1) := dk_172 (dk_at dksX5_renter_1 7 rfl rfl)
theorem dX5_renter_30 : decode cX5_renter 30 = .ok (.aload_n 0, 1) := dk_42 (dk_at dksX5_renter_1 8 rfl rfl)
theorem dX5_renter_31 : decode cX5_renter 31 = .ok (.getfield 7, 3) := dk_180 0 7 (dk_at dksX5_renter_1 9 rfl rfl)
theorem dX5_renter_34 : decode cX5_renter 34 = .ok (.iload_n 1, 1) := dk_27 (dk_at dksX5_renter_1 12 rfl rfl)
theorem dX5_renter_35 : decode cX5_renter 35 = .ok (.iload_n 2, 1) := dk_28 (dk_at dksX5_renter_1 13 rfl rfl)
theorem dX5_renter_36 : decode cX5_renter 36 = .ok (.iload_n 3, 1) := dk_29 (dk_at dksX5_renter_1 14 rfl rfl)
theorem dX5_renter_37 : decode cX5_renter 37 = .ok (.invokestatic 108, 3) := dk_184 0 108 (dk_at dksX5_renter_1 15 rfl rfl)
theorem dX5_renter_40 : decode cX5_renter 40 = .ok (.aload_n 0, 1) := dk_42 (dk_at dksX5_renter_1 18 rfl rfl)
theorem dX5_renter_41 : decode cX5_renter 41 = .ok (.getfield 7, 3) := dk_180 0 7 (dk_at dksX5_renter_1 19 rfl rfl)
theorem dX5_renter_44 : decode cX5_renter 44 = .ok (.bipush 6, 2) := dk_16 6 (dk_at dksX5_renter_1 22 rfl rfl)
theorem dX5_renter_46 : decode cX5_renter 46 = .ok (.iconst 0, 1) := dk_3 (dk_at dksX5_renter_2 0 rfl rfl)
theorem dX5_renter_47 : decode cX5_renter 47 = .ok (.iastore, 1) := dk_79 (dk_at dksX5_renter_2 1 rfl rfl)
theorem dX5_renter_48 : decode cX5_renter 48 = .ok (.aload_n 0, 1) := dk_42 (dk_at dksX5_renter_2 2 rfl rfl)
theorem dX5_renter_49 : decode cX5_renter 49 = .ok (.invokevirtual 68, 3) := dk_182 0 68 (dk_at dksX5_renter_2 3 rfl rfl)
theorem dX5_renter_52 : decode cX5_renter 52 = .ok (.iconst 1, 1) := dk_4 (dk_at dksX5_renter_2 6 rfl rfl)
theorem dX5_renter_53 : decode cX5_renter 53 = .ok (.isub, 1) := dk_100 (dk_at dksX5_renter_2 7 rfl rfl)
theorem dX5_renter_54 : decode cX5_renter 54 = .ok (.ireturn, 1) := dk_172 (dk_at dksX5_renter_2 8 rfl rfl)
abbrev cX5_isRenterTold : ByteArray := prog_14_method_21_code
def yX5_isRenterTold : MethodName := ⟨RX5, "isRenterTold", "(III)Z"⟩
def dkwX5_isRenterTold_1 : List UInt8 := [28, 133, 9, 20, 0, 102, 184, 0, 64, 153, 0, 7, 4, 167, 0, 4, 3, 172]
abbrev dktX5_isRenterTold_1 : List UInt8 := dkwX5_isRenterTold_1 ++ []
def dkwX5_isRenterTold_0 : List UInt8 := [26, 133, 10, 20, 0, 79, 184, 0, 64, 153, 0, 31, 27, 133, 9, 20, 0, 100, 184, 0, 64, 153, 0, 19]
abbrev dktX5_isRenterTold_0 : List UInt8 := dkwX5_isRenterTold_0 ++ dktX5_isRenterTold_1
theorem dksX5_isRenterTold_0 : cX5_isRenterTold.data.toList.drop 0 = dktX5_isRenterTold_0 := by decide +kernel
theorem dksX5_isRenterTold_1 : cX5_isRenterTold.data.toList.drop 24 = dktX5_isRenterTold_1 := dk_seg dksX5_isRenterTold_0 24 rfl rfl
theorem dX5_isRenterTold_0 : decode cX5_isRenterTold 0 = .ok (.iload_n 0, 1) := dk_26 (dk_at dksX5_isRenterTold_0 0 rfl rfl)
theorem dX5_isRenterTold_1 : decode cX5_isRenterTold 1 = .ok (.i2l, 1) := dk_133 (dk_at dksX5_isRenterTold_0 1 rfl rfl)
theorem dX5_isRenterTold_2 : decode cX5_isRenterTold 2 = .ok (.lconst 1, 1) := dk_10 (dk_at dksX5_isRenterTold_0 2 rfl rfl)
theorem dX5_isRenterTold_3 : decode cX5_isRenterTold 3 = .ok (.ldc2_w 79, 3) := dk_20 0 79 (dk_at dksX5_isRenterTold_0 3 rfl rfl)
theorem dX5_isRenterTold_6 : decode cX5_isRenterTold 6 = .ok (.invokestatic 64, 3) := dk_184 0 64 (dk_at dksX5_isRenterTold_0 6 rfl rfl)
theorem dX5_isRenterTold_9 : decode cX5_isRenterTold 9 = .ok (.ifCond .eq 31, 3) := dk_153 0 31 (dk_at dksX5_isRenterTold_0 9 rfl rfl)
theorem dX5_isRenterTold_12 : decode cX5_isRenterTold 12 = .ok (.iload_n 1, 1) := dk_27 (dk_at dksX5_isRenterTold_0 12 rfl rfl)
theorem dX5_isRenterTold_13 : decode cX5_isRenterTold 13 = .ok (.i2l, 1) := dk_133 (dk_at dksX5_isRenterTold_0 13 rfl rfl)
theorem dX5_isRenterTold_14 : decode cX5_isRenterTold 14 = .ok (.lconst 0, 1) := dk_9 (dk_at dksX5_isRenterTold_0 14 rfl rfl)
theorem dX5_isRenterTold_15 : decode cX5_isRenterTold 15 = .ok (.ldc2_w 100, 3) := dk_20 0 100 (dk_at dksX5_isRenterTold_0 15 rfl rfl)
theorem dX5_isRenterTold_18 : decode cX5_isRenterTold 18 = .ok (.invokestatic 64, 3) := dk_184 0 64 (dk_at dksX5_isRenterTold_0 18 rfl rfl)
theorem dX5_isRenterTold_21 : decode cX5_isRenterTold 21 = .ok (.ifCond .eq 19, 3) := dk_153 0 19 (dk_at dksX5_isRenterTold_0 21 rfl rfl)
theorem dX5_isRenterTold_24 : decode cX5_isRenterTold 24 = .ok (.iload_n 2, 1) := dk_28 (dk_at dksX5_isRenterTold_1 0 rfl rfl)
theorem dX5_isRenterTold_25 : decode cX5_isRenterTold 25 = .ok (.i2l, 1) := dk_133 (dk_at dksX5_isRenterTold_1 1 rfl rfl)
theorem dX5_isRenterTold_26 : decode cX5_isRenterTold 26 = .ok (.lconst 0, 1) := dk_9 (dk_at dksX5_isRenterTold_1 2 rfl rfl)
theorem dX5_isRenterTold_27 : decode cX5_isRenterTold 27 = .ok (.ldc2_w 102, 3) := dk_20 0 102 (dk_at dksX5_isRenterTold_1 3 rfl rfl)
theorem dX5_isRenterTold_30 : decode cX5_isRenterTold 30 = .ok (.invokestatic 64, 3) := dk_184 0 64 (dk_at dksX5_isRenterTold_1 6 rfl rfl)
theorem dX5_isRenterTold_33 : decode cX5_isRenterTold 33 = .ok (.ifCond .eq 7, 3) := dk_153 0 7 (dk_at dksX5_isRenterTold_1 9 rfl rfl)
theorem dX5_isRenterTold_36 : decode cX5_isRenterTold 36 = .ok (.iconst 1, 1) := dk_4 (dk_at dksX5_isRenterTold_1 12 rfl rfl)
theorem dX5_isRenterTold_37 : decode cX5_isRenterTold 37 = .ok (.goto 4, 3) := dk_167 0 4 (dk_at dksX5_isRenterTold_1 13 rfl rfl)
theorem dX5_isRenterTold_40 : decode cX5_isRenterTold 40 = .ok (.iconst 0, 1) := dk_3 (dk_at dksX5_isRenterTold_1 16 rfl rfl)
theorem dX5_isRenterTold_41 : decode cX5_isRenterTold 41 = .ok (.ireturn, 1) := dk_172 (dk_at dksX5_isRenterTold_1 17 rfl rfl)
abbrev cX5_renters : ByteArray := prog_14_method_10_code
def yX5_renters : MethodName := ⟨RX5, "renters", "()I"⟩
def dkwX5_renters_0 : List UInt8 := [42, 180, 0, 7, 4, 46, 172]
abbrev dktX5_renters_0 : List UInt8 := dkwX5_renters_0 ++ []
theorem dksX5_renters_0 : cX5_renters.data.toList.drop 0 = dktX5_renters_0 := by decide +kernel
theorem dX5_renters_0 : decode cX5_renters 0 = .ok (.aload_n 0, 1) := dk_42 (dk_at dksX5_renters_0 0 rfl rfl)
theorem dX5_renters_1 : decode cX5_renters 1 = .ok (.getfield 7, 3) := dk_180 0 7 (dk_at dksX5_renters_0 1 rfl rfl)
theorem dX5_renters_4 : decode cX5_renters 4 = .ok (.iconst 1, 1) := dk_4 (dk_at dksX5_renters_0 4 rfl rfl)
theorem dX5_renters_5 : decode cX5_renters 5 = .ok (.iaload, 1) := dk_46 (dk_at dksX5_renters_0 5 rfl rfl)
theorem dX5_renters_6 : decode cX5_renters 6 = .ok (.ireturn, 1) := dk_172 (dk_at dksX5_renters_0 6 rfl rfl)
abbrev cX5_layRenter : ByteArray := prog_14_method_22_code
def yX5_layRenter : MethodName := ⟨RX5, "layRenter", "([IIII)V"⟩
def dkwX5_layRenter_1 : List UInt8 := [42, 21, 4, 5, 96, 29, 79, 42, 4, 92, 46, 4, 96, 79, 177]
abbrev dktX5_layRenter_1 : List UInt8 := dkwX5_layRenter_1 ++ []
def dkwX5_layRenter_0 : List UInt8 := [16, 43, 6, 42, 4, 46, 104, 96, 54, 4, 42, 21, 4, 3, 96, 27, 79, 42, 21, 4, 4, 96, 28, 79]
abbrev dktX5_layRenter_0 : List UInt8 := dkwX5_layRenter_0 ++ dktX5_layRenter_1
theorem dksX5_layRenter_0 : cX5_layRenter.data.toList.drop 0 = dktX5_layRenter_0 := by decide +kernel
theorem dksX5_layRenter_1 : cX5_layRenter.data.toList.drop 24 = dktX5_layRenter_1 := dk_seg dksX5_layRenter_0 24 rfl rfl
theorem dX5_layRenter_0 : decode cX5_layRenter 0 = .ok (.bipush 43, 2) := dk_16 43 (dk_at dksX5_layRenter_0 0 rfl rfl)
theorem dX5_layRenter_2 : decode cX5_layRenter 2 = .ok (.iconst 3, 1) := dk_6 (dk_at dksX5_layRenter_0 2 rfl rfl)
theorem dX5_layRenter_3 : decode cX5_layRenter 3 = .ok (.aload_n 0, 1) := dk_42 (dk_at dksX5_layRenter_0 3 rfl rfl)
theorem dX5_layRenter_4 : decode cX5_layRenter 4 = .ok (.iconst 1, 1) := dk_4 (dk_at dksX5_layRenter_0 4 rfl rfl)
theorem dX5_layRenter_5 : decode cX5_layRenter 5 = .ok (.iaload, 1) := dk_46 (dk_at dksX5_layRenter_0 5 rfl rfl)
theorem dX5_layRenter_6 : decode cX5_layRenter 6 = .ok (.imul, 1) := dk_104 (dk_at dksX5_layRenter_0 6 rfl rfl)
theorem dX5_layRenter_7 : decode cX5_layRenter 7 = .ok (.iadd, 1) := dk_96 (dk_at dksX5_layRenter_0 7 rfl rfl)
theorem dX5_layRenter_8 : decode cX5_layRenter 8 = .ok (.istore 4, 2) := dk_54 4 (dk_at dksX5_layRenter_0 8 rfl rfl)
theorem dX5_layRenter_10 : decode cX5_layRenter 10 = .ok (.aload_n 0, 1) := dk_42 (dk_at dksX5_layRenter_0 10 rfl rfl)
theorem dX5_layRenter_11 : decode cX5_layRenter 11 = .ok (.iload 4, 2) := dk_21 4 (dk_at dksX5_layRenter_0 11 rfl rfl)
theorem dX5_layRenter_13 : decode cX5_layRenter 13 = .ok (.iconst 0, 1) := dk_3 (dk_at dksX5_layRenter_0 13 rfl rfl)
theorem dX5_layRenter_14 : decode cX5_layRenter 14 = .ok (.iadd, 1) := dk_96 (dk_at dksX5_layRenter_0 14 rfl rfl)
theorem dX5_layRenter_15 : decode cX5_layRenter 15 = .ok (.iload_n 1, 1) := dk_27 (dk_at dksX5_layRenter_0 15 rfl rfl)
theorem dX5_layRenter_16 : decode cX5_layRenter 16 = .ok (.iastore, 1) := dk_79 (dk_at dksX5_layRenter_0 16 rfl rfl)
theorem dX5_layRenter_17 : decode cX5_layRenter 17 = .ok (.aload_n 0, 1) := dk_42 (dk_at dksX5_layRenter_0 17 rfl rfl)
theorem dX5_layRenter_18 : decode cX5_layRenter 18 = .ok (.iload 4, 2) := dk_21 4 (dk_at dksX5_layRenter_0 18 rfl rfl)
theorem dX5_layRenter_20 : decode cX5_layRenter 20 = .ok (.iconst 1, 1) := dk_4 (dk_at dksX5_layRenter_0 20 rfl rfl)
theorem dX5_layRenter_21 : decode cX5_layRenter 21 = .ok (.iadd, 1) := dk_96 (dk_at dksX5_layRenter_0 21 rfl rfl)
theorem dX5_layRenter_22 : decode cX5_layRenter 22 = .ok (.iload_n 2, 1) := dk_28 (dk_at dksX5_layRenter_0 22 rfl rfl)
theorem dX5_layRenter_23 : decode cX5_layRenter 23 = .ok (.iastore, 1) := dk_79 (dk_at dksX5_layRenter_0 23 rfl rfl)
theorem dX5_layRenter_24 : decode cX5_layRenter 24 = .ok (.aload_n 0, 1) := dk_42 (dk_at dksX5_layRenter_1 0 rfl rfl)
theorem dX5_layRenter_25 : decode cX5_layRenter 25 = .ok (.iload 4, 2) := dk_21 4 (dk_at dksX5_layRenter_1 1 rfl rfl)
theorem dX5_layRenter_27 : decode cX5_layRenter 27 = .ok (.iconst 2, 1) := dk_5 (dk_at dksX5_layRenter_1 3 rfl rfl)
theorem dX5_layRenter_28 : decode cX5_layRenter 28 = .ok (.iadd, 1) := dk_96 (dk_at dksX5_layRenter_1 4 rfl rfl)
theorem dX5_layRenter_29 : decode cX5_layRenter 29 = .ok (.iload_n 3, 1) := dk_29 (dk_at dksX5_layRenter_1 5 rfl rfl)
theorem dX5_layRenter_30 : decode cX5_layRenter 30 = .ok (.iastore, 1) := dk_79 (dk_at dksX5_layRenter_1 6 rfl rfl)
theorem dX5_layRenter_31 : decode cX5_layRenter 31 = .ok (.aload_n 0, 1) := dk_42 (dk_at dksX5_layRenter_1 7 rfl rfl)
theorem dX5_layRenter_32 : decode cX5_layRenter 32 = .ok (.iconst 1, 1) := dk_4 (dk_at dksX5_layRenter_1 8 rfl rfl)
theorem dX5_layRenter_33 : decode cX5_layRenter 33 = .ok (.dup2, 1) := dk_92 (dk_at dksX5_layRenter_1 9 rfl rfl)
theorem dX5_layRenter_34 : decode cX5_layRenter 34 = .ok (.iaload, 1) := dk_46 (dk_at dksX5_layRenter_1 10 rfl rfl)
theorem dX5_layRenter_35 : decode cX5_layRenter 35 = .ok (.iconst 1, 1) := dk_4 (dk_at dksX5_layRenter_1 11 rfl rfl)
theorem dX5_layRenter_36 : decode cX5_layRenter 36 = .ok (.iadd, 1) := dk_96 (dk_at dksX5_layRenter_1 12 rfl rfl)
theorem dX5_layRenter_37 : decode cX5_layRenter 37 = .ok (.iastore, 1) := dk_79 (dk_at dksX5_layRenter_1 13 rfl rfl)
theorem dX5_layRenter_38 : decode cX5_layRenter 38 = .ok (.return_, 1) := dk_177 (dk_at dksX5_layRenter_1 14 rfl rfl)
abbrev cX5_things : ByteArray := prog_14_method_24_code
def yX5_things : MethodName := ⟨RX5, "things", "(II)I"⟩
def dkwX5_things_2 : List UInt8 := [28, 79, 29, 172]
abbrev dktX5_things_2 : List UInt8 := dkwX5_things_2 ++ []
def dkwX5_things_1 : List UInt8 := [182, 0, 89, 172, 42, 27, 8, 182, 0, 117, 62, 42, 180, 0, 7, 16, 7, 16, 6, 27, 104, 96, 8, 96]
abbrev dktX5_things_1 : List UInt8 := dkwX5_things_1 ++ dktX5_things_2
def dkwX5_things_0 : List UInt8 := [42, 27, 182, 0, 112, 153, 0, 15, 28, 133, 9, 20, 0, 115, 184, 0, 64, 154, 0, 10, 42, 16, 254]
abbrev dktX5_things_0 : List UInt8 := dkwX5_things_0 ++ dktX5_things_1
theorem dksX5_things_0 : cX5_things.data.toList.drop 0 = dktX5_things_0 := by decide +kernel
theorem dksX5_things_1 : cX5_things.data.toList.drop 23 = dktX5_things_1 := dk_seg dksX5_things_0 23 rfl rfl
theorem dksX5_things_2 : cX5_things.data.toList.drop 47 = dktX5_things_2 := dk_seg dksX5_things_1 24 rfl rfl
theorem dX5_things_0 : decode cX5_things 0 = .ok (.aload_n 0, 1) := dk_42 (dk_at dksX5_things_0 0 rfl rfl)
theorem dX5_things_1 : decode cX5_things 1 = .ok (.iload_n 1, 1) := dk_27 (dk_at dksX5_things_0 1 rfl rfl)
theorem dX5_things_2 : decode cX5_things 2 = .ok (.invokevirtual 112, 3) := dk_182 0 112 (dk_at dksX5_things_0 2 rfl rfl)
theorem dX5_things_5 : decode cX5_things 5 = .ok (.ifCond .eq 15, 3) := dk_153 0 15 (dk_at dksX5_things_0 5 rfl rfl)
theorem dX5_things_8 : decode cX5_things 8 = .ok (.iload_n 2, 1) := dk_28 (dk_at dksX5_things_0 8 rfl rfl)
theorem dX5_things_9 : decode cX5_things 9 = .ok (.i2l, 1) := dk_133 (dk_at dksX5_things_0 9 rfl rfl)
theorem dX5_things_10 : decode cX5_things 10 = .ok (.lconst 0, 1) := dk_9 (dk_at dksX5_things_0 10 rfl rfl)
theorem dX5_things_11 : decode cX5_things 11 = .ok (.ldc2_w 115, 3) := dk_20 0 115 (dk_at dksX5_things_0 11 rfl rfl)
theorem dX5_things_14 : decode cX5_things 14 = .ok (.invokestatic 64, 3) := dk_184 0 64 (dk_at dksX5_things_0 14 rfl rfl)
theorem dX5_things_17 : decode cX5_things 17 = .ok (.ifCond .ne 10, 3) := dk_154 0 10 (dk_at dksX5_things_0 17 rfl rfl)
theorem dX5_things_20 : decode cX5_things 20 = .ok (.aload_n 0, 1) := dk_42 (dk_at dksX5_things_0 20 rfl rfl)
theorem dX5_things_21 : decode cX5_things 21 = .ok (.bipush (-2), 2) := dk_16 254 (dk_at dksX5_things_0 21 rfl rfl)
theorem dX5_things_23 : decode cX5_things 23 = .ok (.invokevirtual 89, 3) := dk_182 0 89 (dk_at dksX5_things_1 0 rfl rfl)
theorem dX5_things_26 : decode cX5_things 26 = .ok (.ireturn, 1) := dk_172 (dk_at dksX5_things_1 3 rfl rfl)
theorem dX5_things_27 : decode cX5_things 27 = .ok (.aload_n 0, 1) := dk_42 (dk_at dksX5_things_1 4 rfl rfl)
theorem dX5_things_28 : decode cX5_things 28 = .ok (.iload_n 1, 1) := dk_27 (dk_at dksX5_things_1 5 rfl rfl)
theorem dX5_things_29 : decode cX5_things 29 = .ok (.iconst 5, 1) := dk_8 (dk_at dksX5_things_1 6 rfl rfl)
theorem dX5_things_30 : decode cX5_things 30 = .ok (.invokevirtual 117, 3) := dk_182 0 117 (dk_at dksX5_things_1 7 rfl rfl)
theorem dX5_things_33 : decode cX5_things 33 = .ok (.istore_n 3, 1) := dk_62 (dk_at dksX5_things_1 10 rfl rfl)
theorem dX5_things_34 : decode cX5_things 34 = .ok (.aload_n 0, 1) := dk_42 (dk_at dksX5_things_1 11 rfl rfl)
theorem dX5_things_35 : decode cX5_things 35 = .ok (.getfield 7, 3) := dk_180 0 7 (dk_at dksX5_things_1 12 rfl rfl)
theorem dX5_things_38 : decode cX5_things 38 = .ok (.bipush 7, 2) := dk_16 7 (dk_at dksX5_things_1 15 rfl rfl)
theorem dX5_things_40 : decode cX5_things 40 = .ok (.bipush 6, 2) := dk_16 6 (dk_at dksX5_things_1 17 rfl rfl)
theorem dX5_things_42 : decode cX5_things 42 = .ok (.iload_n 1, 1) := dk_27 (dk_at dksX5_things_1 19 rfl rfl)
theorem dX5_things_43 : decode cX5_things 43 = .ok (.imul, 1) := dk_104 (dk_at dksX5_things_1 20 rfl rfl)
theorem dX5_things_44 : decode cX5_things 44 = .ok (.iadd, 1) := dk_96 (dk_at dksX5_things_1 21 rfl rfl)
theorem dX5_things_45 : decode cX5_things 45 = .ok (.iconst 5, 1) := dk_8 (dk_at dksX5_things_1 22 rfl rfl)
theorem dX5_things_46 : decode cX5_things 46 = .ok (.iadd, 1) := dk_96 (dk_at dksX5_things_1 23 rfl rfl)
theorem dX5_things_47 : decode cX5_things 47 = .ok (.iload_n 2, 1) := dk_28 (dk_at dksX5_things_2 0 rfl rfl)
theorem dX5_things_48 : decode cX5_things 48 = .ok (.iastore, 1) := dk_79 (dk_at dksX5_things_2 1 rfl rfl)
theorem dX5_things_49 : decode cX5_things 49 = .ok (.iload_n 3, 1) := dk_29 (dk_at dksX5_things_2 2 rfl rfl)
theorem dX5_things_50 : decode cX5_things 50 = .ok (.ireturn, 1) := dk_172 (dk_at dksX5_things_2 3 rfl rfl)
abbrev cX5_isView : ByteArray := prog_14_method_11_code
def yX5_isView : MethodName := ⟨RX5, "isView", "(I)Z"⟩
def dkwX5_isView_0 : List UInt8 := [27, 133, 9, 42, 182, 0, 60, 4, 100, 133, 184, 0, 64, 172]
abbrev dktX5_isView_0 : List UInt8 := dkwX5_isView_0 ++ []
theorem dksX5_isView_0 : cX5_isView.data.toList.drop 0 = dktX5_isView_0 := by decide +kernel
theorem dX5_isView_0 : decode cX5_isView 0 = .ok (.iload_n 1, 1) := dk_27 (dk_at dksX5_isView_0 0 rfl rfl)
theorem dX5_isView_1 : decode cX5_isView 1 = .ok (.i2l, 1) := dk_133 (dk_at dksX5_isView_0 1 rfl rfl)
theorem dX5_isView_2 : decode cX5_isView 2 = .ok (.lconst 0, 1) := dk_9 (dk_at dksX5_isView_0 2 rfl rfl)
theorem dX5_isView_3 : decode cX5_isView 3 = .ok (.aload_n 0, 1) := dk_42 (dk_at dksX5_isView_0 3 rfl rfl)
theorem dX5_isView_4 : decode cX5_isView 4 = .ok (.invokevirtual 60, 3) := dk_182 0 60 (dk_at dksX5_isView_0 4 rfl rfl)
theorem dX5_isView_7 : decode cX5_isView 7 = .ok (.iconst 1, 1) := dk_4 (dk_at dksX5_isView_0 7 rfl rfl)
theorem dX5_isView_8 : decode cX5_isView 8 = .ok (.isub, 1) := dk_100 (dk_at dksX5_isView_0 8 rfl rfl)
theorem dX5_isView_9 : decode cX5_isView 9 = .ok (.i2l, 1) := dk_133 (dk_at dksX5_isView_0 9 rfl rfl)
theorem dX5_isView_10 : decode cX5_isView 10 = .ok (.invokestatic 64, 3) := dk_184 0 64 (dk_at dksX5_isView_0 10 rfl rfl)
theorem dX5_isView_13 : decode cX5_isView 13 = .ok (.ireturn, 1) := dk_172 (dk_at dksX5_isView_0 13 rfl rfl)
abbrev cX5_viewHas : ByteArray := prog_14_method_15_code
def yX5_viewHas : MethodName := ⟨RX5, "viewHas", "(II)I"⟩
def dkwX5_viewHas_0 : List UInt8 := [42, 180, 0, 7, 16, 7, 16, 6, 27, 104, 96, 28, 96, 46, 172]
abbrev dktX5_viewHas_0 : List UInt8 := dkwX5_viewHas_0 ++ []
theorem dksX5_viewHas_0 : cX5_viewHas.data.toList.drop 0 = dktX5_viewHas_0 := by decide +kernel
theorem dX5_viewHas_0 : decode cX5_viewHas 0 = .ok (.aload_n 0, 1) := dk_42 (dk_at dksX5_viewHas_0 0 rfl rfl)
theorem dX5_viewHas_1 : decode cX5_viewHas 1 = .ok (.getfield 7, 3) := dk_180 0 7 (dk_at dksX5_viewHas_0 1 rfl rfl)
theorem dX5_viewHas_4 : decode cX5_viewHas 4 = .ok (.bipush 7, 2) := dk_16 7 (dk_at dksX5_viewHas_0 4 rfl rfl)
theorem dX5_viewHas_6 : decode cX5_viewHas 6 = .ok (.bipush 6, 2) := dk_16 6 (dk_at dksX5_viewHas_0 6 rfl rfl)
theorem dX5_viewHas_8 : decode cX5_viewHas 8 = .ok (.iload_n 1, 1) := dk_27 (dk_at dksX5_viewHas_0 8 rfl rfl)
theorem dX5_viewHas_9 : decode cX5_viewHas 9 = .ok (.imul, 1) := dk_104 (dk_at dksX5_viewHas_0 9 rfl rfl)
theorem dX5_viewHas_10 : decode cX5_viewHas 10 = .ok (.iadd, 1) := dk_96 (dk_at dksX5_viewHas_0 10 rfl rfl)
theorem dX5_viewHas_11 : decode cX5_viewHas 11 = .ok (.iload_n 2, 1) := dk_28 (dk_at dksX5_viewHas_0 11 rfl rfl)
theorem dX5_viewHas_12 : decode cX5_viewHas 12 = .ok (.iadd, 1) := dk_96 (dk_at dksX5_viewHas_0 12 rfl rfl)
theorem dX5_viewHas_13 : decode cX5_viewHas 13 = .ok (.iaload, 1) := dk_46 (dk_at dksX5_viewHas_0 13 rfl rfl)
theorem dX5_viewHas_14 : decode cX5_viewHas 14 = .ok (.ireturn, 1) := dk_172 (dk_at dksX5_viewHas_0 14 rfl rfl)
abbrev cX5_let : ByteArray := prog_14_method_36_code
def yX5_let : MethodName := ⟨RX5, "let", "(II)I"⟩
def dkwX5_let_6 : List UInt8 := [46, 96, 79, 42, 27, 28, 182, 0, 163, 42, 180, 0, 27, 27, 46, 172]
abbrev dktX5_let_6 : List UInt8 := dkwX5_let_6 ++ []
def dkwX5_let_5 : List UInt8 := [4, 96, 92, 46, 42, 180, 0, 27, 27, 46, 100, 79, 42, 180, 0, 7, 6, 92, 46, 42, 180, 0, 27, 27]
abbrev dktX5_let_5 : List UInt8 := dkwX5_let_5 ++ dktX5_let_6
def dkwX5_let_4 : List UInt8 := [180, 0, 7, 16, 7, 16, 6, 27, 104, 96, 7, 96, 28, 79, 42, 180, 0, 7, 16, 43, 6, 28, 104, 96]
abbrev dktX5_let_4 : List UInt8 := dkwX5_let_4 ++ dktX5_let_5
def dkwX5_let_3 : List UInt8 := [180, 0, 27, 27, 46, 42, 180, 0, 33, 28, 46, 164, 0, 8, 42, 182, 0, 157, 172, 42, 182, 0, 160, 42]
abbrev dktX5_let_3 : List UInt8 := dkwX5_let_3 ++ dktX5_let_4
def dkwX5_let_2 : List UInt8 := [167, 0, 4, 3, 62, 29, 153, 0, 32, 42, 27, 42, 180, 0, 30, 28, 46, 182, 0, 138, 153, 0, 18, 42]
abbrev dktX5_let_2 : List UInt8 := dkwX5_let_2 ++ dktX5_let_3
def dkwX5_let_1 : List UInt8 := [182, 0, 151, 42, 27, 7, 182, 0, 117, 2, 160, 0, 16, 42, 28, 182, 0, 154, 2, 160, 0, 7, 4]
abbrev dktX5_let_1 : List UInt8 := dkwX5_let_1 ++ dktX5_let_2
def dkwX5_let_0 : List UInt8 := [42, 27, 182, 0, 112, 153, 0, 11, 42, 28, 182, 0, 148, 154, 0, 10, 42, 16, 254, 182, 0, 89, 172, 42]
abbrev dktX5_let_0 : List UInt8 := dkwX5_let_0 ++ dktX5_let_1
theorem dksX5_let_0 : cX5_let.data.toList.drop 0 = dktX5_let_0 := by decide +kernel
theorem dksX5_let_1 : cX5_let.data.toList.drop 24 = dktX5_let_1 := dk_seg dksX5_let_0 24 rfl rfl
theorem dksX5_let_2 : cX5_let.data.toList.drop 47 = dktX5_let_2 := dk_seg dksX5_let_1 23 rfl rfl
theorem dksX5_let_3 : cX5_let.data.toList.drop 71 = dktX5_let_3 := dk_seg dksX5_let_2 24 rfl rfl
theorem dksX5_let_4 : cX5_let.data.toList.drop 95 = dktX5_let_4 := dk_seg dksX5_let_3 24 rfl rfl
theorem dksX5_let_5 : cX5_let.data.toList.drop 119 = dktX5_let_5 := dk_seg dksX5_let_4 24 rfl rfl
theorem dksX5_let_6 : cX5_let.data.toList.drop 143 = dktX5_let_6 := dk_seg dksX5_let_5 24 rfl rfl
theorem dX5_let_0 : decode cX5_let 0 = .ok (.aload_n 0, 1) := dk_42 (dk_at dksX5_let_0 0 rfl rfl)
theorem dX5_let_1 : decode cX5_let 1 = .ok (.iload_n 1, 1) := dk_27 (dk_at dksX5_let_0 1 rfl rfl)
theorem dX5_let_2 : decode cX5_let 2 = .ok (.invokevirtual 112, 3) := dk_182 0 112 (dk_at dksX5_let_0 2 rfl rfl)
theorem dX5_let_5 : decode cX5_let 5 = .ok (.ifCond .eq 11, 3) := dk_153 0 11 (dk_at dksX5_let_0 5 rfl rfl)
theorem dX5_let_8 : decode cX5_let 8 = .ok (.aload_n 0, 1) := dk_42 (dk_at dksX5_let_0 8 rfl rfl)
theorem dX5_let_9 : decode cX5_let 9 = .ok (.iload_n 2, 1) := dk_28 (dk_at dksX5_let_0 9 rfl rfl)
theorem dX5_let_10 : decode cX5_let 10 = .ok (.invokevirtual 148, 3) := dk_182 0 148 (dk_at dksX5_let_0 10 rfl rfl)
theorem dX5_let_13 : decode cX5_let 13 = .ok (.ifCond .ne 10, 3) := dk_154 0 10 (dk_at dksX5_let_0 13 rfl rfl)
theorem dX5_let_16 : decode cX5_let 16 = .ok (.aload_n 0, 1) := dk_42 (dk_at dksX5_let_0 16 rfl rfl)
theorem dX5_let_17 : decode cX5_let 17 = .ok (.bipush (-2), 2) := dk_16 254 (dk_at dksX5_let_0 17 rfl rfl)
theorem dX5_let_19 : decode cX5_let 19 = .ok (.invokevirtual 89, 3) := dk_182 0 89 (dk_at dksX5_let_0 19 rfl rfl)
theorem dX5_let_22 : decode cX5_let 22 = .ok (.ireturn, 1) := dk_172 (dk_at dksX5_let_0 22 rfl rfl)
theorem dX5_let_23 : decode cX5_let 23 = .ok (.aload_n 0, 1) := dk_42 (dk_at dksX5_let_0 23 rfl rfl)
theorem dX5_let_24 : decode cX5_let 24 = .ok (.invokevirtual 151, 3) := dk_182 0 151 (dk_at dksX5_let_1 0 rfl rfl)
theorem dX5_let_27 : decode cX5_let 27 = .ok (.aload_n 0, 1) := dk_42 (dk_at dksX5_let_1 3 rfl rfl)
theorem dX5_let_28 : decode cX5_let 28 = .ok (.iload_n 1, 1) := dk_27 (dk_at dksX5_let_1 4 rfl rfl)
theorem dX5_let_29 : decode cX5_let 29 = .ok (.iconst 4, 1) := dk_7 (dk_at dksX5_let_1 5 rfl rfl)
theorem dX5_let_30 : decode cX5_let 30 = .ok (.invokevirtual 117, 3) := dk_182 0 117 (dk_at dksX5_let_1 6 rfl rfl)
theorem dX5_let_33 : decode cX5_let 33 = .ok (.iconst (-1), 1) := dk_2 (dk_at dksX5_let_1 9 rfl rfl)
theorem dX5_let_34 : decode cX5_let 34 = .ok (.if_icmp .ne 16, 3) := dk_160 0 16 (dk_at dksX5_let_1 10 rfl rfl)
theorem dX5_let_37 : decode cX5_let 37 = .ok (.aload_n 0, 1) := dk_42 (dk_at dksX5_let_1 13 rfl rfl)
theorem dX5_let_38 : decode cX5_let 38 = .ok (.iload_n 2, 1) := dk_28 (dk_at dksX5_let_1 14 rfl rfl)
theorem dX5_let_39 : decode cX5_let 39 = .ok (.invokevirtual 154, 3) := dk_182 0 154 (dk_at dksX5_let_1 15 rfl rfl)
theorem dX5_let_42 : decode cX5_let 42 = .ok (.iconst (-1), 1) := dk_2 (dk_at dksX5_let_1 18 rfl rfl)
theorem dX5_let_43 : decode cX5_let 43 = .ok (.if_icmp .ne 7, 3) := dk_160 0 7 (dk_at dksX5_let_1 19 rfl rfl)
theorem dX5_let_46 : decode cX5_let 46 = .ok (.iconst 1, 1) := dk_4 (dk_at dksX5_let_1 22 rfl rfl)
theorem dX5_let_47 : decode cX5_let 47 = .ok (.goto 4, 3) := dk_167 0 4 (dk_at dksX5_let_2 0 rfl rfl)
theorem dX5_let_50 : decode cX5_let 50 = .ok (.iconst 0, 1) := dk_3 (dk_at dksX5_let_2 3 rfl rfl)
theorem dX5_let_51 : decode cX5_let 51 = .ok (.istore_n 3, 1) := dk_62 (dk_at dksX5_let_2 4 rfl rfl)
theorem dX5_let_52 : decode cX5_let 52 = .ok (.iload_n 3, 1) := dk_29 (dk_at dksX5_let_2 5 rfl rfl)
theorem dX5_let_53 : decode cX5_let 53 = .ok (.ifCond .eq 32, 3) := dk_153 0 32 (dk_at dksX5_let_2 6 rfl rfl)
theorem dX5_let_56 : decode cX5_let 56 = .ok (.aload_n 0, 1) := dk_42 (dk_at dksX5_let_2 9 rfl rfl)
theorem dX5_let_57 : decode cX5_let 57 = .ok (.iload_n 1, 1) := dk_27 (dk_at dksX5_let_2 10 rfl rfl)
theorem dX5_let_58 : decode cX5_let 58 = .ok (.aload_n 0, 1) := dk_42 (dk_at dksX5_let_2 11 rfl rfl)
theorem dX5_let_59 : decode cX5_let 59 = .ok (.getfield 30, 3) := dk_180 0 30 (dk_at dksX5_let_2 12 rfl rfl)
theorem dX5_let_62 : decode cX5_let 62 = .ok (.iload_n 2, 1) := dk_28 (dk_at dksX5_let_2 15 rfl rfl)
theorem dX5_let_63 : decode cX5_let 63 = .ok (.iaload, 1) := dk_46 (dk_at dksX5_let_2 16 rfl rfl)
theorem dX5_let_64 : decode cX5_let 64 = .ok (.invokevirtual 138, 3) := dk_182 0 138 (dk_at dksX5_let_2 17 rfl rfl)
theorem dX5_let_67 : decode cX5_let 67 = .ok (.ifCond .eq 18, 3) := dk_153 0 18 (dk_at dksX5_let_2 20 rfl rfl)
theorem dX5_let_70 : decode cX5_let 70 = .ok (.aload_n 0, 1) := dk_42 (dk_at dksX5_let_2 23 rfl rfl)
theorem dX5_let_71 : decode cX5_let 71 = .ok (.getfield 27, 3) := dk_180 0 27 (dk_at dksX5_let_3 0 rfl rfl)
theorem dX5_let_74 : decode cX5_let 74 = .ok (.iload_n 1, 1) := dk_27 (dk_at dksX5_let_3 3 rfl rfl)
theorem dX5_let_75 : decode cX5_let 75 = .ok (.iaload, 1) := dk_46 (dk_at dksX5_let_3 4 rfl rfl)
theorem dX5_let_76 : decode cX5_let 76 = .ok (.aload_n 0, 1) := dk_42 (dk_at dksX5_let_3 5 rfl rfl)
theorem dX5_let_77 : decode cX5_let 77 = .ok (.getfield 33, 3) := dk_180 0 33 (dk_at dksX5_let_3 6 rfl rfl)
theorem dX5_let_80 : decode cX5_let 80 = .ok (.iload_n 2, 1) := dk_28 (dk_at dksX5_let_3 9 rfl rfl)
theorem dX5_let_81 : decode cX5_let 81 = .ok (.iaload, 1) := dk_46 (dk_at dksX5_let_3 10 rfl rfl)
theorem dX5_let_82 : decode cX5_let 82 = .ok (.if_icmp .le 8, 3) := dk_164 0 8 (dk_at dksX5_let_3 11 rfl rfl)
theorem dX5_let_85 : decode cX5_let 85 = .ok (.aload_n 0, 1) := dk_42 (dk_at dksX5_let_3 14 rfl rfl)
theorem dX5_let_86 : decode cX5_let 86 = .ok (.invokevirtual 157, 3) := dk_182 0 157 (dk_at dksX5_let_3 15 rfl rfl)
theorem dX5_let_89 : decode cX5_let 89 = .ok (.ireturn, 1) := dk_172 (dk_at dksX5_let_3 18 rfl rfl)
theorem dX5_let_90 : decode cX5_let 90 = .ok (.aload_n 0, 1) := dk_42 (dk_at dksX5_let_3 19 rfl rfl)
theorem dX5_let_91 : decode cX5_let 91 = .ok (.invokevirtual 160, 3) := dk_182 0 160 (dk_at dksX5_let_3 20 rfl rfl)
theorem dX5_let_94 : decode cX5_let 94 = .ok (.aload_n 0, 1) := dk_42 (dk_at dksX5_let_3 23 rfl rfl)
theorem dX5_let_95 : decode cX5_let 95 = .ok (.getfield 7, 3) := dk_180 0 7 (dk_at dksX5_let_4 0 rfl rfl)
theorem dX5_let_98 : decode cX5_let 98 = .ok (.bipush 7, 2) := dk_16 7 (dk_at dksX5_let_4 3 rfl rfl)
theorem dX5_let_100 : decode cX5_let 100 = .ok (.bipush 6, 2) := dk_16 6 (dk_at dksX5_let_4 5 rfl rfl)
theorem dX5_let_102 : decode cX5_let 102 = .ok (.iload_n 1, 1) := dk_27 (dk_at dksX5_let_4 7 rfl rfl)
theorem dX5_let_103 : decode cX5_let 103 = .ok (.imul, 1) := dk_104 (dk_at dksX5_let_4 8 rfl rfl)
theorem dX5_let_104 : decode cX5_let 104 = .ok (.iadd, 1) := dk_96 (dk_at dksX5_let_4 9 rfl rfl)
theorem dX5_let_105 : decode cX5_let 105 = .ok (.iconst 4, 1) := dk_7 (dk_at dksX5_let_4 10 rfl rfl)
theorem dX5_let_106 : decode cX5_let 106 = .ok (.iadd, 1) := dk_96 (dk_at dksX5_let_4 11 rfl rfl)
theorem dX5_let_107 : decode cX5_let 107 = .ok (.iload_n 2, 1) := dk_28 (dk_at dksX5_let_4 12 rfl rfl)
theorem dX5_let_108 : decode cX5_let 108 = .ok (.iastore, 1) := dk_79 (dk_at dksX5_let_4 13 rfl rfl)
theorem dX5_let_109 : decode cX5_let 109 = .ok (.aload_n 0, 1) := dk_42 (dk_at dksX5_let_4 14 rfl rfl)
theorem dX5_let_110 : decode cX5_let 110 = .ok (.getfield 7, 3) := dk_180 0 7 (dk_at dksX5_let_4 15 rfl rfl)
theorem dX5_let_113 : decode cX5_let 113 = .ok (.bipush 43, 2) := dk_16 43 (dk_at dksX5_let_4 18 rfl rfl)
theorem dX5_let_115 : decode cX5_let 115 = .ok (.iconst 3, 1) := dk_6 (dk_at dksX5_let_4 20 rfl rfl)
theorem dX5_let_116 : decode cX5_let 116 = .ok (.iload_n 2, 1) := dk_28 (dk_at dksX5_let_4 21 rfl rfl)
theorem dX5_let_117 : decode cX5_let 117 = .ok (.imul, 1) := dk_104 (dk_at dksX5_let_4 22 rfl rfl)
theorem dX5_let_118 : decode cX5_let 118 = .ok (.iadd, 1) := dk_96 (dk_at dksX5_let_4 23 rfl rfl)
theorem dX5_let_119 : decode cX5_let 119 = .ok (.iconst 1, 1) := dk_4 (dk_at dksX5_let_5 0 rfl rfl)
theorem dX5_let_120 : decode cX5_let 120 = .ok (.iadd, 1) := dk_96 (dk_at dksX5_let_5 1 rfl rfl)
theorem dX5_let_121 : decode cX5_let 121 = .ok (.dup2, 1) := dk_92 (dk_at dksX5_let_5 2 rfl rfl)
theorem dX5_let_122 : decode cX5_let 122 = .ok (.iaload, 1) := dk_46 (dk_at dksX5_let_5 3 rfl rfl)
theorem dX5_let_123 : decode cX5_let 123 = .ok (.aload_n 0, 1) := dk_42 (dk_at dksX5_let_5 4 rfl rfl)
theorem dX5_let_124 : decode cX5_let 124 = .ok (.getfield 27, 3) := dk_180 0 27 (dk_at dksX5_let_5 5 rfl rfl)
theorem dX5_let_127 : decode cX5_let 127 = .ok (.iload_n 1, 1) := dk_27 (dk_at dksX5_let_5 8 rfl rfl)
theorem dX5_let_128 : decode cX5_let 128 = .ok (.iaload, 1) := dk_46 (dk_at dksX5_let_5 9 rfl rfl)
theorem dX5_let_129 : decode cX5_let 129 = .ok (.isub, 1) := dk_100 (dk_at dksX5_let_5 10 rfl rfl)
theorem dX5_let_130 : decode cX5_let 130 = .ok (.iastore, 1) := dk_79 (dk_at dksX5_let_5 11 rfl rfl)
theorem dX5_let_131 : decode cX5_let 131 = .ok (.aload_n 0, 1) := dk_42 (dk_at dksX5_let_5 12 rfl rfl)
theorem dX5_let_132 : decode cX5_let 132 = .ok (.getfield 7, 3) := dk_180 0 7 (dk_at dksX5_let_5 13 rfl rfl)
theorem dX5_let_135 : decode cX5_let 135 = .ok (.iconst 3, 1) := dk_6 (dk_at dksX5_let_5 16 rfl rfl)
theorem dX5_let_136 : decode cX5_let 136 = .ok (.dup2, 1) := dk_92 (dk_at dksX5_let_5 17 rfl rfl)
theorem dX5_let_137 : decode cX5_let 137 = .ok (.iaload, 1) := dk_46 (dk_at dksX5_let_5 18 rfl rfl)
theorem dX5_let_138 : decode cX5_let 138 = .ok (.aload_n 0, 1) := dk_42 (dk_at dksX5_let_5 19 rfl rfl)
theorem dX5_let_139 : decode cX5_let 139 = .ok (.getfield 27, 3) := dk_180 0 27 (dk_at dksX5_let_5 20 rfl rfl)
theorem dX5_let_142 : decode cX5_let 142 = .ok (.iload_n 1, 1) := dk_27 (dk_at dksX5_let_5 23 rfl rfl)
theorem dX5_let_143 : decode cX5_let 143 = .ok (.iaload, 1) := dk_46 (dk_at dksX5_let_6 0 rfl rfl)
theorem dX5_let_144 : decode cX5_let 144 = .ok (.iadd, 1) := dk_96 (dk_at dksX5_let_6 1 rfl rfl)
theorem dX5_let_145 : decode cX5_let 145 = .ok (.iastore, 1) := dk_79 (dk_at dksX5_let_6 2 rfl rfl)
theorem dX5_let_146 : decode cX5_let 146 = .ok (.aload_n 0, 1) := dk_42 (dk_at dksX5_let_6 3 rfl rfl)
theorem dX5_let_147 : decode cX5_let 147 = .ok (.iload_n 1, 1) := dk_27 (dk_at dksX5_let_6 4 rfl rfl)
theorem dX5_let_148 : decode cX5_let 148 = .ok (.iload_n 2, 1) := dk_28 (dk_at dksX5_let_6 5 rfl rfl)
theorem dX5_let_149 : decode cX5_let 149 = .ok (.invokevirtual 163, 3) := dk_182 0 163 (dk_at dksX5_let_6 6 rfl rfl)
theorem dX5_let_152 : decode cX5_let 152 = .ok (.aload_n 0, 1) := dk_42 (dk_at dksX5_let_6 9 rfl rfl)
theorem dX5_let_153 : decode cX5_let 153 = .ok (.getfield 27, 3) := dk_180 0 27 (dk_at dksX5_let_6 10 rfl rfl)
theorem dX5_let_156 : decode cX5_let 156 = .ok (.iload_n 1, 1) := dk_27 (dk_at dksX5_let_6 13 rfl rfl)
theorem dX5_let_157 : decode cX5_let 157 = .ok (.iaload, 1) := dk_46 (dk_at dksX5_let_6 14 rfl rfl)
theorem dX5_let_158 : decode cX5_let 158 = .ok (.ireturn, 1) := dk_172 (dk_at dksX5_let_6 15 rfl rfl)
abbrev cX5_isRenter : ByteArray := prog_14_method_12_code
def yX5_isRenter : MethodName := ⟨RX5, "isRenter", "(I)Z"⟩
def dkwX5_isRenter_0 : List UInt8 := [27, 133, 9, 42, 182, 0, 68, 4, 100, 133, 184, 0, 64, 172]
abbrev dktX5_isRenter_0 : List UInt8 := dkwX5_isRenter_0 ++ []
theorem dksX5_isRenter_0 : cX5_isRenter.data.toList.drop 0 = dktX5_isRenter_0 := by decide +kernel
theorem dX5_isRenter_0 : decode cX5_isRenter 0 = .ok (.iload_n 1, 1) := dk_27 (dk_at dksX5_isRenter_0 0 rfl rfl)
theorem dX5_isRenter_1 : decode cX5_isRenter 1 = .ok (.i2l, 1) := dk_133 (dk_at dksX5_isRenter_0 1 rfl rfl)
theorem dX5_isRenter_2 : decode cX5_isRenter 2 = .ok (.lconst 0, 1) := dk_9 (dk_at dksX5_isRenter_0 2 rfl rfl)
theorem dX5_isRenter_3 : decode cX5_isRenter 3 = .ok (.aload_n 0, 1) := dk_42 (dk_at dksX5_isRenter_0 3 rfl rfl)
theorem dX5_isRenter_4 : decode cX5_isRenter 4 = .ok (.invokevirtual 68, 3) := dk_182 0 68 (dk_at dksX5_isRenter_0 4 rfl rfl)
theorem dX5_isRenter_7 : decode cX5_isRenter 7 = .ok (.iconst 1, 1) := dk_4 (dk_at dksX5_isRenter_0 7 rfl rfl)
theorem dX5_isRenter_8 : decode cX5_isRenter 8 = .ok (.isub, 1) := dk_100 (dk_at dksX5_isRenter_0 8 rfl rfl)
theorem dX5_isRenter_9 : decode cX5_isRenter 9 = .ok (.i2l, 1) := dk_133 (dk_at dksX5_isRenter_0 9 rfl rfl)
theorem dX5_isRenter_10 : decode cX5_isRenter 10 = .ok (.invokestatic 64, 3) := dk_184 0 64 (dk_at dksX5_isRenter_0 10 rfl rfl)
theorem dX5_isRenter_13 : decode cX5_isRenter 13 = .ok (.ireturn, 1) := dk_172 (dk_at dksX5_isRenter_0 13 rfl rfl)
abbrev cX5_layHand : ByteArray := prog_14_method_30_code
def yX5_layHand : MethodName := ⟨RX5, "layHand", "()V"⟩
def dkwX5_layHand_4 : List UInt8 := [167, 255, 209, 177]
abbrev dktX5_layHand_4 : List UInt8 := dkwX5_layHand_4 ++ []
def dkwX5_layHand_3 : List UInt8 := [42, 27, 4, 182, 0, 135, 79, 42, 180, 0, 36, 27, 42, 27, 5, 182, 0, 135, 79, 132, 1, 1]
abbrev dktX5_layHand_3 : List UInt8 := dkwX5_layHand_3 ++ dktX5_layHand_4
def dkwX5_layHand_2 : List UInt8 := [42, 182, 0, 68, 162, 0, 45, 42, 180, 0, 30, 27, 42, 27, 3, 182, 0, 135, 79, 42, 180, 0, 33, 27]
abbrev dktX5_layHand_2 : List UInt8 := dkwX5_layHand_2 ++ dktX5_layHand_3
def dkwX5_layHand_1 : List UInt8 := [182, 0, 117, 184, 0, 128, 79, 132, 1, 1, 167, 255, 224, 42, 42, 182, 0, 68, 181, 0, 131, 3, 60, 27]
abbrev dktX5_layHand_1 : List UInt8 := dkwX5_layHand_1 ++ dktX5_layHand_2
def dkwX5_layHand_0 : List UInt8 := [3, 60, 27, 42, 182, 0, 60, 162, 0, 30, 42, 180, 0, 27, 27, 42, 27, 3, 182, 0, 117, 42, 27, 5]
abbrev dktX5_layHand_0 : List UInt8 := dkwX5_layHand_0 ++ dktX5_layHand_1
theorem dksX5_layHand_0 : cX5_layHand.data.toList.drop 0 = dktX5_layHand_0 := by decide +kernel
theorem dksX5_layHand_1 : cX5_layHand.data.toList.drop 24 = dktX5_layHand_1 := dk_seg dksX5_layHand_0 24 rfl rfl
theorem dksX5_layHand_2 : cX5_layHand.data.toList.drop 48 = dktX5_layHand_2 := dk_seg dksX5_layHand_1 24 rfl rfl
theorem dksX5_layHand_3 : cX5_layHand.data.toList.drop 72 = dktX5_layHand_3 := dk_seg dksX5_layHand_2 24 rfl rfl
theorem dksX5_layHand_4 : cX5_layHand.data.toList.drop 94 = dktX5_layHand_4 := dk_seg dksX5_layHand_3 22 rfl rfl
theorem dX5_layHand_0 : decode cX5_layHand 0 = .ok (.iconst 0, 1) := dk_3 (dk_at dksX5_layHand_0 0 rfl rfl)
theorem dX5_layHand_1 : decode cX5_layHand 1 = .ok (.istore_n 1, 1) := dk_60 (dk_at dksX5_layHand_0 1 rfl rfl)
theorem dX5_layHand_2 : decode cX5_layHand 2 = .ok (.iload_n 1, 1) := dk_27 (dk_at dksX5_layHand_0 2 rfl rfl)
theorem dX5_layHand_3 : decode cX5_layHand 3 = .ok (.aload_n 0, 1) := dk_42 (dk_at dksX5_layHand_0 3 rfl rfl)
theorem dX5_layHand_4 : decode cX5_layHand 4 = .ok (.invokevirtual 60, 3) := dk_182 0 60 (dk_at dksX5_layHand_0 4 rfl rfl)
theorem dX5_layHand_7 : decode cX5_layHand 7 = .ok (.if_icmp .ge 30, 3) := dk_162 0 30 (dk_at dksX5_layHand_0 7 rfl rfl)
theorem dX5_layHand_10 : decode cX5_layHand 10 = .ok (.aload_n 0, 1) := dk_42 (dk_at dksX5_layHand_0 10 rfl rfl)
theorem dX5_layHand_11 : decode cX5_layHand 11 = .ok (.getfield 27, 3) := dk_180 0 27 (dk_at dksX5_layHand_0 11 rfl rfl)
theorem dX5_layHand_14 : decode cX5_layHand 14 = .ok (.iload_n 1, 1) := dk_27 (dk_at dksX5_layHand_0 14 rfl rfl)
theorem dX5_layHand_15 : decode cX5_layHand 15 = .ok (.aload_n 0, 1) := dk_42 (dk_at dksX5_layHand_0 15 rfl rfl)
theorem dX5_layHand_16 : decode cX5_layHand 16 = .ok (.iload_n 1, 1) := dk_27 (dk_at dksX5_layHand_0 16 rfl rfl)
theorem dX5_layHand_17 : decode cX5_layHand 17 = .ok (.iconst 0, 1) := dk_3 (dk_at dksX5_layHand_0 17 rfl rfl)
theorem dX5_layHand_18 : decode cX5_layHand 18 = .ok (.invokevirtual 117, 3) := dk_182 0 117 (dk_at dksX5_layHand_0 18 rfl rfl)
theorem dX5_layHand_21 : decode cX5_layHand 21 = .ok (.aload_n 0, 1) := dk_42 (dk_at dksX5_layHand_0 21 rfl rfl)
theorem dX5_layHand_22 : decode cX5_layHand 22 = .ok (.iload_n 1, 1) := dk_27 (dk_at dksX5_layHand_0 22 rfl rfl)
theorem dX5_layHand_23 : decode cX5_layHand 23 = .ok (.iconst 2, 1) := dk_5 (dk_at dksX5_layHand_0 23 rfl rfl)
theorem dX5_layHand_24 : decode cX5_layHand 24 = .ok (.invokevirtual 117, 3) := dk_182 0 117 (dk_at dksX5_layHand_1 0 rfl rfl)
theorem dX5_layHand_27 : decode cX5_layHand 27 = .ok (.invokestatic 128, 3) := dk_184 0 128 (dk_at dksX5_layHand_1 3 rfl rfl)
theorem dX5_layHand_30 : decode cX5_layHand 30 = .ok (.iastore, 1) := dk_79 (dk_at dksX5_layHand_1 6 rfl rfl)
theorem dX5_layHand_31 : decode cX5_layHand 31 = .ok (.iinc 1 1, 3) := dk_132 1 1 (dk_at dksX5_layHand_1 7 rfl rfl)
theorem dX5_layHand_34 : decode cX5_layHand 34 = .ok (.goto (-32), 3) := dk_167 255 224 (dk_at dksX5_layHand_1 10 rfl rfl)
theorem dX5_layHand_37 : decode cX5_layHand 37 = .ok (.aload_n 0, 1) := dk_42 (dk_at dksX5_layHand_1 13 rfl rfl)
theorem dX5_layHand_38 : decode cX5_layHand 38 = .ok (.aload_n 0, 1) := dk_42 (dk_at dksX5_layHand_1 14 rfl rfl)
theorem dX5_layHand_39 : decode cX5_layHand 39 = .ok (.invokevirtual 68, 3) := dk_182 0 68 (dk_at dksX5_layHand_1 15 rfl rfl)
theorem dX5_layHand_42 : decode cX5_layHand 42 = .ok (.putfield 131, 3) := dk_181 0 131 (dk_at dksX5_layHand_1 18 rfl rfl)
theorem dX5_layHand_45 : decode cX5_layHand 45 = .ok (.iconst 0, 1) := dk_3 (dk_at dksX5_layHand_1 21 rfl rfl)
theorem dX5_layHand_46 : decode cX5_layHand 46 = .ok (.istore_n 1, 1) := dk_60 (dk_at dksX5_layHand_1 22 rfl rfl)
theorem dX5_layHand_47 : decode cX5_layHand 47 = .ok (.iload_n 1, 1) := dk_27 (dk_at dksX5_layHand_1 23 rfl rfl)
theorem dX5_layHand_48 : decode cX5_layHand 48 = .ok (.aload_n 0, 1) := dk_42 (dk_at dksX5_layHand_2 0 rfl rfl)
theorem dX5_layHand_49 : decode cX5_layHand 49 = .ok (.invokevirtual 68, 3) := dk_182 0 68 (dk_at dksX5_layHand_2 1 rfl rfl)
theorem dX5_layHand_52 : decode cX5_layHand 52 = .ok (.if_icmp .ge 45, 3) := dk_162 0 45 (dk_at dksX5_layHand_2 4 rfl rfl)
theorem dX5_layHand_55 : decode cX5_layHand 55 = .ok (.aload_n 0, 1) := dk_42 (dk_at dksX5_layHand_2 7 rfl rfl)
theorem dX5_layHand_56 : decode cX5_layHand 56 = .ok (.getfield 30, 3) := dk_180 0 30 (dk_at dksX5_layHand_2 8 rfl rfl)
theorem dX5_layHand_59 : decode cX5_layHand 59 = .ok (.iload_n 1, 1) := dk_27 (dk_at dksX5_layHand_2 11 rfl rfl)
theorem dX5_layHand_60 : decode cX5_layHand 60 = .ok (.aload_n 0, 1) := dk_42 (dk_at dksX5_layHand_2 12 rfl rfl)
theorem dX5_layHand_61 : decode cX5_layHand 61 = .ok (.iload_n 1, 1) := dk_27 (dk_at dksX5_layHand_2 13 rfl rfl)
theorem dX5_layHand_62 : decode cX5_layHand 62 = .ok (.iconst 0, 1) := dk_3 (dk_at dksX5_layHand_2 14 rfl rfl)
theorem dX5_layHand_63 : decode cX5_layHand 63 = .ok (.invokevirtual 135, 3) := dk_182 0 135 (dk_at dksX5_layHand_2 15 rfl rfl)
theorem dX5_layHand_66 : decode cX5_layHand 66 = .ok (.iastore, 1) := dk_79 (dk_at dksX5_layHand_2 18 rfl rfl)
theorem dX5_layHand_67 : decode cX5_layHand 67 = .ok (.aload_n 0, 1) := dk_42 (dk_at dksX5_layHand_2 19 rfl rfl)
theorem dX5_layHand_68 : decode cX5_layHand 68 = .ok (.getfield 33, 3) := dk_180 0 33 (dk_at dksX5_layHand_2 20 rfl rfl)
theorem dX5_layHand_71 : decode cX5_layHand 71 = .ok (.iload_n 1, 1) := dk_27 (dk_at dksX5_layHand_2 23 rfl rfl)
theorem dX5_layHand_72 : decode cX5_layHand 72 = .ok (.aload_n 0, 1) := dk_42 (dk_at dksX5_layHand_3 0 rfl rfl)
theorem dX5_layHand_73 : decode cX5_layHand 73 = .ok (.iload_n 1, 1) := dk_27 (dk_at dksX5_layHand_3 1 rfl rfl)
theorem dX5_layHand_74 : decode cX5_layHand 74 = .ok (.iconst 1, 1) := dk_4 (dk_at dksX5_layHand_3 2 rfl rfl)
theorem dX5_layHand_75 : decode cX5_layHand 75 = .ok (.invokevirtual 135, 3) := dk_182 0 135 (dk_at dksX5_layHand_3 3 rfl rfl)
theorem dX5_layHand_78 : decode cX5_layHand 78 = .ok (.iastore, 1) := dk_79 (dk_at dksX5_layHand_3 6 rfl rfl)
theorem dX5_layHand_79 : decode cX5_layHand 79 = .ok (.aload_n 0, 1) := dk_42 (dk_at dksX5_layHand_3 7 rfl rfl)
theorem dX5_layHand_80 : decode cX5_layHand 80 = .ok (.getfield 36, 3) := dk_180 0 36 (dk_at dksX5_layHand_3 8 rfl rfl)
theorem dX5_layHand_83 : decode cX5_layHand 83 = .ok (.iload_n 1, 1) := dk_27 (dk_at dksX5_layHand_3 11 rfl rfl)
theorem dX5_layHand_84 : decode cX5_layHand 84 = .ok (.aload_n 0, 1) := dk_42 (dk_at dksX5_layHand_3 12 rfl rfl)
theorem dX5_layHand_85 : decode cX5_layHand 85 = .ok (.iload_n 1, 1) := dk_27 (dk_at dksX5_layHand_3 13 rfl rfl)
theorem dX5_layHand_86 : decode cX5_layHand 86 = .ok (.iconst 2, 1) := dk_5 (dk_at dksX5_layHand_3 14 rfl rfl)
theorem dX5_layHand_87 : decode cX5_layHand 87 = .ok (.invokevirtual 135, 3) := dk_182 0 135 (dk_at dksX5_layHand_3 15 rfl rfl)
theorem dX5_layHand_90 : decode cX5_layHand 90 = .ok (.iastore, 1) := dk_79 (dk_at dksX5_layHand_3 18 rfl rfl)
theorem dX5_layHand_91 : decode cX5_layHand 91 = .ok (.iinc 1 1, 3) := dk_132 1 1 (dk_at dksX5_layHand_3 19 rfl rfl)
theorem dX5_layHand_94 : decode cX5_layHand 94 = .ok (.goto (-47), 3) := dk_167 255 209 (dk_at dksX5_layHand_4 0 rfl rfl)
theorem dX5_layHand_97 : decode cX5_layHand 97 = .ok (.return_, 1) := dk_177 (dk_at dksX5_layHand_4 3 rfl rfl)
abbrev cX5_costOf : ByteArray := prog_14_method_27_code
def yX5_costOf : MethodName := ⟨RX5, "costOf", "(II)I"⟩
def dkwX5_costOf_1 : List UInt8 := [7, 160, 0, 9, 27, 5, 108, 167, 0, 4, 27, 172]
abbrev dktX5_costOf_1 : List UInt8 := dkwX5_costOf_1 ++ []
def dkwX5_costOf_0 : List UInt8 := [26, 5, 160, 0, 9, 5, 27, 104, 167, 0, 27, 26, 6, 160, 0, 10, 27, 16, 10, 96, 167, 0, 15, 26]
abbrev dktX5_costOf_0 : List UInt8 := dkwX5_costOf_0 ++ dktX5_costOf_1
theorem dksX5_costOf_0 : cX5_costOf.data.toList.drop 0 = dktX5_costOf_0 := by decide +kernel
theorem dksX5_costOf_1 : cX5_costOf.data.toList.drop 24 = dktX5_costOf_1 := dk_seg dksX5_costOf_0 24 rfl rfl
theorem dX5_costOf_0 : decode cX5_costOf 0 = .ok (.iload_n 0, 1) := dk_26 (dk_at dksX5_costOf_0 0 rfl rfl)
theorem dX5_costOf_1 : decode cX5_costOf 1 = .ok (.iconst 2, 1) := dk_5 (dk_at dksX5_costOf_0 1 rfl rfl)
theorem dX5_costOf_2 : decode cX5_costOf 2 = .ok (.if_icmp .ne 9, 3) := dk_160 0 9 (dk_at dksX5_costOf_0 2 rfl rfl)
theorem dX5_costOf_5 : decode cX5_costOf 5 = .ok (.iconst 2, 1) := dk_5 (dk_at dksX5_costOf_0 5 rfl rfl)
theorem dX5_costOf_6 : decode cX5_costOf 6 = .ok (.iload_n 1, 1) := dk_27 (dk_at dksX5_costOf_0 6 rfl rfl)
theorem dX5_costOf_7 : decode cX5_costOf 7 = .ok (.imul, 1) := dk_104 (dk_at dksX5_costOf_0 7 rfl rfl)
theorem dX5_costOf_8 : decode cX5_costOf 8 = .ok (.goto 27, 3) := dk_167 0 27 (dk_at dksX5_costOf_0 8 rfl rfl)
theorem dX5_costOf_11 : decode cX5_costOf 11 = .ok (.iload_n 0, 1) := dk_26 (dk_at dksX5_costOf_0 11 rfl rfl)
theorem dX5_costOf_12 : decode cX5_costOf 12 = .ok (.iconst 3, 1) := dk_6 (dk_at dksX5_costOf_0 12 rfl rfl)
theorem dX5_costOf_13 : decode cX5_costOf 13 = .ok (.if_icmp .ne 10, 3) := dk_160 0 10 (dk_at dksX5_costOf_0 13 rfl rfl)
theorem dX5_costOf_16 : decode cX5_costOf 16 = .ok (.iload_n 1, 1) := dk_27 (dk_at dksX5_costOf_0 16 rfl rfl)
theorem dX5_costOf_17 : decode cX5_costOf 17 = .ok (.bipush 10, 2) := dk_16 10 (dk_at dksX5_costOf_0 17 rfl rfl)
theorem dX5_costOf_19 : decode cX5_costOf 19 = .ok (.iadd, 1) := dk_96 (dk_at dksX5_costOf_0 19 rfl rfl)
theorem dX5_costOf_20 : decode cX5_costOf 20 = .ok (.goto 15, 3) := dk_167 0 15 (dk_at dksX5_costOf_0 20 rfl rfl)
theorem dX5_costOf_23 : decode cX5_costOf 23 = .ok (.iload_n 0, 1) := dk_26 (dk_at dksX5_costOf_0 23 rfl rfl)
theorem dX5_costOf_24 : decode cX5_costOf 24 = .ok (.iconst 4, 1) := dk_7 (dk_at dksX5_costOf_1 0 rfl rfl)
theorem dX5_costOf_25 : decode cX5_costOf 25 = .ok (.if_icmp .ne 9, 3) := dk_160 0 9 (dk_at dksX5_costOf_1 1 rfl rfl)
theorem dX5_costOf_28 : decode cX5_costOf 28 = .ok (.iload_n 1, 1) := dk_27 (dk_at dksX5_costOf_1 4 rfl rfl)
theorem dX5_costOf_29 : decode cX5_costOf 29 = .ok (.iconst 2, 1) := dk_5 (dk_at dksX5_costOf_1 5 rfl rfl)
theorem dX5_costOf_30 : decode cX5_costOf 30 = .ok (.idiv, 1) := dk_108 (dk_at dksX5_costOf_1 6 rfl rfl)
theorem dX5_costOf_31 : decode cX5_costOf 31 = .ok (.goto 4, 3) := dk_167 0 4 (dk_at dksX5_costOf_1 7 rfl rfl)
theorem dX5_costOf_34 : decode cX5_costOf 34 = .ok (.iload_n 1, 1) := dk_27 (dk_at dksX5_costOf_1 10 rfl rfl)
theorem dX5_costOf_35 : decode cX5_costOf 35 = .ok (.ireturn, 1) := dk_172 (dk_at dksX5_costOf_1 11 rfl rfl)
abbrev cX5_renterHas : ByteArray := prog_14_method_16_code
def yX5_renterHas : MethodName := ⟨RX5, "renterHas", "(II)I"⟩
def dkwX5_renterHas_0 : List UInt8 := [42, 180, 0, 7, 16, 43, 6, 27, 104, 96, 28, 96, 46, 172]
abbrev dktX5_renterHas_0 : List UInt8 := dkwX5_renterHas_0 ++ []
theorem dksX5_renterHas_0 : cX5_renterHas.data.toList.drop 0 = dktX5_renterHas_0 := by decide +kernel
theorem dX5_renterHas_0 : decode cX5_renterHas 0 = .ok (.aload_n 0, 1) := dk_42 (dk_at dksX5_renterHas_0 0 rfl rfl)
theorem dX5_renterHas_1 : decode cX5_renterHas 1 = .ok (.getfield 7, 3) := dk_180 0 7 (dk_at dksX5_renterHas_0 1 rfl rfl)
theorem dX5_renterHas_4 : decode cX5_renterHas 4 = .ok (.bipush 43, 2) := dk_16 43 (dk_at dksX5_renterHas_0 4 rfl rfl)
theorem dX5_renterHas_6 : decode cX5_renterHas 6 = .ok (.iconst 3, 1) := dk_6 (dk_at dksX5_renterHas_0 6 rfl rfl)
theorem dX5_renterHas_7 : decode cX5_renterHas 7 = .ok (.iload_n 1, 1) := dk_27 (dk_at dksX5_renterHas_0 7 rfl rfl)
theorem dX5_renterHas_8 : decode cX5_renterHas 8 = .ok (.imul, 1) := dk_104 (dk_at dksX5_renterHas_0 8 rfl rfl)
theorem dX5_renterHas_9 : decode cX5_renterHas 9 = .ok (.iadd, 1) := dk_96 (dk_at dksX5_renterHas_0 9 rfl rfl)
theorem dX5_renterHas_10 : decode cX5_renterHas 10 = .ok (.iload_n 2, 1) := dk_28 (dk_at dksX5_renterHas_0 10 rfl rfl)
theorem dX5_renterHas_11 : decode cX5_renterHas 11 = .ok (.iadd, 1) := dk_96 (dk_at dksX5_renterHas_0 11 rfl rfl)
theorem dX5_renterHas_12 : decode cX5_renterHas 12 = .ok (.iaload, 1) := dk_46 (dk_at dksX5_renterHas_0 12 rfl rfl)
theorem dX5_renterHas_13 : decode cX5_renterHas 13 = .ok (.ireturn, 1) := dk_172 (dk_at dksX5_renterHas_0 13 rfl rfl)
abbrev cX5_viewOf : ByteArray := prog_14_method_34_code
def yX5_viewOf : MethodName := ⟨RX5, "viewOf", "(I)I"⟩
def dkwX5_viewOf_1 : List UInt8 := [167, 0, 4, 28, 61, 132, 3, 1, 167, 255, 229, 28, 172]
abbrev dktX5_viewOf_1 : List UInt8 := dkwX5_viewOf_1 ++ []
def dkwX5_viewOf_0 : List UInt8 := [2, 61, 3, 62, 29, 42, 182, 0, 60, 162, 0, 25, 42, 29, 7, 182, 0, 117, 27, 160, 0, 7, 29]
abbrev dktX5_viewOf_0 : List UInt8 := dkwX5_viewOf_0 ++ dktX5_viewOf_1
theorem dksX5_viewOf_0 : cX5_viewOf.data.toList.drop 0 = dktX5_viewOf_0 := by decide +kernel
theorem dksX5_viewOf_1 : cX5_viewOf.data.toList.drop 23 = dktX5_viewOf_1 := dk_seg dksX5_viewOf_0 23 rfl rfl
theorem dX5_viewOf_0 : decode cX5_viewOf 0 = .ok (.iconst (-1), 1) := dk_2 (dk_at dksX5_viewOf_0 0 rfl rfl)
theorem dX5_viewOf_1 : decode cX5_viewOf 1 = .ok (.istore_n 2, 1) := dk_61 (dk_at dksX5_viewOf_0 1 rfl rfl)
theorem dX5_viewOf_2 : decode cX5_viewOf 2 = .ok (.iconst 0, 1) := dk_3 (dk_at dksX5_viewOf_0 2 rfl rfl)
theorem dX5_viewOf_3 : decode cX5_viewOf 3 = .ok (.istore_n 3, 1) := dk_62 (dk_at dksX5_viewOf_0 3 rfl rfl)
theorem dX5_viewOf_4 : decode cX5_viewOf 4 = .ok (.iload_n 3, 1) := dk_29 (dk_at dksX5_viewOf_0 4 rfl rfl)
theorem dX5_viewOf_5 : decode cX5_viewOf 5 = .ok (.aload_n 0, 1) := dk_42 (dk_at dksX5_viewOf_0 5 rfl rfl)
theorem dX5_viewOf_6 : decode cX5_viewOf 6 = .ok (.invokevirtual 60, 3) := dk_182 0 60 (dk_at dksX5_viewOf_0 6 rfl rfl)
theorem dX5_viewOf_9 : decode cX5_viewOf 9 = .ok (.if_icmp .ge 25, 3) := dk_162 0 25 (dk_at dksX5_viewOf_0 9 rfl rfl)
theorem dX5_viewOf_12 : decode cX5_viewOf 12 = .ok (.aload_n 0, 1) := dk_42 (dk_at dksX5_viewOf_0 12 rfl rfl)
theorem dX5_viewOf_13 : decode cX5_viewOf 13 = .ok (.iload_n 3, 1) := dk_29 (dk_at dksX5_viewOf_0 13 rfl rfl)
theorem dX5_viewOf_14 : decode cX5_viewOf 14 = .ok (.iconst 4, 1) := dk_7 (dk_at dksX5_viewOf_0 14 rfl rfl)
theorem dX5_viewOf_15 : decode cX5_viewOf 15 = .ok (.invokevirtual 117, 3) := dk_182 0 117 (dk_at dksX5_viewOf_0 15 rfl rfl)
theorem dX5_viewOf_18 : decode cX5_viewOf 18 = .ok (.iload_n 1, 1) := dk_27 (dk_at dksX5_viewOf_0 18 rfl rfl)
theorem dX5_viewOf_19 : decode cX5_viewOf 19 = .ok (.if_icmp .ne 7, 3) := dk_160 0 7 (dk_at dksX5_viewOf_0 19 rfl rfl)
theorem dX5_viewOf_22 : decode cX5_viewOf 22 = .ok (.iload_n 3, 1) := dk_29 (dk_at dksX5_viewOf_0 22 rfl rfl)
theorem dX5_viewOf_23 : decode cX5_viewOf 23 = .ok (.goto 4, 3) := dk_167 0 4 (dk_at dksX5_viewOf_1 0 rfl rfl)
theorem dX5_viewOf_26 : decode cX5_viewOf 26 = .ok (.iload_n 2, 1) := dk_28 (dk_at dksX5_viewOf_1 3 rfl rfl)
theorem dX5_viewOf_27 : decode cX5_viewOf 27 = .ok (.istore_n 2, 1) := dk_61 (dk_at dksX5_viewOf_1 4 rfl rfl)
theorem dX5_viewOf_28 : decode cX5_viewOf 28 = .ok (.iinc 3 1, 3) := dk_132 3 1 (dk_at dksX5_viewOf_1 5 rfl rfl)
theorem dX5_viewOf_31 : decode cX5_viewOf 31 = .ok (.goto (-27), 3) := dk_167 255 229 (dk_at dksX5_viewOf_1 8 rfl rfl)
theorem dX5_viewOf_34 : decode cX5_viewOf 34 = .ok (.iload_n 2, 1) := dk_28 (dk_at dksX5_viewOf_1 11 rfl rfl)
theorem dX5_viewOf_35 : decode cX5_viewOf 35 = .ok (.ireturn, 1) := dk_172 (dk_at dksX5_viewOf_1 12 rfl rfl)
abbrev cX5_fits : ByteArray := prog_14_method_29_code
def yX5_fits : MethodName := ⟨RX5, "fits", "(II)Z"⟩
def dkwX5_fits_1 : List UInt8 := [3, 172]
abbrev dktX5_fits_1 : List UInt8 := dkwX5_fits_1 ++ []
def dkwX5_fits_0 : List UInt8 := [42, 27, 3, 182, 0, 117, 7, 159, 0, 13, 42, 27, 4, 182, 0, 117, 28, 163, 0, 7, 4, 167, 0, 4]
abbrev dktX5_fits_0 : List UInt8 := dkwX5_fits_0 ++ dktX5_fits_1
theorem dksX5_fits_0 : cX5_fits.data.toList.drop 0 = dktX5_fits_0 := by decide +kernel
theorem dksX5_fits_1 : cX5_fits.data.toList.drop 24 = dktX5_fits_1 := dk_seg dksX5_fits_0 24 rfl rfl
theorem dX5_fits_0 : decode cX5_fits 0 = .ok (.aload_n 0, 1) := dk_42 (dk_at dksX5_fits_0 0 rfl rfl)
theorem dX5_fits_1 : decode cX5_fits 1 = .ok (.iload_n 1, 1) := dk_27 (dk_at dksX5_fits_0 1 rfl rfl)
theorem dX5_fits_2 : decode cX5_fits 2 = .ok (.iconst 0, 1) := dk_3 (dk_at dksX5_fits_0 2 rfl rfl)
theorem dX5_fits_3 : decode cX5_fits 3 = .ok (.invokevirtual 117, 3) := dk_182 0 117 (dk_at dksX5_fits_0 3 rfl rfl)
theorem dX5_fits_6 : decode cX5_fits 6 = .ok (.iconst 4, 1) := dk_7 (dk_at dksX5_fits_0 6 rfl rfl)
theorem dX5_fits_7 : decode cX5_fits 7 = .ok (.if_icmp .eq 13, 3) := dk_159 0 13 (dk_at dksX5_fits_0 7 rfl rfl)
theorem dX5_fits_10 : decode cX5_fits 10 = .ok (.aload_n 0, 1) := dk_42 (dk_at dksX5_fits_0 10 rfl rfl)
theorem dX5_fits_11 : decode cX5_fits 11 = .ok (.iload_n 1, 1) := dk_27 (dk_at dksX5_fits_0 11 rfl rfl)
theorem dX5_fits_12 : decode cX5_fits 12 = .ok (.iconst 1, 1) := dk_4 (dk_at dksX5_fits_0 12 rfl rfl)
theorem dX5_fits_13 : decode cX5_fits 13 = .ok (.invokevirtual 117, 3) := dk_182 0 117 (dk_at dksX5_fits_0 13 rfl rfl)
theorem dX5_fits_16 : decode cX5_fits 16 = .ok (.iload_n 2, 1) := dk_28 (dk_at dksX5_fits_0 16 rfl rfl)
theorem dX5_fits_17 : decode cX5_fits 17 = .ok (.if_icmp .gt 7, 3) := dk_163 0 7 (dk_at dksX5_fits_0 17 rfl rfl)
theorem dX5_fits_20 : decode cX5_fits 20 = .ok (.iconst 1, 1) := dk_4 (dk_at dksX5_fits_0 20 rfl rfl)
theorem dX5_fits_21 : decode cX5_fits 21 = .ok (.goto 4, 3) := dk_167 0 4 (dk_at dksX5_fits_0 21 rfl rfl)
theorem dX5_fits_24 : decode cX5_fits 24 = .ok (.iconst 0, 1) := dk_3 (dk_at dksX5_fits_1 0 rfl rfl)
theorem dX5_fits_25 : decode cX5_fits 25 = .ok (.ireturn, 1) := dk_172 (dk_at dksX5_fits_1 1 rfl rfl)
abbrev cX5_no : ByteArray := prog_14_method_5_code
def yX5_no : MethodName := ⟨RX5, "no", "()I"⟩
def dkwX5_no_0 : List UInt8 := [42, 180, 0, 20, 4, 92, 46, 4, 96, 79, 16, 253, 172]
abbrev dktX5_no_0 : List UInt8 := dkwX5_no_0 ++ []
theorem dksX5_no_0 : cX5_no.data.toList.drop 0 = dktX5_no_0 := by decide +kernel
theorem dX5_no_0 : decode cX5_no 0 = .ok (.aload_n 0, 1) := dk_42 (dk_at dksX5_no_0 0 rfl rfl)
theorem dX5_no_1 : decode cX5_no 1 = .ok (.getfield 20, 3) := dk_180 0 20 (dk_at dksX5_no_0 1 rfl rfl)
theorem dX5_no_4 : decode cX5_no 4 = .ok (.iconst 1, 1) := dk_4 (dk_at dksX5_no_0 4 rfl rfl)
theorem dX5_no_5 : decode cX5_no 5 = .ok (.dup2, 1) := dk_92 (dk_at dksX5_no_0 5 rfl rfl)
theorem dX5_no_6 : decode cX5_no 6 = .ok (.iaload, 1) := dk_46 (dk_at dksX5_no_0 6 rfl rfl)
theorem dX5_no_7 : decode cX5_no 7 = .ok (.iconst 1, 1) := dk_4 (dk_at dksX5_no_0 7 rfl rfl)
theorem dX5_no_8 : decode cX5_no 8 = .ok (.iadd, 1) := dk_96 (dk_at dksX5_no_0 8 rfl rfl)
theorem dX5_no_9 : decode cX5_no 9 = .ok (.iastore, 1) := dk_79 (dk_at dksX5_no_0 9 rfl rfl)
theorem dX5_no_10 : decode cX5_no 10 = .ok (.bipush (-3), 2) := dk_16 253 (dk_at dksX5_no_0 10 rfl rfl)
theorem dX5_no_12 : decode cX5_no 12 = .ok (.ireturn, 1) := dk_172 (dk_at dksX5_no_0 12 rfl rfl)
abbrev cX5_keep : ByteArray := prog_14_method_33_code
def yX5_keep : MethodName := ⟨RX5, "keep", "()V"⟩
def dkwX5_keep_8 : List UInt8 := [79, 132, 2, 1, 167, 255, 227, 42, 180, 0, 7, 16, 6, 92, 46, 4, 96, 79, 177]
abbrev dktX5_keep_8 : List UInt8 := dkwX5_keep_8 ++ []
def dkwX5_keep_7 : List UInt8 := [16, 36, 162, 0, 29, 42, 180, 0, 7, 27, 16, 15, 96, 28, 96, 42, 180, 0, 7, 16, 61, 28, 96, 46]
abbrev dktX5_keep_7 : List UInt8 := dkwX5_keep_7 ++ dktX5_keep_8
def dkwX5_keep_6 : List UInt8 := [180, 0, 7, 6, 46, 79, 42, 180, 0, 7, 27, 16, 14, 96, 42, 180, 0, 7, 7, 46, 79, 3, 61, 28]
abbrev dktX5_keep_6 : List UInt8 := dkwX5_keep_6 ++ dktX5_keep_7
def dkwX5_keep_5 : List UInt8 := [180, 0, 7, 27, 16, 12, 96, 42, 180, 0, 7, 5, 46, 79, 42, 180, 0, 7, 27, 16, 13, 96, 42]
abbrev dktX5_keep_5 : List UInt8 := dkwX5_keep_5 ++ dktX5_keep_6
def dkwX5_keep_4 : List UInt8 := [180, 0, 7, 27, 16, 6, 96, 28, 96, 42, 28, 7, 182, 0, 117, 79, 132, 2, 1, 167, 255, 216, 42]
abbrev dktX5_keep_4 : List UInt8 := dkwX5_keep_4 ++ dktX5_keep_5
def dkwX5_keep_3 : List UInt8 := [61, 28, 16, 6, 162, 0, 40, 42, 180, 0, 7, 27, 28, 96, 42, 28, 4, 182, 0, 135, 79, 42]
abbrev dktX5_keep_3 : List UInt8 := dkwX5_keep_3 ++ dktX5_keep_4
def dkwX5_keep_2 : List UInt8 := [42, 180, 0, 7, 16, 6, 16, 7, 79, 16, 115, 16, 51, 42, 180, 0, 7, 16, 6, 46, 104, 96, 60, 3]
abbrev dktX5_keep_2 : List UInt8 := dkwX5_keep_2 ++ dktX5_keep_3
def dkwX5_keep_1 : List UInt8 := [180, 0, 7, 16, 115, 27, 96, 42, 180, 0, 7, 17, 0, 166, 27, 96, 46, 79, 132, 1, 1, 167, 255, 227]
abbrev dktX5_keep_1 : List UInt8 := dkwX5_keep_1 ++ dktX5_keep_2
def dkwX5_keep_0 : List UInt8 := [42, 180, 0, 7, 16, 6, 46, 16, 8, 160, 0, 46, 3, 60, 27, 17, 1, 101, 162, 0, 28, 42]
abbrev dktX5_keep_0 : List UInt8 := dkwX5_keep_0 ++ dktX5_keep_1
theorem dksX5_keep_0 : cX5_keep.data.toList.drop 0 = dktX5_keep_0 := by decide +kernel
theorem dksX5_keep_1 : cX5_keep.data.toList.drop 22 = dktX5_keep_1 := dk_seg dksX5_keep_0 22 rfl rfl
theorem dksX5_keep_2 : cX5_keep.data.toList.drop 46 = dktX5_keep_2 := dk_seg dksX5_keep_1 24 rfl rfl
theorem dksX5_keep_3 : cX5_keep.data.toList.drop 70 = dktX5_keep_3 := dk_seg dksX5_keep_2 24 rfl rfl
theorem dksX5_keep_4 : cX5_keep.data.toList.drop 92 = dktX5_keep_4 := dk_seg dksX5_keep_3 22 rfl rfl
theorem dksX5_keep_5 : cX5_keep.data.toList.drop 115 = dktX5_keep_5 := dk_seg dksX5_keep_4 23 rfl rfl
theorem dksX5_keep_6 : cX5_keep.data.toList.drop 138 = dktX5_keep_6 := dk_seg dksX5_keep_5 23 rfl rfl
theorem dksX5_keep_7 : cX5_keep.data.toList.drop 162 = dktX5_keep_7 := dk_seg dksX5_keep_6 24 rfl rfl
theorem dksX5_keep_8 : cX5_keep.data.toList.drop 186 = dktX5_keep_8 := dk_seg dksX5_keep_7 24 rfl rfl
theorem dX5_keep_0 : decode cX5_keep 0 = .ok (.aload_n 0, 1) := dk_42 (dk_at dksX5_keep_0 0 rfl rfl)
theorem dX5_keep_1 : decode cX5_keep 1 = .ok (.getfield 7, 3) := dk_180 0 7 (dk_at dksX5_keep_0 1 rfl rfl)
theorem dX5_keep_4 : decode cX5_keep 4 = .ok (.bipush 6, 2) := dk_16 6 (dk_at dksX5_keep_0 4 rfl rfl)
theorem dX5_keep_6 : decode cX5_keep 6 = .ok (.iaload, 1) := dk_46 (dk_at dksX5_keep_0 6 rfl rfl)
theorem dX5_keep_7 : decode cX5_keep 7 = .ok (.bipush 8, 2) := dk_16 8 (dk_at dksX5_keep_0 7 rfl rfl)
theorem dX5_keep_9 : decode cX5_keep 9 = .ok (.if_icmp .ne 46, 3) := dk_160 0 46 (dk_at dksX5_keep_0 9 rfl rfl)
theorem dX5_keep_12 : decode cX5_keep 12 = .ok (.iconst 0, 1) := dk_3 (dk_at dksX5_keep_0 12 rfl rfl)
theorem dX5_keep_13 : decode cX5_keep 13 = .ok (.istore_n 1, 1) := dk_60 (dk_at dksX5_keep_0 13 rfl rfl)
theorem dX5_keep_14 : decode cX5_keep 14 = .ok (.iload_n 1, 1) := dk_27 (dk_at dksX5_keep_0 14 rfl rfl)
theorem dX5_keep_15 : decode cX5_keep 15 = .ok (.sipush 357, 3) := dk_17 1 101 (dk_at dksX5_keep_0 15 rfl rfl)
theorem dX5_keep_18 : decode cX5_keep 18 = .ok (.if_icmp .ge 28, 3) := dk_162 0 28 (dk_at dksX5_keep_0 18 rfl rfl)
theorem dX5_keep_21 : decode cX5_keep 21 = .ok (.aload_n 0, 1) := dk_42 (dk_at dksX5_keep_0 21 rfl rfl)
theorem dX5_keep_22 : decode cX5_keep 22 = .ok (.getfield 7, 3) := dk_180 0 7 (dk_at dksX5_keep_1 0 rfl rfl)
theorem dX5_keep_25 : decode cX5_keep 25 = .ok (.bipush 115, 2) := dk_16 115 (dk_at dksX5_keep_1 3 rfl rfl)
theorem dX5_keep_27 : decode cX5_keep 27 = .ok (.iload_n 1, 1) := dk_27 (dk_at dksX5_keep_1 5 rfl rfl)
theorem dX5_keep_28 : decode cX5_keep 28 = .ok (.iadd, 1) := dk_96 (dk_at dksX5_keep_1 6 rfl rfl)
theorem dX5_keep_29 : decode cX5_keep 29 = .ok (.aload_n 0, 1) := dk_42 (dk_at dksX5_keep_1 7 rfl rfl)
theorem dX5_keep_30 : decode cX5_keep 30 = .ok (.getfield 7, 3) := dk_180 0 7 (dk_at dksX5_keep_1 8 rfl rfl)
theorem dX5_keep_33 : decode cX5_keep 33 = .ok (.sipush 166, 3) := dk_17 0 166 (dk_at dksX5_keep_1 11 rfl rfl)
theorem dX5_keep_36 : decode cX5_keep 36 = .ok (.iload_n 1, 1) := dk_27 (dk_at dksX5_keep_1 14 rfl rfl)
theorem dX5_keep_37 : decode cX5_keep 37 = .ok (.iadd, 1) := dk_96 (dk_at dksX5_keep_1 15 rfl rfl)
theorem dX5_keep_38 : decode cX5_keep 38 = .ok (.iaload, 1) := dk_46 (dk_at dksX5_keep_1 16 rfl rfl)
theorem dX5_keep_39 : decode cX5_keep 39 = .ok (.iastore, 1) := dk_79 (dk_at dksX5_keep_1 17 rfl rfl)
theorem dX5_keep_40 : decode cX5_keep 40 = .ok (.iinc 1 1, 3) := dk_132 1 1 (dk_at dksX5_keep_1 18 rfl rfl)
theorem dX5_keep_43 : decode cX5_keep 43 = .ok (.goto (-29), 3) := dk_167 255 227 (dk_at dksX5_keep_1 21 rfl rfl)
theorem dX5_keep_46 : decode cX5_keep 46 = .ok (.aload_n 0, 1) := dk_42 (dk_at dksX5_keep_2 0 rfl rfl)
theorem dX5_keep_47 : decode cX5_keep 47 = .ok (.getfield 7, 3) := dk_180 0 7 (dk_at dksX5_keep_2 1 rfl rfl)
theorem dX5_keep_50 : decode cX5_keep 50 = .ok (.bipush 6, 2) := dk_16 6 (dk_at dksX5_keep_2 4 rfl rfl)
theorem dX5_keep_52 : decode cX5_keep 52 = .ok (.bipush 7, 2) := dk_16 7 (dk_at dksX5_keep_2 6 rfl rfl)
theorem dX5_keep_54 : decode cX5_keep 54 = .ok (.iastore, 1) := dk_79 (dk_at dksX5_keep_2 8 rfl rfl)
theorem dX5_keep_55 : decode cX5_keep 55 = .ok (.bipush 115, 2) := dk_16 115 (dk_at dksX5_keep_2 9 rfl rfl)
theorem dX5_keep_57 : decode cX5_keep 57 = .ok (.bipush 51, 2) := dk_16 51 (dk_at dksX5_keep_2 11 rfl rfl)
theorem dX5_keep_59 : decode cX5_keep 59 = .ok (.aload_n 0, 1) := dk_42 (dk_at dksX5_keep_2 13 rfl rfl)
theorem dX5_keep_60 : decode cX5_keep 60 = .ok (.getfield 7, 3) := dk_180 0 7 (dk_at dksX5_keep_2 14 rfl rfl)
theorem dX5_keep_63 : decode cX5_keep 63 = .ok (.bipush 6, 2) := dk_16 6 (dk_at dksX5_keep_2 17 rfl rfl)
theorem dX5_keep_65 : decode cX5_keep 65 = .ok (.iaload, 1) := dk_46 (dk_at dksX5_keep_2 19 rfl rfl)
theorem dX5_keep_66 : decode cX5_keep 66 = .ok (.imul, 1) := dk_104 (dk_at dksX5_keep_2 20 rfl rfl)
theorem dX5_keep_67 : decode cX5_keep 67 = .ok (.iadd, 1) := dk_96 (dk_at dksX5_keep_2 21 rfl rfl)
theorem dX5_keep_68 : decode cX5_keep 68 = .ok (.istore_n 1, 1) := dk_60 (dk_at dksX5_keep_2 22 rfl rfl)
theorem dX5_keep_69 : decode cX5_keep 69 = .ok (.iconst 0, 1) := dk_3 (dk_at dksX5_keep_2 23 rfl rfl)
theorem dX5_keep_70 : decode cX5_keep 70 = .ok (.istore_n 2, 1) := dk_61 (dk_at dksX5_keep_3 0 rfl rfl)
theorem dX5_keep_71 : decode cX5_keep 71 = .ok (.iload_n 2, 1) := dk_28 (dk_at dksX5_keep_3 1 rfl rfl)
theorem dX5_keep_72 : decode cX5_keep 72 = .ok (.bipush 6, 2) := dk_16 6 (dk_at dksX5_keep_3 2 rfl rfl)
theorem dX5_keep_74 : decode cX5_keep 74 = .ok (.if_icmp .ge 40, 3) := dk_162 0 40 (dk_at dksX5_keep_3 4 rfl rfl)
theorem dX5_keep_77 : decode cX5_keep 77 = .ok (.aload_n 0, 1) := dk_42 (dk_at dksX5_keep_3 7 rfl rfl)
theorem dX5_keep_78 : decode cX5_keep 78 = .ok (.getfield 7, 3) := dk_180 0 7 (dk_at dksX5_keep_3 8 rfl rfl)
theorem dX5_keep_81 : decode cX5_keep 81 = .ok (.iload_n 1, 1) := dk_27 (dk_at dksX5_keep_3 11 rfl rfl)
theorem dX5_keep_82 : decode cX5_keep 82 = .ok (.iload_n 2, 1) := dk_28 (dk_at dksX5_keep_3 12 rfl rfl)
theorem dX5_keep_83 : decode cX5_keep 83 = .ok (.iadd, 1) := dk_96 (dk_at dksX5_keep_3 13 rfl rfl)
theorem dX5_keep_84 : decode cX5_keep 84 = .ok (.aload_n 0, 1) := dk_42 (dk_at dksX5_keep_3 14 rfl rfl)
theorem dX5_keep_85 : decode cX5_keep 85 = .ok (.iload_n 2, 1) := dk_28 (dk_at dksX5_keep_3 15 rfl rfl)
theorem dX5_keep_86 : decode cX5_keep 86 = .ok (.iconst 1, 1) := dk_4 (dk_at dksX5_keep_3 16 rfl rfl)
theorem dX5_keep_87 : decode cX5_keep 87 = .ok (.invokevirtual 135, 3) := dk_182 0 135 (dk_at dksX5_keep_3 17 rfl rfl)
theorem dX5_keep_90 : decode cX5_keep 90 = .ok (.iastore, 1) := dk_79 (dk_at dksX5_keep_3 20 rfl rfl)
theorem dX5_keep_91 : decode cX5_keep 91 = .ok (.aload_n 0, 1) := dk_42 (dk_at dksX5_keep_3 21 rfl rfl)
theorem dX5_keep_92 : decode cX5_keep 92 = .ok (.getfield 7, 3) := dk_180 0 7 (dk_at dksX5_keep_4 0 rfl rfl)
theorem dX5_keep_95 : decode cX5_keep 95 = .ok (.iload_n 1, 1) := dk_27 (dk_at dksX5_keep_4 3 rfl rfl)
theorem dX5_keep_96 : decode cX5_keep 96 = .ok (.bipush 6, 2) := dk_16 6 (dk_at dksX5_keep_4 4 rfl rfl)
theorem dX5_keep_98 : decode cX5_keep 98 = .ok (.iadd, 1) := dk_96 (dk_at dksX5_keep_4 6 rfl rfl)
theorem dX5_keep_99 : decode cX5_keep 99 = .ok (.iload_n 2, 1) := dk_28 (dk_at dksX5_keep_4 7 rfl rfl)
theorem dX5_keep_100 : decode cX5_keep 100 = .ok (.iadd, 1) := dk_96 (dk_at dksX5_keep_4 8 rfl rfl)
theorem dX5_keep_101 : decode cX5_keep 101 = .ok (.aload_n 0, 1) := dk_42 (dk_at dksX5_keep_4 9 rfl rfl)
theorem dX5_keep_102 : decode cX5_keep 102 = .ok (.iload_n 2, 1) := dk_28 (dk_at dksX5_keep_4 10 rfl rfl)
theorem dX5_keep_103 : decode cX5_keep 103 = .ok (.iconst 4, 1) := dk_7 (dk_at dksX5_keep_4 11 rfl rfl)
theorem dX5_keep_104 : decode cX5_keep 104 = .ok (.invokevirtual 117, 3) := dk_182 0 117 (dk_at dksX5_keep_4 12 rfl rfl)
theorem dX5_keep_107 : decode cX5_keep 107 = .ok (.iastore, 1) := dk_79 (dk_at dksX5_keep_4 15 rfl rfl)
theorem dX5_keep_108 : decode cX5_keep 108 = .ok (.iinc 2 1, 3) := dk_132 2 1 (dk_at dksX5_keep_4 16 rfl rfl)
theorem dX5_keep_111 : decode cX5_keep 111 = .ok (.goto (-40), 3) := dk_167 255 216 (dk_at dksX5_keep_4 19 rfl rfl)
theorem dX5_keep_114 : decode cX5_keep 114 = .ok (.aload_n 0, 1) := dk_42 (dk_at dksX5_keep_4 22 rfl rfl)
theorem dX5_keep_115 : decode cX5_keep 115 = .ok (.getfield 7, 3) := dk_180 0 7 (dk_at dksX5_keep_5 0 rfl rfl)
theorem dX5_keep_118 : decode cX5_keep 118 = .ok (.iload_n 1, 1) := dk_27 (dk_at dksX5_keep_5 3 rfl rfl)
theorem dX5_keep_119 : decode cX5_keep 119 = .ok (.bipush 12, 2) := dk_16 12 (dk_at dksX5_keep_5 4 rfl rfl)
theorem dX5_keep_121 : decode cX5_keep 121 = .ok (.iadd, 1) := dk_96 (dk_at dksX5_keep_5 6 rfl rfl)
theorem dX5_keep_122 : decode cX5_keep 122 = .ok (.aload_n 0, 1) := dk_42 (dk_at dksX5_keep_5 7 rfl rfl)
theorem dX5_keep_123 : decode cX5_keep 123 = .ok (.getfield 7, 3) := dk_180 0 7 (dk_at dksX5_keep_5 8 rfl rfl)
theorem dX5_keep_126 : decode cX5_keep 126 = .ok (.iconst 2, 1) := dk_5 (dk_at dksX5_keep_5 11 rfl rfl)
theorem dX5_keep_127 : decode cX5_keep 127 = .ok (.iaload, 1) := dk_46 (dk_at dksX5_keep_5 12 rfl rfl)
theorem dX5_keep_128 : decode cX5_keep 128 = .ok (.iastore, 1) := dk_79 (dk_at dksX5_keep_5 13 rfl rfl)
theorem dX5_keep_129 : decode cX5_keep 129 = .ok (.aload_n 0, 1) := dk_42 (dk_at dksX5_keep_5 14 rfl rfl)
theorem dX5_keep_130 : decode cX5_keep 130 = .ok (.getfield 7, 3) := dk_180 0 7 (dk_at dksX5_keep_5 15 rfl rfl)
theorem dX5_keep_133 : decode cX5_keep 133 = .ok (.iload_n 1, 1) := dk_27 (dk_at dksX5_keep_5 18 rfl rfl)
theorem dX5_keep_134 : decode cX5_keep 134 = .ok (.bipush 13, 2) := dk_16 13 (dk_at dksX5_keep_5 19 rfl rfl)
theorem dX5_keep_136 : decode cX5_keep 136 = .ok (.iadd, 1) := dk_96 (dk_at dksX5_keep_5 21 rfl rfl)
theorem dX5_keep_137 : decode cX5_keep 137 = .ok (.aload_n 0, 1) := dk_42 (dk_at dksX5_keep_5 22 rfl rfl)
theorem dX5_keep_138 : decode cX5_keep 138 = .ok (.getfield 7, 3) := dk_180 0 7 (dk_at dksX5_keep_6 0 rfl rfl)
theorem dX5_keep_141 : decode cX5_keep 141 = .ok (.iconst 3, 1) := dk_6 (dk_at dksX5_keep_6 3 rfl rfl)
theorem dX5_keep_142 : decode cX5_keep 142 = .ok (.iaload, 1) := dk_46 (dk_at dksX5_keep_6 4 rfl rfl)
theorem dX5_keep_143 : decode cX5_keep 143 = .ok (.iastore, 1) := dk_79 (dk_at dksX5_keep_6 5 rfl rfl)
theorem dX5_keep_144 : decode cX5_keep 144 = .ok (.aload_n 0, 1) := dk_42 (dk_at dksX5_keep_6 6 rfl rfl)
theorem dX5_keep_145 : decode cX5_keep 145 = .ok (.getfield 7, 3) := dk_180 0 7 (dk_at dksX5_keep_6 7 rfl rfl)
theorem dX5_keep_148 : decode cX5_keep 148 = .ok (.iload_n 1, 1) := dk_27 (dk_at dksX5_keep_6 10 rfl rfl)
theorem dX5_keep_149 : decode cX5_keep 149 = .ok (.bipush 14, 2) := dk_16 14 (dk_at dksX5_keep_6 11 rfl rfl)
theorem dX5_keep_151 : decode cX5_keep 151 = .ok (.iadd, 1) := dk_96 (dk_at dksX5_keep_6 13 rfl rfl)
theorem dX5_keep_152 : decode cX5_keep 152 = .ok (.aload_n 0, 1) := dk_42 (dk_at dksX5_keep_6 14 rfl rfl)
theorem dX5_keep_153 : decode cX5_keep 153 = .ok (.getfield 7, 3) := dk_180 0 7 (dk_at dksX5_keep_6 15 rfl rfl)
theorem dX5_keep_156 : decode cX5_keep 156 = .ok (.iconst 4, 1) := dk_7 (dk_at dksX5_keep_6 18 rfl rfl)
theorem dX5_keep_157 : decode cX5_keep 157 = .ok (.iaload, 1) := dk_46 (dk_at dksX5_keep_6 19 rfl rfl)
theorem dX5_keep_158 : decode cX5_keep 158 = .ok (.iastore, 1) := dk_79 (dk_at dksX5_keep_6 20 rfl rfl)
theorem dX5_keep_159 : decode cX5_keep 159 = .ok (.iconst 0, 1) := dk_3 (dk_at dksX5_keep_6 21 rfl rfl)
theorem dX5_keep_160 : decode cX5_keep 160 = .ok (.istore_n 2, 1) := dk_61 (dk_at dksX5_keep_6 22 rfl rfl)
theorem dX5_keep_161 : decode cX5_keep 161 = .ok (.iload_n 2, 1) := dk_28 (dk_at dksX5_keep_6 23 rfl rfl)
theorem dX5_keep_162 : decode cX5_keep 162 = .ok (.bipush 36, 2) := dk_16 36 (dk_at dksX5_keep_7 0 rfl rfl)
theorem dX5_keep_164 : decode cX5_keep 164 = .ok (.if_icmp .ge 29, 3) := dk_162 0 29 (dk_at dksX5_keep_7 2 rfl rfl)
theorem dX5_keep_167 : decode cX5_keep 167 = .ok (.aload_n 0, 1) := dk_42 (dk_at dksX5_keep_7 5 rfl rfl)
theorem dX5_keep_168 : decode cX5_keep 168 = .ok (.getfield 7, 3) := dk_180 0 7 (dk_at dksX5_keep_7 6 rfl rfl)
theorem dX5_keep_171 : decode cX5_keep 171 = .ok (.iload_n 1, 1) := dk_27 (dk_at dksX5_keep_7 9 rfl rfl)
theorem dX5_keep_172 : decode cX5_keep 172 = .ok (.bipush 15, 2) := dk_16 15 (dk_at dksX5_keep_7 10 rfl rfl)
theorem dX5_keep_174 : decode cX5_keep 174 = .ok (.iadd, 1) := dk_96 (dk_at dksX5_keep_7 12 rfl rfl)
theorem dX5_keep_175 : decode cX5_keep 175 = .ok (.iload_n 2, 1) := dk_28 (dk_at dksX5_keep_7 13 rfl rfl)
theorem dX5_keep_176 : decode cX5_keep 176 = .ok (.iadd, 1) := dk_96 (dk_at dksX5_keep_7 14 rfl rfl)
theorem dX5_keep_177 : decode cX5_keep 177 = .ok (.aload_n 0, 1) := dk_42 (dk_at dksX5_keep_7 15 rfl rfl)
theorem dX5_keep_178 : decode cX5_keep 178 = .ok (.getfield 7, 3) := dk_180 0 7 (dk_at dksX5_keep_7 16 rfl rfl)
theorem dX5_keep_181 : decode cX5_keep 181 = .ok (.bipush 61, 2) := dk_16 61 (dk_at dksX5_keep_7 19 rfl rfl)
theorem dX5_keep_183 : decode cX5_keep 183 = .ok (.iload_n 2, 1) := dk_28 (dk_at dksX5_keep_7 21 rfl rfl)
theorem dX5_keep_184 : decode cX5_keep 184 = .ok (.iadd, 1) := dk_96 (dk_at dksX5_keep_7 22 rfl rfl)
theorem dX5_keep_185 : decode cX5_keep 185 = .ok (.iaload, 1) := dk_46 (dk_at dksX5_keep_7 23 rfl rfl)
theorem dX5_keep_186 : decode cX5_keep 186 = .ok (.iastore, 1) := dk_79 (dk_at dksX5_keep_8 0 rfl rfl)
theorem dX5_keep_187 : decode cX5_keep 187 = .ok (.iinc 2 1, 3) := dk_132 2 1 (dk_at dksX5_keep_8 1 rfl rfl)
theorem dX5_keep_190 : decode cX5_keep 190 = .ok (.goto (-29), 3) := dk_167 255 227 (dk_at dksX5_keep_8 4 rfl rfl)
theorem dX5_keep_193 : decode cX5_keep 193 = .ok (.aload_n 0, 1) := dk_42 (dk_at dksX5_keep_8 7 rfl rfl)
theorem dX5_keep_194 : decode cX5_keep 194 = .ok (.getfield 7, 3) := dk_180 0 7 (dk_at dksX5_keep_8 8 rfl rfl)
theorem dX5_keep_197 : decode cX5_keep 197 = .ok (.bipush 6, 2) := dk_16 6 (dk_at dksX5_keep_8 11 rfl rfl)
theorem dX5_keep_199 : decode cX5_keep 199 = .ok (.dup2, 1) := dk_92 (dk_at dksX5_keep_8 13 rfl rfl)
theorem dX5_keep_200 : decode cX5_keep 200 = .ok (.iaload, 1) := dk_46 (dk_at dksX5_keep_8 14 rfl rfl)
theorem dX5_keep_201 : decode cX5_keep 201 = .ok (.iconst 1, 1) := dk_4 (dk_at dksX5_keep_8 15 rfl rfl)
theorem dX5_keep_202 : decode cX5_keep 202 = .ok (.iadd, 1) := dk_96 (dk_at dksX5_keep_8 16 rfl rfl)
theorem dX5_keep_203 : decode cX5_keep 203 = .ok (.iastore, 1) := dk_79 (dk_at dksX5_keep_8 17 rfl rfl)
theorem dX5_keep_204 : decode cX5_keep 204 = .ok (.return_, 1) := dk_177 (dk_at dksX5_keep_8 18 rfl rfl)
abbrev cX5_remember : ByteArray := prog_14_method_35_code
def yX5_remember : MethodName := ⟨RX5, "remember", "(II)V"⟩
def dkwX5_remember_4 : List UInt8 := [79, 42, 180, 0, 7, 7, 92, 46, 4, 96, 79, 177]
abbrev dktX5_remember_4 : List UInt8 := dkwX5_remember_4 ++ []
def dkwX5_remember_3 : List UInt8 := [27, 79, 42, 180, 0, 7, 29, 4, 96, 28, 79, 42, 180, 0, 7, 29, 5, 96, 42, 180, 0, 7, 5, 46]
abbrev dktX5_remember_3 : List UInt8 := dkwX5_remember_3 ++ dktX5_remember_4
def dkwX5_remember_2 : List UInt8 := [180, 0, 7, 7, 16, 11, 79, 16, 61, 6, 42, 180, 0, 7, 7, 46, 104, 96, 62, 42, 180, 0, 7, 29]
abbrev dktX5_remember_2 : List UInt8 := dkwX5_remember_2 ++ dktX5_remember_3
def dkwX5_remember_1 : List UInt8 := [16, 61, 29, 96, 42, 180, 0, 7, 16, 61, 29, 96, 6, 96, 46, 79, 132, 3, 1, 167, 255, 227, 42]
abbrev dktX5_remember_1 : List UInt8 := dkwX5_remember_1 ++ dktX5_remember_2
def dkwX5_remember_0 : List UInt8 := [42, 180, 0, 7, 7, 46, 16, 12, 160, 0, 45, 3, 62, 29, 16, 33, 162, 0, 29, 42, 180, 0, 7]
abbrev dktX5_remember_0 : List UInt8 := dkwX5_remember_0 ++ dktX5_remember_1
theorem dksX5_remember_0 : cX5_remember.data.toList.drop 0 = dktX5_remember_0 := by decide +kernel
theorem dksX5_remember_1 : cX5_remember.data.toList.drop 23 = dktX5_remember_1 := dk_seg dksX5_remember_0 23 rfl rfl
theorem dksX5_remember_2 : cX5_remember.data.toList.drop 46 = dktX5_remember_2 := dk_seg dksX5_remember_1 23 rfl rfl
theorem dksX5_remember_3 : cX5_remember.data.toList.drop 70 = dktX5_remember_3 := dk_seg dksX5_remember_2 24 rfl rfl
theorem dksX5_remember_4 : cX5_remember.data.toList.drop 94 = dktX5_remember_4 := dk_seg dksX5_remember_3 24 rfl rfl
theorem dX5_remember_0 : decode cX5_remember 0 = .ok (.aload_n 0, 1) := dk_42 (dk_at dksX5_remember_0 0 rfl rfl)
theorem dX5_remember_1 : decode cX5_remember 1 = .ok (.getfield 7, 3) := dk_180 0 7 (dk_at dksX5_remember_0 1 rfl rfl)
theorem dX5_remember_4 : decode cX5_remember 4 = .ok (.iconst 4, 1) := dk_7 (dk_at dksX5_remember_0 4 rfl rfl)
theorem dX5_remember_5 : decode cX5_remember 5 = .ok (.iaload, 1) := dk_46 (dk_at dksX5_remember_0 5 rfl rfl)
theorem dX5_remember_6 : decode cX5_remember 6 = .ok (.bipush 12, 2) := dk_16 12 (dk_at dksX5_remember_0 6 rfl rfl)
theorem dX5_remember_8 : decode cX5_remember 8 = .ok (.if_icmp .ne 45, 3) := dk_160 0 45 (dk_at dksX5_remember_0 8 rfl rfl)
theorem dX5_remember_11 : decode cX5_remember 11 = .ok (.iconst 0, 1) := dk_3 (dk_at dksX5_remember_0 11 rfl rfl)
theorem dX5_remember_12 : decode cX5_remember 12 = .ok (.istore_n 3, 1) := dk_62 (dk_at dksX5_remember_0 12 rfl rfl)
theorem dX5_remember_13 : decode cX5_remember 13 = .ok (.iload_n 3, 1) := dk_29 (dk_at dksX5_remember_0 13 rfl rfl)
theorem dX5_remember_14 : decode cX5_remember 14 = .ok (.bipush 33, 2) := dk_16 33 (dk_at dksX5_remember_0 14 rfl rfl)
theorem dX5_remember_16 : decode cX5_remember 16 = .ok (.if_icmp .ge 29, 3) := dk_162 0 29 (dk_at dksX5_remember_0 16 rfl rfl)
theorem dX5_remember_19 : decode cX5_remember 19 = .ok (.aload_n 0, 1) := dk_42 (dk_at dksX5_remember_0 19 rfl rfl)
theorem dX5_remember_20 : decode cX5_remember 20 = .ok (.getfield 7, 3) := dk_180 0 7 (dk_at dksX5_remember_0 20 rfl rfl)
theorem dX5_remember_23 : decode cX5_remember 23 = .ok (.bipush 61, 2) := dk_16 61 (dk_at dksX5_remember_1 0 rfl rfl)
theorem dX5_remember_25 : decode cX5_remember 25 = .ok (.iload_n 3, 1) := dk_29 (dk_at dksX5_remember_1 2 rfl rfl)
theorem dX5_remember_26 : decode cX5_remember 26 = .ok (.iadd, 1) := dk_96 (dk_at dksX5_remember_1 3 rfl rfl)
theorem dX5_remember_27 : decode cX5_remember 27 = .ok (.aload_n 0, 1) := dk_42 (dk_at dksX5_remember_1 4 rfl rfl)
theorem dX5_remember_28 : decode cX5_remember 28 = .ok (.getfield 7, 3) := dk_180 0 7 (dk_at dksX5_remember_1 5 rfl rfl)
theorem dX5_remember_31 : decode cX5_remember 31 = .ok (.bipush 61, 2) := dk_16 61 (dk_at dksX5_remember_1 8 rfl rfl)
theorem dX5_remember_33 : decode cX5_remember 33 = .ok (.iload_n 3, 1) := dk_29 (dk_at dksX5_remember_1 10 rfl rfl)
theorem dX5_remember_34 : decode cX5_remember 34 = .ok (.iadd, 1) := dk_96 (dk_at dksX5_remember_1 11 rfl rfl)
theorem dX5_remember_35 : decode cX5_remember 35 = .ok (.iconst 3, 1) := dk_6 (dk_at dksX5_remember_1 12 rfl rfl)
theorem dX5_remember_36 : decode cX5_remember 36 = .ok (.iadd, 1) := dk_96 (dk_at dksX5_remember_1 13 rfl rfl)
theorem dX5_remember_37 : decode cX5_remember 37 = .ok (.iaload, 1) := dk_46 (dk_at dksX5_remember_1 14 rfl rfl)
theorem dX5_remember_38 : decode cX5_remember 38 = .ok (.iastore, 1) := dk_79 (dk_at dksX5_remember_1 15 rfl rfl)
theorem dX5_remember_39 : decode cX5_remember 39 = .ok (.iinc 3 1, 3) := dk_132 3 1 (dk_at dksX5_remember_1 16 rfl rfl)
theorem dX5_remember_42 : decode cX5_remember 42 = .ok (.goto (-29), 3) := dk_167 255 227 (dk_at dksX5_remember_1 19 rfl rfl)
theorem dX5_remember_45 : decode cX5_remember 45 = .ok (.aload_n 0, 1) := dk_42 (dk_at dksX5_remember_1 22 rfl rfl)
theorem dX5_remember_46 : decode cX5_remember 46 = .ok (.getfield 7, 3) := dk_180 0 7 (dk_at dksX5_remember_2 0 rfl rfl)
theorem dX5_remember_49 : decode cX5_remember 49 = .ok (.iconst 4, 1) := dk_7 (dk_at dksX5_remember_2 3 rfl rfl)
theorem dX5_remember_50 : decode cX5_remember 50 = .ok (.bipush 11, 2) := dk_16 11 (dk_at dksX5_remember_2 4 rfl rfl)
theorem dX5_remember_52 : decode cX5_remember 52 = .ok (.iastore, 1) := dk_79 (dk_at dksX5_remember_2 6 rfl rfl)
theorem dX5_remember_53 : decode cX5_remember 53 = .ok (.bipush 61, 2) := dk_16 61 (dk_at dksX5_remember_2 7 rfl rfl)
theorem dX5_remember_55 : decode cX5_remember 55 = .ok (.iconst 3, 1) := dk_6 (dk_at dksX5_remember_2 9 rfl rfl)
theorem dX5_remember_56 : decode cX5_remember 56 = .ok (.aload_n 0, 1) := dk_42 (dk_at dksX5_remember_2 10 rfl rfl)
theorem dX5_remember_57 : decode cX5_remember 57 = .ok (.getfield 7, 3) := dk_180 0 7 (dk_at dksX5_remember_2 11 rfl rfl)
theorem dX5_remember_60 : decode cX5_remember 60 = .ok (.iconst 4, 1) := dk_7 (dk_at dksX5_remember_2 14 rfl rfl)
theorem dX5_remember_61 : decode cX5_remember 61 = .ok (.iaload, 1) := dk_46 (dk_at dksX5_remember_2 15 rfl rfl)
theorem dX5_remember_62 : decode cX5_remember 62 = .ok (.imul, 1) := dk_104 (dk_at dksX5_remember_2 16 rfl rfl)
theorem dX5_remember_63 : decode cX5_remember 63 = .ok (.iadd, 1) := dk_96 (dk_at dksX5_remember_2 17 rfl rfl)
theorem dX5_remember_64 : decode cX5_remember 64 = .ok (.istore_n 3, 1) := dk_62 (dk_at dksX5_remember_2 18 rfl rfl)
theorem dX5_remember_65 : decode cX5_remember 65 = .ok (.aload_n 0, 1) := dk_42 (dk_at dksX5_remember_2 19 rfl rfl)
theorem dX5_remember_66 : decode cX5_remember 66 = .ok (.getfield 7, 3) := dk_180 0 7 (dk_at dksX5_remember_2 20 rfl rfl)
theorem dX5_remember_69 : decode cX5_remember 69 = .ok (.iload_n 3, 1) := dk_29 (dk_at dksX5_remember_2 23 rfl rfl)
theorem dX5_remember_70 : decode cX5_remember 70 = .ok (.iload_n 1, 1) := dk_27 (dk_at dksX5_remember_3 0 rfl rfl)
theorem dX5_remember_71 : decode cX5_remember 71 = .ok (.iastore, 1) := dk_79 (dk_at dksX5_remember_3 1 rfl rfl)
theorem dX5_remember_72 : decode cX5_remember 72 = .ok (.aload_n 0, 1) := dk_42 (dk_at dksX5_remember_3 2 rfl rfl)
theorem dX5_remember_73 : decode cX5_remember 73 = .ok (.getfield 7, 3) := dk_180 0 7 (dk_at dksX5_remember_3 3 rfl rfl)
theorem dX5_remember_76 : decode cX5_remember 76 = .ok (.iload_n 3, 1) := dk_29 (dk_at dksX5_remember_3 6 rfl rfl)
theorem dX5_remember_77 : decode cX5_remember 77 = .ok (.iconst 1, 1) := dk_4 (dk_at dksX5_remember_3 7 rfl rfl)
theorem dX5_remember_78 : decode cX5_remember 78 = .ok (.iadd, 1) := dk_96 (dk_at dksX5_remember_3 8 rfl rfl)
theorem dX5_remember_79 : decode cX5_remember 79 = .ok (.iload_n 2, 1) := dk_28 (dk_at dksX5_remember_3 9 rfl rfl)
theorem dX5_remember_80 : decode cX5_remember 80 = .ok (.iastore, 1) := dk_79 (dk_at dksX5_remember_3 10 rfl rfl)
theorem dX5_remember_81 : decode cX5_remember 81 = .ok (.aload_n 0, 1) := dk_42 (dk_at dksX5_remember_3 11 rfl rfl)
theorem dX5_remember_82 : decode cX5_remember 82 = .ok (.getfield 7, 3) := dk_180 0 7 (dk_at dksX5_remember_3 12 rfl rfl)
theorem dX5_remember_85 : decode cX5_remember 85 = .ok (.iload_n 3, 1) := dk_29 (dk_at dksX5_remember_3 15 rfl rfl)
theorem dX5_remember_86 : decode cX5_remember 86 = .ok (.iconst 2, 1) := dk_5 (dk_at dksX5_remember_3 16 rfl rfl)
theorem dX5_remember_87 : decode cX5_remember 87 = .ok (.iadd, 1) := dk_96 (dk_at dksX5_remember_3 17 rfl rfl)
theorem dX5_remember_88 : decode cX5_remember 88 = .ok (.aload_n 0, 1) := dk_42 (dk_at dksX5_remember_3 18 rfl rfl)
theorem dX5_remember_89 : decode cX5_remember 89 = .ok (.getfield 7, 3) := dk_180 0 7 (dk_at dksX5_remember_3 19 rfl rfl)
theorem dX5_remember_92 : decode cX5_remember 92 = .ok (.iconst 2, 1) := dk_5 (dk_at dksX5_remember_3 22 rfl rfl)
theorem dX5_remember_93 : decode cX5_remember 93 = .ok (.iaload, 1) := dk_46 (dk_at dksX5_remember_3 23 rfl rfl)
theorem dX5_remember_94 : decode cX5_remember 94 = .ok (.iastore, 1) := dk_79 (dk_at dksX5_remember_4 0 rfl rfl)
theorem dX5_remember_95 : decode cX5_remember 95 = .ok (.aload_n 0, 1) := dk_42 (dk_at dksX5_remember_4 1 rfl rfl)
theorem dX5_remember_96 : decode cX5_remember 96 = .ok (.getfield 7, 3) := dk_180 0 7 (dk_at dksX5_remember_4 2 rfl rfl)
theorem dX5_remember_99 : decode cX5_remember 99 = .ok (.iconst 4, 1) := dk_7 (dk_at dksX5_remember_4 5 rfl rfl)
theorem dX5_remember_100 : decode cX5_remember 100 = .ok (.dup2, 1) := dk_92 (dk_at dksX5_remember_4 6 rfl rfl)
theorem dX5_remember_101 : decode cX5_remember 101 = .ok (.iaload, 1) := dk_46 (dk_at dksX5_remember_4 7 rfl rfl)
theorem dX5_remember_102 : decode cX5_remember 102 = .ok (.iconst 1, 1) := dk_4 (dk_at dksX5_remember_4 8 rfl rfl)
theorem dX5_remember_103 : decode cX5_remember 103 = .ok (.iadd, 1) := dk_96 (dk_at dksX5_remember_4 9 rfl rfl)
theorem dX5_remember_104 : decode cX5_remember 104 = .ok (.iastore, 1) := dk_79 (dk_at dksX5_remember_4 10 rfl rfl)
theorem dX5_remember_105 : decode cX5_remember 105 = .ok (.return_, 1) := dk_177 (dk_at dksX5_remember_4 11 rfl rfl)
abbrev cX5_night : ByteArray := prog_14_method_37_code
def yX5_night : MethodName := ⟨RX5, "night", "()I"⟩
def dkwX5_night_2 : List UInt8 := [180, 0, 7, 5, 46, 172]
abbrev dktX5_night_2 : List UInt8 := dkwX5_night_2 ++ []
def dkwX5_night_1 : List UInt8 := [96, 7, 96, 2, 79, 132, 1, 1, 167, 255, 230, 42, 180, 0, 7, 5, 92, 46, 4, 96, 79, 42]
abbrev dktX5_night_1 : List UInt8 := dkwX5_night_1 ++ dktX5_night_2
def dkwX5_night_0 : List UInt8 := [42, 182, 0, 160, 3, 60, 27, 42, 182, 0, 60, 162, 0, 24, 42, 180, 0, 7, 16, 7, 16, 6, 27, 104]
abbrev dktX5_night_0 : List UInt8 := dkwX5_night_0 ++ dktX5_night_1
theorem dksX5_night_0 : cX5_night.data.toList.drop 0 = dktX5_night_0 := by decide +kernel
theorem dksX5_night_1 : cX5_night.data.toList.drop 24 = dktX5_night_1 := dk_seg dksX5_night_0 24 rfl rfl
theorem dksX5_night_2 : cX5_night.data.toList.drop 46 = dktX5_night_2 := dk_seg dksX5_night_1 22 rfl rfl
theorem dX5_night_0 : decode cX5_night 0 = .ok (.aload_n 0, 1) := dk_42 (dk_at dksX5_night_0 0 rfl rfl)
theorem dX5_night_1 : decode cX5_night 1 = .ok (.invokevirtual 160, 3) := dk_182 0 160 (dk_at dksX5_night_0 1 rfl rfl)
theorem dX5_night_4 : decode cX5_night 4 = .ok (.iconst 0, 1) := dk_3 (dk_at dksX5_night_0 4 rfl rfl)
theorem dX5_night_5 : decode cX5_night 5 = .ok (.istore_n 1, 1) := dk_60 (dk_at dksX5_night_0 5 rfl rfl)
theorem dX5_night_6 : decode cX5_night 6 = .ok (.iload_n 1, 1) := dk_27 (dk_at dksX5_night_0 6 rfl rfl)
theorem dX5_night_7 : decode cX5_night 7 = .ok (.aload_n 0, 1) := dk_42 (dk_at dksX5_night_0 7 rfl rfl)
theorem dX5_night_8 : decode cX5_night 8 = .ok (.invokevirtual 60, 3) := dk_182 0 60 (dk_at dksX5_night_0 8 rfl rfl)
theorem dX5_night_11 : decode cX5_night 11 = .ok (.if_icmp .ge 24, 3) := dk_162 0 24 (dk_at dksX5_night_0 11 rfl rfl)
theorem dX5_night_14 : decode cX5_night 14 = .ok (.aload_n 0, 1) := dk_42 (dk_at dksX5_night_0 14 rfl rfl)
theorem dX5_night_15 : decode cX5_night 15 = .ok (.getfield 7, 3) := dk_180 0 7 (dk_at dksX5_night_0 15 rfl rfl)
theorem dX5_night_18 : decode cX5_night 18 = .ok (.bipush 7, 2) := dk_16 7 (dk_at dksX5_night_0 18 rfl rfl)
theorem dX5_night_20 : decode cX5_night 20 = .ok (.bipush 6, 2) := dk_16 6 (dk_at dksX5_night_0 20 rfl rfl)
theorem dX5_night_22 : decode cX5_night 22 = .ok (.iload_n 1, 1) := dk_27 (dk_at dksX5_night_0 22 rfl rfl)
theorem dX5_night_23 : decode cX5_night 23 = .ok (.imul, 1) := dk_104 (dk_at dksX5_night_0 23 rfl rfl)
theorem dX5_night_24 : decode cX5_night 24 = .ok (.iadd, 1) := dk_96 (dk_at dksX5_night_1 0 rfl rfl)
theorem dX5_night_25 : decode cX5_night 25 = .ok (.iconst 4, 1) := dk_7 (dk_at dksX5_night_1 1 rfl rfl)
theorem dX5_night_26 : decode cX5_night 26 = .ok (.iadd, 1) := dk_96 (dk_at dksX5_night_1 2 rfl rfl)
theorem dX5_night_27 : decode cX5_night 27 = .ok (.iconst (-1), 1) := dk_2 (dk_at dksX5_night_1 3 rfl rfl)
theorem dX5_night_28 : decode cX5_night 28 = .ok (.iastore, 1) := dk_79 (dk_at dksX5_night_1 4 rfl rfl)
theorem dX5_night_29 : decode cX5_night 29 = .ok (.iinc 1 1, 3) := dk_132 1 1 (dk_at dksX5_night_1 5 rfl rfl)
theorem dX5_night_32 : decode cX5_night 32 = .ok (.goto (-26), 3) := dk_167 255 230 (dk_at dksX5_night_1 8 rfl rfl)
theorem dX5_night_35 : decode cX5_night 35 = .ok (.aload_n 0, 1) := dk_42 (dk_at dksX5_night_1 11 rfl rfl)
theorem dX5_night_36 : decode cX5_night 36 = .ok (.getfield 7, 3) := dk_180 0 7 (dk_at dksX5_night_1 12 rfl rfl)
theorem dX5_night_39 : decode cX5_night 39 = .ok (.iconst 2, 1) := dk_5 (dk_at dksX5_night_1 15 rfl rfl)
theorem dX5_night_40 : decode cX5_night 40 = .ok (.dup2, 1) := dk_92 (dk_at dksX5_night_1 16 rfl rfl)
theorem dX5_night_41 : decode cX5_night 41 = .ok (.iaload, 1) := dk_46 (dk_at dksX5_night_1 17 rfl rfl)
theorem dX5_night_42 : decode cX5_night 42 = .ok (.iconst 1, 1) := dk_4 (dk_at dksX5_night_1 18 rfl rfl)
theorem dX5_night_43 : decode cX5_night 43 = .ok (.iadd, 1) := dk_96 (dk_at dksX5_night_1 19 rfl rfl)
theorem dX5_night_44 : decode cX5_night 44 = .ok (.iastore, 1) := dk_79 (dk_at dksX5_night_1 20 rfl rfl)
theorem dX5_night_45 : decode cX5_night 45 = .ok (.aload_n 0, 1) := dk_42 (dk_at dksX5_night_1 21 rfl rfl)
theorem dX5_night_46 : decode cX5_night 46 = .ok (.getfield 7, 3) := dk_180 0 7 (dk_at dksX5_night_2 0 rfl rfl)
theorem dX5_night_49 : decode cX5_night 49 = .ok (.iconst 2, 1) := dk_5 (dk_at dksX5_night_2 3 rfl rfl)
theorem dX5_night_50 : decode cX5_night 50 = .ok (.iaload, 1) := dk_46 (dk_at dksX5_night_2 4 rfl rfl)
theorem dX5_night_51 : decode cX5_night 51 = .ok (.ireturn, 1) := dk_172 (dk_at dksX5_night_2 5 rfl rfl)
abbrev cX5_undo : ByteArray := prog_14_method_38_code
def yX5_undo : MethodName := ⟨RX5, "undo", "()I"⟩
def dkwX5_undo_7 : List UInt8 := [180, 0, 7, 27, 16, 15, 96, 28, 96, 46, 79, 132, 2, 1, 167, 255, 227, 42, 180, 0, 7, 6, 46, 172]
abbrev dktX5_undo_7 : List UInt8 := dkwX5_undo_7 ++ []
def dkwX5_undo_6 : List UInt8 := [16, 14, 96, 46, 79, 3, 61, 28, 16, 36, 162, 0, 29, 42, 180, 0, 7, 16, 61, 28, 96, 42]
abbrev dktX5_undo_6 : List UInt8 := dkwX5_undo_6 ++ dktX5_undo_7
def dkwX5_undo_5 : List UInt8 := [180, 0, 7, 6, 42, 180, 0, 7, 27, 16, 13, 96, 46, 79, 42, 180, 0, 7, 7, 42, 180, 0, 7, 27]
abbrev dktX5_undo_5 : List UInt8 := dkwX5_undo_5 ++ dktX5_undo_6
def dkwX5_undo_4 : List UInt8 := [132, 2, 1, 167, 255, 201, 42, 180, 0, 7, 5, 42, 180, 0, 7, 27, 16, 12, 96, 46, 79, 42]
abbrev dktX5_undo_4 : List UInt8 := dkwX5_undo_4 ++ dktX5_undo_5
def dkwX5_undo_3 : List UInt8 := [180, 0, 7, 16, 7, 16, 6, 28, 104, 96, 7, 96, 42, 180, 0, 7, 27, 16, 6, 96, 28, 96, 46, 79]
abbrev dktX5_undo_3 : List UInt8 := dkwX5_undo_3 ++ dktX5_undo_4
def dkwX5_undo_2 : List UInt8 := [42, 180, 0, 7, 16, 43, 6, 28, 104, 96, 4, 96, 42, 180, 0, 7, 27, 28, 96, 46, 79, 42]
abbrev dktX5_undo_2 : List UInt8 := dkwX5_undo_2 ++ dktX5_undo_3
def dkwX5_undo_1 : List UInt8 := [100, 79, 16, 115, 16, 51, 42, 180, 0, 7, 16, 6, 46, 104, 96, 60, 3, 61, 28, 16, 6, 162, 0, 55]
abbrev dktX5_undo_1 : List UInt8 := dkwX5_undo_1 ++ dktX5_undo_2
def dkwX5_undo_0 : List UInt8 := [42, 180, 0, 7, 16, 6, 46, 154, 0, 8, 42, 182, 0, 157, 172, 42, 180, 0, 7, 16, 6, 92, 46, 4]
abbrev dktX5_undo_0 : List UInt8 := dkwX5_undo_0 ++ dktX5_undo_1
theorem dksX5_undo_0 : cX5_undo.data.toList.drop 0 = dktX5_undo_0 := by decide +kernel
theorem dksX5_undo_1 : cX5_undo.data.toList.drop 24 = dktX5_undo_1 := dk_seg dksX5_undo_0 24 rfl rfl
theorem dksX5_undo_2 : cX5_undo.data.toList.drop 48 = dktX5_undo_2 := dk_seg dksX5_undo_1 24 rfl rfl
theorem dksX5_undo_3 : cX5_undo.data.toList.drop 70 = dktX5_undo_3 := dk_seg dksX5_undo_2 22 rfl rfl
theorem dksX5_undo_4 : cX5_undo.data.toList.drop 94 = dktX5_undo_4 := dk_seg dksX5_undo_3 24 rfl rfl
theorem dksX5_undo_5 : cX5_undo.data.toList.drop 116 = dktX5_undo_5 := dk_seg dksX5_undo_4 22 rfl rfl
theorem dksX5_undo_6 : cX5_undo.data.toList.drop 140 = dktX5_undo_6 := dk_seg dksX5_undo_5 24 rfl rfl
theorem dksX5_undo_7 : cX5_undo.data.toList.drop 162 = dktX5_undo_7 := dk_seg dksX5_undo_6 22 rfl rfl
theorem dX5_undo_0 : decode cX5_undo 0 = .ok (.aload_n 0, 1) := dk_42 (dk_at dksX5_undo_0 0 rfl rfl)
theorem dX5_undo_1 : decode cX5_undo 1 = .ok (.getfield 7, 3) := dk_180 0 7 (dk_at dksX5_undo_0 1 rfl rfl)
theorem dX5_undo_4 : decode cX5_undo 4 = .ok (.bipush 6, 2) := dk_16 6 (dk_at dksX5_undo_0 4 rfl rfl)
theorem dX5_undo_6 : decode cX5_undo 6 = .ok (.iaload, 1) := dk_46 (dk_at dksX5_undo_0 6 rfl rfl)
theorem dX5_undo_7 : decode cX5_undo 7 = .ok (.ifCond .ne 8, 3) := dk_154 0 8 (dk_at dksX5_undo_0 7 rfl rfl)
theorem dX5_undo_10 : decode cX5_undo 10 = .ok (.aload_n 0, 1) := dk_42 (dk_at dksX5_undo_0 10 rfl rfl)
theorem dX5_undo_11 : decode cX5_undo 11 = .ok (.invokevirtual 157, 3) := dk_182 0 157 (dk_at dksX5_undo_0 11 rfl rfl)
theorem dX5_undo_14 : decode cX5_undo 14 = .ok (.ireturn, 1) := dk_172 (dk_at dksX5_undo_0 14 rfl rfl)
theorem dX5_undo_15 : decode cX5_undo 15 = .ok (.aload_n 0, 1) := dk_42 (dk_at dksX5_undo_0 15 rfl rfl)
theorem dX5_undo_16 : decode cX5_undo 16 = .ok (.getfield 7, 3) := dk_180 0 7 (dk_at dksX5_undo_0 16 rfl rfl)
theorem dX5_undo_19 : decode cX5_undo 19 = .ok (.bipush 6, 2) := dk_16 6 (dk_at dksX5_undo_0 19 rfl rfl)
theorem dX5_undo_21 : decode cX5_undo 21 = .ok (.dup2, 1) := dk_92 (dk_at dksX5_undo_0 21 rfl rfl)
theorem dX5_undo_22 : decode cX5_undo 22 = .ok (.iaload, 1) := dk_46 (dk_at dksX5_undo_0 22 rfl rfl)
theorem dX5_undo_23 : decode cX5_undo 23 = .ok (.iconst 1, 1) := dk_4 (dk_at dksX5_undo_0 23 rfl rfl)
theorem dX5_undo_24 : decode cX5_undo 24 = .ok (.isub, 1) := dk_100 (dk_at dksX5_undo_1 0 rfl rfl)
theorem dX5_undo_25 : decode cX5_undo 25 = .ok (.iastore, 1) := dk_79 (dk_at dksX5_undo_1 1 rfl rfl)
theorem dX5_undo_26 : decode cX5_undo 26 = .ok (.bipush 115, 2) := dk_16 115 (dk_at dksX5_undo_1 2 rfl rfl)
theorem dX5_undo_28 : decode cX5_undo 28 = .ok (.bipush 51, 2) := dk_16 51 (dk_at dksX5_undo_1 4 rfl rfl)
theorem dX5_undo_30 : decode cX5_undo 30 = .ok (.aload_n 0, 1) := dk_42 (dk_at dksX5_undo_1 6 rfl rfl)
theorem dX5_undo_31 : decode cX5_undo 31 = .ok (.getfield 7, 3) := dk_180 0 7 (dk_at dksX5_undo_1 7 rfl rfl)
theorem dX5_undo_34 : decode cX5_undo 34 = .ok (.bipush 6, 2) := dk_16 6 (dk_at dksX5_undo_1 10 rfl rfl)
theorem dX5_undo_36 : decode cX5_undo 36 = .ok (.iaload, 1) := dk_46 (dk_at dksX5_undo_1 12 rfl rfl)
theorem dX5_undo_37 : decode cX5_undo 37 = .ok (.imul, 1) := dk_104 (dk_at dksX5_undo_1 13 rfl rfl)
theorem dX5_undo_38 : decode cX5_undo 38 = .ok (.iadd, 1) := dk_96 (dk_at dksX5_undo_1 14 rfl rfl)
theorem dX5_undo_39 : decode cX5_undo 39 = .ok (.istore_n 1, 1) := dk_60 (dk_at dksX5_undo_1 15 rfl rfl)
theorem dX5_undo_40 : decode cX5_undo 40 = .ok (.iconst 0, 1) := dk_3 (dk_at dksX5_undo_1 16 rfl rfl)
theorem dX5_undo_41 : decode cX5_undo 41 = .ok (.istore_n 2, 1) := dk_61 (dk_at dksX5_undo_1 17 rfl rfl)
theorem dX5_undo_42 : decode cX5_undo 42 = .ok (.iload_n 2, 1) := dk_28 (dk_at dksX5_undo_1 18 rfl rfl)
theorem dX5_undo_43 : decode cX5_undo 43 = .ok (.bipush 6, 2) := dk_16 6 (dk_at dksX5_undo_1 19 rfl rfl)
theorem dX5_undo_45 : decode cX5_undo 45 = .ok (.if_icmp .ge 55, 3) := dk_162 0 55 (dk_at dksX5_undo_1 21 rfl rfl)
theorem dX5_undo_48 : decode cX5_undo 48 = .ok (.aload_n 0, 1) := dk_42 (dk_at dksX5_undo_2 0 rfl rfl)
theorem dX5_undo_49 : decode cX5_undo 49 = .ok (.getfield 7, 3) := dk_180 0 7 (dk_at dksX5_undo_2 1 rfl rfl)
theorem dX5_undo_52 : decode cX5_undo 52 = .ok (.bipush 43, 2) := dk_16 43 (dk_at dksX5_undo_2 4 rfl rfl)
theorem dX5_undo_54 : decode cX5_undo 54 = .ok (.iconst 3, 1) := dk_6 (dk_at dksX5_undo_2 6 rfl rfl)
theorem dX5_undo_55 : decode cX5_undo 55 = .ok (.iload_n 2, 1) := dk_28 (dk_at dksX5_undo_2 7 rfl rfl)
theorem dX5_undo_56 : decode cX5_undo 56 = .ok (.imul, 1) := dk_104 (dk_at dksX5_undo_2 8 rfl rfl)
theorem dX5_undo_57 : decode cX5_undo 57 = .ok (.iadd, 1) := dk_96 (dk_at dksX5_undo_2 9 rfl rfl)
theorem dX5_undo_58 : decode cX5_undo 58 = .ok (.iconst 1, 1) := dk_4 (dk_at dksX5_undo_2 10 rfl rfl)
theorem dX5_undo_59 : decode cX5_undo 59 = .ok (.iadd, 1) := dk_96 (dk_at dksX5_undo_2 11 rfl rfl)
theorem dX5_undo_60 : decode cX5_undo 60 = .ok (.aload_n 0, 1) := dk_42 (dk_at dksX5_undo_2 12 rfl rfl)
theorem dX5_undo_61 : decode cX5_undo 61 = .ok (.getfield 7, 3) := dk_180 0 7 (dk_at dksX5_undo_2 13 rfl rfl)
theorem dX5_undo_64 : decode cX5_undo 64 = .ok (.iload_n 1, 1) := dk_27 (dk_at dksX5_undo_2 16 rfl rfl)
theorem dX5_undo_65 : decode cX5_undo 65 = .ok (.iload_n 2, 1) := dk_28 (dk_at dksX5_undo_2 17 rfl rfl)
theorem dX5_undo_66 : decode cX5_undo 66 = .ok (.iadd, 1) := dk_96 (dk_at dksX5_undo_2 18 rfl rfl)
theorem dX5_undo_67 : decode cX5_undo 67 = .ok (.iaload, 1) := dk_46 (dk_at dksX5_undo_2 19 rfl rfl)
theorem dX5_undo_68 : decode cX5_undo 68 = .ok (.iastore, 1) := dk_79 (dk_at dksX5_undo_2 20 rfl rfl)
theorem dX5_undo_69 : decode cX5_undo 69 = .ok (.aload_n 0, 1) := dk_42 (dk_at dksX5_undo_2 21 rfl rfl)
theorem dX5_undo_70 : decode cX5_undo 70 = .ok (.getfield 7, 3) := dk_180 0 7 (dk_at dksX5_undo_3 0 rfl rfl)
theorem dX5_undo_73 : decode cX5_undo 73 = .ok (.bipush 7, 2) := dk_16 7 (dk_at dksX5_undo_3 3 rfl rfl)
theorem dX5_undo_75 : decode cX5_undo 75 = .ok (.bipush 6, 2) := dk_16 6 (dk_at dksX5_undo_3 5 rfl rfl)
theorem dX5_undo_77 : decode cX5_undo 77 = .ok (.iload_n 2, 1) := dk_28 (dk_at dksX5_undo_3 7 rfl rfl)
theorem dX5_undo_78 : decode cX5_undo 78 = .ok (.imul, 1) := dk_104 (dk_at dksX5_undo_3 8 rfl rfl)
theorem dX5_undo_79 : decode cX5_undo 79 = .ok (.iadd, 1) := dk_96 (dk_at dksX5_undo_3 9 rfl rfl)
theorem dX5_undo_80 : decode cX5_undo 80 = .ok (.iconst 4, 1) := dk_7 (dk_at dksX5_undo_3 10 rfl rfl)
theorem dX5_undo_81 : decode cX5_undo 81 = .ok (.iadd, 1) := dk_96 (dk_at dksX5_undo_3 11 rfl rfl)
theorem dX5_undo_82 : decode cX5_undo 82 = .ok (.aload_n 0, 1) := dk_42 (dk_at dksX5_undo_3 12 rfl rfl)
theorem dX5_undo_83 : decode cX5_undo 83 = .ok (.getfield 7, 3) := dk_180 0 7 (dk_at dksX5_undo_3 13 rfl rfl)
theorem dX5_undo_86 : decode cX5_undo 86 = .ok (.iload_n 1, 1) := dk_27 (dk_at dksX5_undo_3 16 rfl rfl)
theorem dX5_undo_87 : decode cX5_undo 87 = .ok (.bipush 6, 2) := dk_16 6 (dk_at dksX5_undo_3 17 rfl rfl)
theorem dX5_undo_89 : decode cX5_undo 89 = .ok (.iadd, 1) := dk_96 (dk_at dksX5_undo_3 19 rfl rfl)
theorem dX5_undo_90 : decode cX5_undo 90 = .ok (.iload_n 2, 1) := dk_28 (dk_at dksX5_undo_3 20 rfl rfl)
theorem dX5_undo_91 : decode cX5_undo 91 = .ok (.iadd, 1) := dk_96 (dk_at dksX5_undo_3 21 rfl rfl)
theorem dX5_undo_92 : decode cX5_undo 92 = .ok (.iaload, 1) := dk_46 (dk_at dksX5_undo_3 22 rfl rfl)
theorem dX5_undo_93 : decode cX5_undo 93 = .ok (.iastore, 1) := dk_79 (dk_at dksX5_undo_3 23 rfl rfl)
theorem dX5_undo_94 : decode cX5_undo 94 = .ok (.iinc 2 1, 3) := dk_132 2 1 (dk_at dksX5_undo_4 0 rfl rfl)
theorem dX5_undo_97 : decode cX5_undo 97 = .ok (.goto (-55), 3) := dk_167 255 201 (dk_at dksX5_undo_4 3 rfl rfl)
theorem dX5_undo_100 : decode cX5_undo 100 = .ok (.aload_n 0, 1) := dk_42 (dk_at dksX5_undo_4 6 rfl rfl)
theorem dX5_undo_101 : decode cX5_undo 101 = .ok (.getfield 7, 3) := dk_180 0 7 (dk_at dksX5_undo_4 7 rfl rfl)
theorem dX5_undo_104 : decode cX5_undo 104 = .ok (.iconst 2, 1) := dk_5 (dk_at dksX5_undo_4 10 rfl rfl)
theorem dX5_undo_105 : decode cX5_undo 105 = .ok (.aload_n 0, 1) := dk_42 (dk_at dksX5_undo_4 11 rfl rfl)
theorem dX5_undo_106 : decode cX5_undo 106 = .ok (.getfield 7, 3) := dk_180 0 7 (dk_at dksX5_undo_4 12 rfl rfl)
theorem dX5_undo_109 : decode cX5_undo 109 = .ok (.iload_n 1, 1) := dk_27 (dk_at dksX5_undo_4 15 rfl rfl)
theorem dX5_undo_110 : decode cX5_undo 110 = .ok (.bipush 12, 2) := dk_16 12 (dk_at dksX5_undo_4 16 rfl rfl)
theorem dX5_undo_112 : decode cX5_undo 112 = .ok (.iadd, 1) := dk_96 (dk_at dksX5_undo_4 18 rfl rfl)
theorem dX5_undo_113 : decode cX5_undo 113 = .ok (.iaload, 1) := dk_46 (dk_at dksX5_undo_4 19 rfl rfl)
theorem dX5_undo_114 : decode cX5_undo 114 = .ok (.iastore, 1) := dk_79 (dk_at dksX5_undo_4 20 rfl rfl)
theorem dX5_undo_115 : decode cX5_undo 115 = .ok (.aload_n 0, 1) := dk_42 (dk_at dksX5_undo_4 21 rfl rfl)
theorem dX5_undo_116 : decode cX5_undo 116 = .ok (.getfield 7, 3) := dk_180 0 7 (dk_at dksX5_undo_5 0 rfl rfl)
theorem dX5_undo_119 : decode cX5_undo 119 = .ok (.iconst 3, 1) := dk_6 (dk_at dksX5_undo_5 3 rfl rfl)
theorem dX5_undo_120 : decode cX5_undo 120 = .ok (.aload_n 0, 1) := dk_42 (dk_at dksX5_undo_5 4 rfl rfl)
theorem dX5_undo_121 : decode cX5_undo 121 = .ok (.getfield 7, 3) := dk_180 0 7 (dk_at dksX5_undo_5 5 rfl rfl)
theorem dX5_undo_124 : decode cX5_undo 124 = .ok (.iload_n 1, 1) := dk_27 (dk_at dksX5_undo_5 8 rfl rfl)
theorem dX5_undo_125 : decode cX5_undo 125 = .ok (.bipush 13, 2) := dk_16 13 (dk_at dksX5_undo_5 9 rfl rfl)
theorem dX5_undo_127 : decode cX5_undo 127 = .ok (.iadd, 1) := dk_96 (dk_at dksX5_undo_5 11 rfl rfl)
theorem dX5_undo_128 : decode cX5_undo 128 = .ok (.iaload, 1) := dk_46 (dk_at dksX5_undo_5 12 rfl rfl)
theorem dX5_undo_129 : decode cX5_undo 129 = .ok (.iastore, 1) := dk_79 (dk_at dksX5_undo_5 13 rfl rfl)
theorem dX5_undo_130 : decode cX5_undo 130 = .ok (.aload_n 0, 1) := dk_42 (dk_at dksX5_undo_5 14 rfl rfl)
theorem dX5_undo_131 : decode cX5_undo 131 = .ok (.getfield 7, 3) := dk_180 0 7 (dk_at dksX5_undo_5 15 rfl rfl)
theorem dX5_undo_134 : decode cX5_undo 134 = .ok (.iconst 4, 1) := dk_7 (dk_at dksX5_undo_5 18 rfl rfl)
theorem dX5_undo_135 : decode cX5_undo 135 = .ok (.aload_n 0, 1) := dk_42 (dk_at dksX5_undo_5 19 rfl rfl)
theorem dX5_undo_136 : decode cX5_undo 136 = .ok (.getfield 7, 3) := dk_180 0 7 (dk_at dksX5_undo_5 20 rfl rfl)
theorem dX5_undo_139 : decode cX5_undo 139 = .ok (.iload_n 1, 1) := dk_27 (dk_at dksX5_undo_5 23 rfl rfl)
theorem dX5_undo_140 : decode cX5_undo 140 = .ok (.bipush 14, 2) := dk_16 14 (dk_at dksX5_undo_6 0 rfl rfl)
theorem dX5_undo_142 : decode cX5_undo 142 = .ok (.iadd, 1) := dk_96 (dk_at dksX5_undo_6 2 rfl rfl)
theorem dX5_undo_143 : decode cX5_undo 143 = .ok (.iaload, 1) := dk_46 (dk_at dksX5_undo_6 3 rfl rfl)
theorem dX5_undo_144 : decode cX5_undo 144 = .ok (.iastore, 1) := dk_79 (dk_at dksX5_undo_6 4 rfl rfl)
theorem dX5_undo_145 : decode cX5_undo 145 = .ok (.iconst 0, 1) := dk_3 (dk_at dksX5_undo_6 5 rfl rfl)
theorem dX5_undo_146 : decode cX5_undo 146 = .ok (.istore_n 2, 1) := dk_61 (dk_at dksX5_undo_6 6 rfl rfl)
theorem dX5_undo_147 : decode cX5_undo 147 = .ok (.iload_n 2, 1) := dk_28 (dk_at dksX5_undo_6 7 rfl rfl)
theorem dX5_undo_148 : decode cX5_undo 148 = .ok (.bipush 36, 2) := dk_16 36 (dk_at dksX5_undo_6 8 rfl rfl)
theorem dX5_undo_150 : decode cX5_undo 150 = .ok (.if_icmp .ge 29, 3) := dk_162 0 29 (dk_at dksX5_undo_6 10 rfl rfl)
theorem dX5_undo_153 : decode cX5_undo 153 = .ok (.aload_n 0, 1) := dk_42 (dk_at dksX5_undo_6 13 rfl rfl)
theorem dX5_undo_154 : decode cX5_undo 154 = .ok (.getfield 7, 3) := dk_180 0 7 (dk_at dksX5_undo_6 14 rfl rfl)
theorem dX5_undo_157 : decode cX5_undo 157 = .ok (.bipush 61, 2) := dk_16 61 (dk_at dksX5_undo_6 17 rfl rfl)
theorem dX5_undo_159 : decode cX5_undo 159 = .ok (.iload_n 2, 1) := dk_28 (dk_at dksX5_undo_6 19 rfl rfl)
theorem dX5_undo_160 : decode cX5_undo 160 = .ok (.iadd, 1) := dk_96 (dk_at dksX5_undo_6 20 rfl rfl)
theorem dX5_undo_161 : decode cX5_undo 161 = .ok (.aload_n 0, 1) := dk_42 (dk_at dksX5_undo_6 21 rfl rfl)
theorem dX5_undo_162 : decode cX5_undo 162 = .ok (.getfield 7, 3) := dk_180 0 7 (dk_at dksX5_undo_7 0 rfl rfl)
theorem dX5_undo_165 : decode cX5_undo 165 = .ok (.iload_n 1, 1) := dk_27 (dk_at dksX5_undo_7 3 rfl rfl)
theorem dX5_undo_166 : decode cX5_undo 166 = .ok (.bipush 15, 2) := dk_16 15 (dk_at dksX5_undo_7 4 rfl rfl)
theorem dX5_undo_168 : decode cX5_undo 168 = .ok (.iadd, 1) := dk_96 (dk_at dksX5_undo_7 6 rfl rfl)
theorem dX5_undo_169 : decode cX5_undo 169 = .ok (.iload_n 2, 1) := dk_28 (dk_at dksX5_undo_7 7 rfl rfl)
theorem dX5_undo_170 : decode cX5_undo 170 = .ok (.iadd, 1) := dk_96 (dk_at dksX5_undo_7 8 rfl rfl)
theorem dX5_undo_171 : decode cX5_undo 171 = .ok (.iaload, 1) := dk_46 (dk_at dksX5_undo_7 9 rfl rfl)
theorem dX5_undo_172 : decode cX5_undo 172 = .ok (.iastore, 1) := dk_79 (dk_at dksX5_undo_7 10 rfl rfl)
theorem dX5_undo_173 : decode cX5_undo 173 = .ok (.iinc 2 1, 3) := dk_132 2 1 (dk_at dksX5_undo_7 11 rfl rfl)
theorem dX5_undo_176 : decode cX5_undo 176 = .ok (.goto (-29), 3) := dk_167 255 227 (dk_at dksX5_undo_7 14 rfl rfl)
theorem dX5_undo_179 : decode cX5_undo 179 = .ok (.aload_n 0, 1) := dk_42 (dk_at dksX5_undo_7 17 rfl rfl)
theorem dX5_undo_180 : decode cX5_undo 180 = .ok (.getfield 7, 3) := dk_180 0 7 (dk_at dksX5_undo_7 18 rfl rfl)
theorem dX5_undo_183 : decode cX5_undo 183 = .ok (.iconst 3, 1) := dk_6 (dk_at dksX5_undo_7 21 rfl rfl)
theorem dX5_undo_184 : decode cX5_undo 184 = .ok (.iaload, 1) := dk_46 (dk_at dksX5_undo_7 22 rfl rfl)
theorem dX5_undo_185 : decode cX5_undo 185 = .ok (.ireturn, 1) := dk_172 (dk_at dksX5_undo_7 23 rfl rfl)
abbrev cX5_of : ByteArray := prog_14_method_39_code
def yX5_of : MethodName := ⟨RX5, "of", "(II)I"⟩
def dkwX5_of_5 : List UInt8 := [172]
abbrev dktX5_of_5 : List UInt8 := dkwX5_of_5 ++ []
def dkwX5_of_4 : List UInt8 := [184, 0, 128, 172, 42, 27, 7, 182, 0, 117, 172, 42, 27, 8, 182, 0, 117, 172, 42, 27, 28, 182, 0, 117]
abbrev dktX5_of_4 : List UInt8 := dkwX5_of_4 ++ dktX5_of_5
def dkwX5_of_3 : List UInt8 := [42, 27, 42, 180, 0, 7, 5, 46, 182, 0, 142, 172, 42, 27, 3, 182, 0, 117, 42, 27, 5, 182, 0, 117]
abbrev dktX5_of_3 : List UInt8 := dkwX5_of_3 ++ dktX5_of_4
def dkwX5_of_2 : List UInt8 := [170, 0, 0, 0, 0, 0, 0, 74, 0, 0, 0, 4, 0, 0, 0, 7, 0, 0, 0, 32, 0, 0, 0, 44, 0, 0, 0, 60, 0, 0, 0, 67]
abbrev dktX5_of_2 : List UInt8 := dkwX5_of_2 ++ dktX5_of_3
def dkwX5_of_1 : List UInt8 := [182, 0, 89, 172, 28]
abbrev dktX5_of_1 : List UInt8 := dkwX5_of_1 ++ dktX5_of_2
def dkwX5_of_0 : List UInt8 := [42, 27, 182, 0, 112, 153, 0, 15, 28, 133, 9, 20, 0, 167, 184, 0, 64, 154, 0, 10, 42, 16, 246]
abbrev dktX5_of_0 : List UInt8 := dkwX5_of_0 ++ dktX5_of_1
theorem dksX5_of_0 : cX5_of.data.toList.drop 0 = dktX5_of_0 := by decide +kernel
theorem dksX5_of_1 : cX5_of.data.toList.drop 23 = dktX5_of_1 := dk_seg dksX5_of_0 23 rfl rfl
theorem dksX5_of_2 : cX5_of.data.toList.drop 28 = dktX5_of_2 := dk_seg dksX5_of_1 5 rfl rfl
theorem dksX5_of_3 : cX5_of.data.toList.drop 60 = dktX5_of_3 := dk_seg dksX5_of_2 32 rfl rfl
theorem dksX5_of_4 : cX5_of.data.toList.drop 84 = dktX5_of_4 := dk_seg dksX5_of_3 24 rfl rfl
theorem dksX5_of_5 : cX5_of.data.toList.drop 108 = dktX5_of_5 := dk_seg dksX5_of_4 24 rfl rfl
theorem dX5_of_0 : decode cX5_of 0 = .ok (.aload_n 0, 1) := dk_42 (dk_at dksX5_of_0 0 rfl rfl)
theorem dX5_of_1 : decode cX5_of 1 = .ok (.iload_n 1, 1) := dk_27 (dk_at dksX5_of_0 1 rfl rfl)
theorem dX5_of_2 : decode cX5_of 2 = .ok (.invokevirtual 112, 3) := dk_182 0 112 (dk_at dksX5_of_0 2 rfl rfl)
theorem dX5_of_5 : decode cX5_of 5 = .ok (.ifCond .eq 15, 3) := dk_153 0 15 (dk_at dksX5_of_0 5 rfl rfl)
theorem dX5_of_8 : decode cX5_of 8 = .ok (.iload_n 2, 1) := dk_28 (dk_at dksX5_of_0 8 rfl rfl)
theorem dX5_of_9 : decode cX5_of 9 = .ok (.i2l, 1) := dk_133 (dk_at dksX5_of_0 9 rfl rfl)
theorem dX5_of_10 : decode cX5_of 10 = .ok (.lconst 0, 1) := dk_9 (dk_at dksX5_of_0 10 rfl rfl)
theorem dX5_of_11 : decode cX5_of 11 = .ok (.ldc2_w 167, 3) := dk_20 0 167 (dk_at dksX5_of_0 11 rfl rfl)
theorem dX5_of_14 : decode cX5_of 14 = .ok (.invokestatic 64, 3) := dk_184 0 64 (dk_at dksX5_of_0 14 rfl rfl)
theorem dX5_of_17 : decode cX5_of 17 = .ok (.ifCond .ne 10, 3) := dk_154 0 10 (dk_at dksX5_of_0 17 rfl rfl)
theorem dX5_of_20 : decode cX5_of 20 = .ok (.aload_n 0, 1) := dk_42 (dk_at dksX5_of_0 20 rfl rfl)
theorem dX5_of_21 : decode cX5_of 21 = .ok (.bipush (-10), 2) := dk_16 246 (dk_at dksX5_of_0 21 rfl rfl)
theorem dX5_of_23 : decode cX5_of 23 = .ok (.invokevirtual 89, 3) := dk_182 0 89 (dk_at dksX5_of_1 0 rfl rfl)
theorem dX5_of_26 : decode cX5_of 26 = .ok (.ireturn, 1) := dk_172 (dk_at dksX5_of_1 3 rfl rfl)
theorem dX5_of_27 : decode cX5_of 27 = .ok (.iload_n 2, 1) := dk_28 (dk_at dksX5_of_1 4 rfl rfl)
theorem dX5_of_28 : decode cX5_of 28 = .ok (.tableswitch 74 4 7 #[32, 44, 60, 67], 32) := by decide +kernel
theorem dX5_of_60 : decode cX5_of 60 = .ok (.aload_n 0, 1) := dk_42 (dk_at dksX5_of_3 0 rfl rfl)
theorem dX5_of_61 : decode cX5_of 61 = .ok (.iload_n 1, 1) := dk_27 (dk_at dksX5_of_3 1 rfl rfl)
theorem dX5_of_62 : decode cX5_of 62 = .ok (.aload_n 0, 1) := dk_42 (dk_at dksX5_of_3 2 rfl rfl)
theorem dX5_of_63 : decode cX5_of 63 = .ok (.getfield 7, 3) := dk_180 0 7 (dk_at dksX5_of_3 3 rfl rfl)
theorem dX5_of_66 : decode cX5_of 66 = .ok (.iconst 2, 1) := dk_5 (dk_at dksX5_of_3 6 rfl rfl)
theorem dX5_of_67 : decode cX5_of 67 = .ok (.iaload, 1) := dk_46 (dk_at dksX5_of_3 7 rfl rfl)
theorem dX5_of_68 : decode cX5_of 68 = .ok (.invokevirtual 142, 3) := dk_182 0 142 (dk_at dksX5_of_3 8 rfl rfl)
theorem dX5_of_71 : decode cX5_of 71 = .ok (.ireturn, 1) := dk_172 (dk_at dksX5_of_3 11 rfl rfl)
theorem dX5_of_72 : decode cX5_of 72 = .ok (.aload_n 0, 1) := dk_42 (dk_at dksX5_of_3 12 rfl rfl)
theorem dX5_of_73 : decode cX5_of 73 = .ok (.iload_n 1, 1) := dk_27 (dk_at dksX5_of_3 13 rfl rfl)
theorem dX5_of_74 : decode cX5_of 74 = .ok (.iconst 0, 1) := dk_3 (dk_at dksX5_of_3 14 rfl rfl)
theorem dX5_of_75 : decode cX5_of 75 = .ok (.invokevirtual 117, 3) := dk_182 0 117 (dk_at dksX5_of_3 15 rfl rfl)
theorem dX5_of_78 : decode cX5_of 78 = .ok (.aload_n 0, 1) := dk_42 (dk_at dksX5_of_3 18 rfl rfl)
theorem dX5_of_79 : decode cX5_of 79 = .ok (.iload_n 1, 1) := dk_27 (dk_at dksX5_of_3 19 rfl rfl)
theorem dX5_of_80 : decode cX5_of 80 = .ok (.iconst 2, 1) := dk_5 (dk_at dksX5_of_3 20 rfl rfl)
theorem dX5_of_81 : decode cX5_of 81 = .ok (.invokevirtual 117, 3) := dk_182 0 117 (dk_at dksX5_of_3 21 rfl rfl)
theorem dX5_of_84 : decode cX5_of 84 = .ok (.invokestatic 128, 3) := dk_184 0 128 (dk_at dksX5_of_4 0 rfl rfl)
theorem dX5_of_87 : decode cX5_of 87 = .ok (.ireturn, 1) := dk_172 (dk_at dksX5_of_4 3 rfl rfl)
theorem dX5_of_88 : decode cX5_of 88 = .ok (.aload_n 0, 1) := dk_42 (dk_at dksX5_of_4 4 rfl rfl)
theorem dX5_of_89 : decode cX5_of 89 = .ok (.iload_n 1, 1) := dk_27 (dk_at dksX5_of_4 5 rfl rfl)
theorem dX5_of_90 : decode cX5_of 90 = .ok (.iconst 4, 1) := dk_7 (dk_at dksX5_of_4 6 rfl rfl)
theorem dX5_of_91 : decode cX5_of 91 = .ok (.invokevirtual 117, 3) := dk_182 0 117 (dk_at dksX5_of_4 7 rfl rfl)
theorem dX5_of_94 : decode cX5_of 94 = .ok (.ireturn, 1) := dk_172 (dk_at dksX5_of_4 10 rfl rfl)
theorem dX5_of_95 : decode cX5_of 95 = .ok (.aload_n 0, 1) := dk_42 (dk_at dksX5_of_4 11 rfl rfl)
theorem dX5_of_96 : decode cX5_of 96 = .ok (.iload_n 1, 1) := dk_27 (dk_at dksX5_of_4 12 rfl rfl)
theorem dX5_of_97 : decode cX5_of 97 = .ok (.iconst 5, 1) := dk_8 (dk_at dksX5_of_4 13 rfl rfl)
theorem dX5_of_98 : decode cX5_of 98 = .ok (.invokevirtual 117, 3) := dk_182 0 117 (dk_at dksX5_of_4 14 rfl rfl)
theorem dX5_of_101 : decode cX5_of 101 = .ok (.ireturn, 1) := dk_172 (dk_at dksX5_of_4 17 rfl rfl)
theorem dX5_of_102 : decode cX5_of 102 = .ok (.aload_n 0, 1) := dk_42 (dk_at dksX5_of_4 18 rfl rfl)
theorem dX5_of_103 : decode cX5_of 103 = .ok (.iload_n 1, 1) := dk_27 (dk_at dksX5_of_4 19 rfl rfl)
theorem dX5_of_104 : decode cX5_of 104 = .ok (.iload_n 2, 1) := dk_28 (dk_at dksX5_of_4 20 rfl rfl)
theorem dX5_of_105 : decode cX5_of 105 = .ok (.invokevirtual 117, 3) := dk_182 0 117 (dk_at dksX5_of_4 21 rfl rfl)
theorem dX5_of_108 : decode cX5_of 108 = .ok (.ireturn, 1) := dk_172 (dk_at dksX5_of_5 0 rfl rfl)
abbrev cX5_showsIn : ByteArray := prog_14_method_28_code
def yX5_showsIn : MethodName := ⟨RX5, "showsIn", "(II)I"⟩
def dkwX5_showsIn_0 : List UInt8 := [42, 27, 3, 182, 0, 117, 42, 27, 6, 182, 0, 117, 28, 184, 0, 124, 172]
abbrev dktX5_showsIn_0 : List UInt8 := dkwX5_showsIn_0 ++ []
theorem dksX5_showsIn_0 : cX5_showsIn.data.toList.drop 0 = dktX5_showsIn_0 := by decide +kernel
theorem dX5_showsIn_0 : decode cX5_showsIn 0 = .ok (.aload_n 0, 1) := dk_42 (dk_at dksX5_showsIn_0 0 rfl rfl)
theorem dX5_showsIn_1 : decode cX5_showsIn 1 = .ok (.iload_n 1, 1) := dk_27 (dk_at dksX5_showsIn_0 1 rfl rfl)
theorem dX5_showsIn_2 : decode cX5_showsIn 2 = .ok (.iconst 0, 1) := dk_3 (dk_at dksX5_showsIn_0 2 rfl rfl)
theorem dX5_showsIn_3 : decode cX5_showsIn 3 = .ok (.invokevirtual 117, 3) := dk_182 0 117 (dk_at dksX5_showsIn_0 3 rfl rfl)
theorem dX5_showsIn_6 : decode cX5_showsIn 6 = .ok (.aload_n 0, 1) := dk_42 (dk_at dksX5_showsIn_0 6 rfl rfl)
theorem dX5_showsIn_7 : decode cX5_showsIn 7 = .ok (.iload_n 1, 1) := dk_27 (dk_at dksX5_showsIn_0 7 rfl rfl)
theorem dX5_showsIn_8 : decode cX5_showsIn 8 = .ok (.iconst 3, 1) := dk_6 (dk_at dksX5_showsIn_0 8 rfl rfl)
theorem dX5_showsIn_9 : decode cX5_showsIn 9 = .ok (.invokevirtual 117, 3) := dk_182 0 117 (dk_at dksX5_showsIn_0 9 rfl rfl)
theorem dX5_showsIn_12 : decode cX5_showsIn 12 = .ok (.iload_n 2, 1) := dk_28 (dk_at dksX5_showsIn_0 12 rfl rfl)
theorem dX5_showsIn_13 : decode cX5_showsIn 13 = .ok (.invokestatic 124, 3) := dk_184 0 124 (dk_at dksX5_showsIn_0 13 rfl rfl)
theorem dX5_showsIn_16 : decode cX5_showsIn 16 = .ok (.ireturn, 1) := dk_172 (dk_at dksX5_showsIn_0 16 rfl rfl)
abbrev cX5_weatherOf : ByteArray := prog_14_method_26_code
def yX5_weatherOf : MethodName := ⟨RX5, "weatherOf", "(III)I"⟩
def dkwX5_weatherOf_4 : List UInt8 := [172]
abbrev dktX5_weatherOf_4 : List UInt8 := dkwX5_weatherOf_4 ++ []
def dkwX5_weatherOf_3 : List UInt8 := [184, 0, 121, 172, 27, 172, 28, 5, 112, 4, 160, 0, 7, 8, 167, 0, 4, 27, 172, 27, 28, 184, 0, 121]
abbrev dktX5_weatherOf_3 : List UInt8 := dkwX5_weatherOf_3 ++ dktX5_weatherOf_4
def dkwX5_weatherOf_2 : List UInt8 := [27, 5, 28, 104, 96, 16, 6, 112, 172, 27, 28, 184, 0, 121, 4, 160, 0, 7, 3, 167, 0, 8, 27, 28]
abbrev dktX5_weatherOf_2 : List UInt8 := dkwX5_weatherOf_2 ++ dktX5_weatherOf_3
def dkwX5_weatherOf_1 : List UInt8 := [170, 0, 0, 0, 0, 0, 78, 0, 0, 0, 1, 0, 0, 0, 5, 0, 0, 0, 35, 0, 0, 0, 44, 0, 0, 0, 63, 0, 0, 0, 78, 0, 0, 0, 65]
abbrev dktX5_weatherOf_1 : List UInt8 := dkwX5_weatherOf_1 ++ dktX5_weatherOf_2
def dkwX5_weatherOf_0 : List UInt8 := [26]
abbrev dktX5_weatherOf_0 : List UInt8 := dkwX5_weatherOf_0 ++ dktX5_weatherOf_1
theorem dksX5_weatherOf_0 : cX5_weatherOf.data.toList.drop 0 = dktX5_weatherOf_0 := by decide +kernel
theorem dksX5_weatherOf_1 : cX5_weatherOf.data.toList.drop 1 = dktX5_weatherOf_1 := dk_seg dksX5_weatherOf_0 1 rfl rfl
theorem dksX5_weatherOf_2 : cX5_weatherOf.data.toList.drop 36 = dktX5_weatherOf_2 := dk_seg dksX5_weatherOf_1 35 rfl rfl
theorem dksX5_weatherOf_3 : cX5_weatherOf.data.toList.drop 60 = dktX5_weatherOf_3 := dk_seg dksX5_weatherOf_2 24 rfl rfl
theorem dksX5_weatherOf_4 : cX5_weatherOf.data.toList.drop 84 = dktX5_weatherOf_4 := dk_seg dksX5_weatherOf_3 24 rfl rfl
theorem dX5_weatherOf_0 : decode cX5_weatherOf 0 = .ok (.iload_n 0, 1) := dk_26 (dk_at dksX5_weatherOf_0 0 rfl rfl)
theorem dX5_weatherOf_1 : decode cX5_weatherOf 1 = .ok (.tableswitch 78 1 5 #[35, 44, 63, 78, 65], 35) := by decide +kernel
theorem dX5_weatherOf_36 : decode cX5_weatherOf 36 = .ok (.iload_n 1, 1) := dk_27 (dk_at dksX5_weatherOf_2 0 rfl rfl)
theorem dX5_weatherOf_37 : decode cX5_weatherOf 37 = .ok (.iconst 2, 1) := dk_5 (dk_at dksX5_weatherOf_2 1 rfl rfl)
theorem dX5_weatherOf_38 : decode cX5_weatherOf 38 = .ok (.iload_n 2, 1) := dk_28 (dk_at dksX5_weatherOf_2 2 rfl rfl)
theorem dX5_weatherOf_39 : decode cX5_weatherOf 39 = .ok (.imul, 1) := dk_104 (dk_at dksX5_weatherOf_2 3 rfl rfl)
theorem dX5_weatherOf_40 : decode cX5_weatherOf 40 = .ok (.iadd, 1) := dk_96 (dk_at dksX5_weatherOf_2 4 rfl rfl)
theorem dX5_weatherOf_41 : decode cX5_weatherOf 41 = .ok (.bipush 6, 2) := dk_16 6 (dk_at dksX5_weatherOf_2 5 rfl rfl)
theorem dX5_weatherOf_43 : decode cX5_weatherOf 43 = .ok (.irem, 1) := dk_112 (dk_at dksX5_weatherOf_2 7 rfl rfl)
theorem dX5_weatherOf_44 : decode cX5_weatherOf 44 = .ok (.ireturn, 1) := dk_172 (dk_at dksX5_weatherOf_2 8 rfl rfl)
theorem dX5_weatherOf_45 : decode cX5_weatherOf 45 = .ok (.iload_n 1, 1) := dk_27 (dk_at dksX5_weatherOf_2 9 rfl rfl)
theorem dX5_weatherOf_46 : decode cX5_weatherOf 46 = .ok (.iload_n 2, 1) := dk_28 (dk_at dksX5_weatherOf_2 10 rfl rfl)
theorem dX5_weatherOf_47 : decode cX5_weatherOf 47 = .ok (.invokestatic 121, 3) := dk_184 0 121 (dk_at dksX5_weatherOf_2 11 rfl rfl)
theorem dX5_weatherOf_50 : decode cX5_weatherOf 50 = .ok (.iconst 1, 1) := dk_4 (dk_at dksX5_weatherOf_2 14 rfl rfl)
theorem dX5_weatherOf_51 : decode cX5_weatherOf 51 = .ok (.if_icmp .ne 7, 3) := dk_160 0 7 (dk_at dksX5_weatherOf_2 15 rfl rfl)
theorem dX5_weatherOf_54 : decode cX5_weatherOf 54 = .ok (.iconst 0, 1) := dk_3 (dk_at dksX5_weatherOf_2 18 rfl rfl)
theorem dX5_weatherOf_55 : decode cX5_weatherOf 55 = .ok (.goto 8, 3) := dk_167 0 8 (dk_at dksX5_weatherOf_2 19 rfl rfl)
theorem dX5_weatherOf_58 : decode cX5_weatherOf 58 = .ok (.iload_n 1, 1) := dk_27 (dk_at dksX5_weatherOf_2 22 rfl rfl)
theorem dX5_weatherOf_59 : decode cX5_weatherOf 59 = .ok (.iload_n 2, 1) := dk_28 (dk_at dksX5_weatherOf_2 23 rfl rfl)
theorem dX5_weatherOf_60 : decode cX5_weatherOf 60 = .ok (.invokestatic 121, 3) := dk_184 0 121 (dk_at dksX5_weatherOf_3 0 rfl rfl)
theorem dX5_weatherOf_63 : decode cX5_weatherOf 63 = .ok (.ireturn, 1) := dk_172 (dk_at dksX5_weatherOf_3 3 rfl rfl)
theorem dX5_weatherOf_64 : decode cX5_weatherOf 64 = .ok (.iload_n 1, 1) := dk_27 (dk_at dksX5_weatherOf_3 4 rfl rfl)
theorem dX5_weatherOf_65 : decode cX5_weatherOf 65 = .ok (.ireturn, 1) := dk_172 (dk_at dksX5_weatherOf_3 5 rfl rfl)
theorem dX5_weatherOf_66 : decode cX5_weatherOf 66 = .ok (.iload_n 2, 1) := dk_28 (dk_at dksX5_weatherOf_3 6 rfl rfl)
theorem dX5_weatherOf_67 : decode cX5_weatherOf 67 = .ok (.iconst 2, 1) := dk_5 (dk_at dksX5_weatherOf_3 7 rfl rfl)
theorem dX5_weatherOf_68 : decode cX5_weatherOf 68 = .ok (.irem, 1) := dk_112 (dk_at dksX5_weatherOf_3 8 rfl rfl)
theorem dX5_weatherOf_69 : decode cX5_weatherOf 69 = .ok (.iconst 1, 1) := dk_4 (dk_at dksX5_weatherOf_3 9 rfl rfl)
theorem dX5_weatherOf_70 : decode cX5_weatherOf 70 = .ok (.if_icmp .ne 7, 3) := dk_160 0 7 (dk_at dksX5_weatherOf_3 10 rfl rfl)
theorem dX5_weatherOf_73 : decode cX5_weatherOf 73 = .ok (.iconst 5, 1) := dk_8 (dk_at dksX5_weatherOf_3 13 rfl rfl)
theorem dX5_weatherOf_74 : decode cX5_weatherOf 74 = .ok (.goto 4, 3) := dk_167 0 4 (dk_at dksX5_weatherOf_3 14 rfl rfl)
theorem dX5_weatherOf_77 : decode cX5_weatherOf 77 = .ok (.iload_n 1, 1) := dk_27 (dk_at dksX5_weatherOf_3 17 rfl rfl)
theorem dX5_weatherOf_78 : decode cX5_weatherOf 78 = .ok (.ireturn, 1) := dk_172 (dk_at dksX5_weatherOf_3 18 rfl rfl)
theorem dX5_weatherOf_79 : decode cX5_weatherOf 79 = .ok (.iload_n 1, 1) := dk_27 (dk_at dksX5_weatherOf_3 19 rfl rfl)
theorem dX5_weatherOf_80 : decode cX5_weatherOf 80 = .ok (.iload_n 2, 1) := dk_28 (dk_at dksX5_weatherOf_3 20 rfl rfl)
theorem dX5_weatherOf_81 : decode cX5_weatherOf 81 = .ok (.invokestatic 121, 3) := dk_184 0 121 (dk_at dksX5_weatherOf_3 21 rfl rfl)
theorem dX5_weatherOf_84 : decode cX5_weatherOf 84 = .ok (.ireturn, 1) := dk_172 (dk_at dksX5_weatherOf_4 0 rfl rfl)
abbrev cX5_lake : ByteArray := prog_14_method_25_code
def yX5_lake : MethodName := ⟨RX5, "lake", "(II)I"⟩
def dkwX5_lake_0 : List UInt8 := [26, 27, 96, 16, 6, 112, 172]
abbrev dktX5_lake_0 : List UInt8 := dkwX5_lake_0 ++ []
theorem dksX5_lake_0 : cX5_lake.data.toList.drop 0 = dktX5_lake_0 := by decide +kernel
theorem dX5_lake_0 : decode cX5_lake 0 = .ok (.iload_n 0, 1) := dk_26 (dk_at dksX5_lake_0 0 rfl rfl)
theorem dX5_lake_1 : decode cX5_lake 1 = .ok (.iload_n 1, 1) := dk_27 (dk_at dksX5_lake_0 1 rfl rfl)
theorem dX5_lake_2 : decode cX5_lake 2 = .ok (.iadd, 1) := dk_96 (dk_at dksX5_lake_0 2 rfl rfl)
theorem dX5_lake_3 : decode cX5_lake 3 = .ok (.bipush 6, 2) := dk_16 6 (dk_at dksX5_lake_0 3 rfl rfl)
theorem dX5_lake_5 : decode cX5_lake 5 = .ok (.irem, 1) := dk_112 (dk_at dksX5_lake_0 5 rfl rfl)
theorem dX5_lake_6 : decode cX5_lake 6 = .ok (.ireturn, 1) := dk_172 (dk_at dksX5_lake_0 6 rfl rfl)
abbrev cX5_about : ByteArray := prog_14_method_40_code
def yX5_about : MethodName := ⟨RX5, "about", "(II)I"⟩
def dkwX5_about_1 : List UInt8 := [182, 0, 89, 172, 28, 6, 160, 0, 11, 42, 27, 182, 0, 154, 167, 0, 9, 42, 27, 28, 182, 0, 135, 172]
abbrev dktX5_about_1 : List UInt8 := dkwX5_about_1 ++ []
def dkwX5_about_0 : List UInt8 := [42, 27, 182, 0, 148, 153, 0, 15, 28, 133, 9, 20, 0, 169, 184, 0, 64, 154, 0, 10, 42, 16, 246]
abbrev dktX5_about_0 : List UInt8 := dkwX5_about_0 ++ dktX5_about_1
theorem dksX5_about_0 : cX5_about.data.toList.drop 0 = dktX5_about_0 := by decide +kernel
theorem dksX5_about_1 : cX5_about.data.toList.drop 23 = dktX5_about_1 := dk_seg dksX5_about_0 23 rfl rfl
theorem dX5_about_0 : decode cX5_about 0 = .ok (.aload_n 0, 1) := dk_42 (dk_at dksX5_about_0 0 rfl rfl)
theorem dX5_about_1 : decode cX5_about 1 = .ok (.iload_n 1, 1) := dk_27 (dk_at dksX5_about_0 1 rfl rfl)
theorem dX5_about_2 : decode cX5_about 2 = .ok (.invokevirtual 148, 3) := dk_182 0 148 (dk_at dksX5_about_0 2 rfl rfl)
theorem dX5_about_5 : decode cX5_about 5 = .ok (.ifCond .eq 15, 3) := dk_153 0 15 (dk_at dksX5_about_0 5 rfl rfl)
theorem dX5_about_8 : decode cX5_about 8 = .ok (.iload_n 2, 1) := dk_28 (dk_at dksX5_about_0 8 rfl rfl)
theorem dX5_about_9 : decode cX5_about 9 = .ok (.i2l, 1) := dk_133 (dk_at dksX5_about_0 9 rfl rfl)
theorem dX5_about_10 : decode cX5_about 10 = .ok (.lconst 0, 1) := dk_9 (dk_at dksX5_about_0 10 rfl rfl)
theorem dX5_about_11 : decode cX5_about 11 = .ok (.ldc2_w 169, 3) := dk_20 0 169 (dk_at dksX5_about_0 11 rfl rfl)
theorem dX5_about_14 : decode cX5_about 14 = .ok (.invokestatic 64, 3) := dk_184 0 64 (dk_at dksX5_about_0 14 rfl rfl)
theorem dX5_about_17 : decode cX5_about 17 = .ok (.ifCond .ne 10, 3) := dk_154 0 10 (dk_at dksX5_about_0 17 rfl rfl)
theorem dX5_about_20 : decode cX5_about 20 = .ok (.aload_n 0, 1) := dk_42 (dk_at dksX5_about_0 20 rfl rfl)
theorem dX5_about_21 : decode cX5_about 21 = .ok (.bipush (-10), 2) := dk_16 246 (dk_at dksX5_about_0 21 rfl rfl)
theorem dX5_about_23 : decode cX5_about 23 = .ok (.invokevirtual 89, 3) := dk_182 0 89 (dk_at dksX5_about_1 0 rfl rfl)
theorem dX5_about_26 : decode cX5_about 26 = .ok (.ireturn, 1) := dk_172 (dk_at dksX5_about_1 3 rfl rfl)
theorem dX5_about_27 : decode cX5_about 27 = .ok (.iload_n 2, 1) := dk_28 (dk_at dksX5_about_1 4 rfl rfl)
theorem dX5_about_28 : decode cX5_about 28 = .ok (.iconst 3, 1) := dk_6 (dk_at dksX5_about_1 5 rfl rfl)
theorem dX5_about_29 : decode cX5_about 29 = .ok (.if_icmp .ne 11, 3) := dk_160 0 11 (dk_at dksX5_about_1 6 rfl rfl)
theorem dX5_about_32 : decode cX5_about 32 = .ok (.aload_n 0, 1) := dk_42 (dk_at dksX5_about_1 9 rfl rfl)
theorem dX5_about_33 : decode cX5_about 33 = .ok (.iload_n 1, 1) := dk_27 (dk_at dksX5_about_1 10 rfl rfl)
theorem dX5_about_34 : decode cX5_about 34 = .ok (.invokevirtual 154, 3) := dk_182 0 154 (dk_at dksX5_about_1 11 rfl rfl)
theorem dX5_about_37 : decode cX5_about 37 = .ok (.goto 9, 3) := dk_167 0 9 (dk_at dksX5_about_1 14 rfl rfl)
theorem dX5_about_40 : decode cX5_about 40 = .ok (.aload_n 0, 1) := dk_42 (dk_at dksX5_about_1 17 rfl rfl)
theorem dX5_about_41 : decode cX5_about 41 = .ok (.iload_n 1, 1) := dk_27 (dk_at dksX5_about_1 18 rfl rfl)
theorem dX5_about_42 : decode cX5_about 42 = .ok (.iload_n 2, 1) := dk_28 (dk_at dksX5_about_1 19 rfl rfl)
theorem dX5_about_43 : decode cX5_about 43 = .ok (.invokevirtual 135, 3) := dk_182 0 135 (dk_at dksX5_about_1 20 rfl rfl)
theorem dX5_about_46 : decode cX5_about 46 = .ok (.ireturn, 1) := dk_172 (dk_at dksX5_about_1 23 rfl rfl)
abbrev cX5_shows : ByteArray := prog_14_method_41_code
def yX5_shows : MethodName := ⟨RX5, "shows", "(II)I"⟩
def dkwX5_shows_1 : List UInt8 := [42, 16, 254, 182, 0, 89, 172]
abbrev dktX5_shows_1 : List UInt8 := dkwX5_shows_1 ++ []
def dkwX5_shows_0 : List UInt8 := [42, 27, 182, 0, 112, 153, 0, 19, 28, 184, 0, 171, 153, 0, 12, 42, 27, 28, 182, 0, 142, 167, 0, 9]
abbrev dktX5_shows_0 : List UInt8 := dkwX5_shows_0 ++ dktX5_shows_1
theorem dksX5_shows_0 : cX5_shows.data.toList.drop 0 = dktX5_shows_0 := by decide +kernel
theorem dksX5_shows_1 : cX5_shows.data.toList.drop 24 = dktX5_shows_1 := dk_seg dksX5_shows_0 24 rfl rfl
theorem dX5_shows_0 : decode cX5_shows 0 = .ok (.aload_n 0, 1) := dk_42 (dk_at dksX5_shows_0 0 rfl rfl)
theorem dX5_shows_1 : decode cX5_shows 1 = .ok (.iload_n 1, 1) := dk_27 (dk_at dksX5_shows_0 1 rfl rfl)
theorem dX5_shows_2 : decode cX5_shows 2 = .ok (.invokevirtual 112, 3) := dk_182 0 112 (dk_at dksX5_shows_0 2 rfl rfl)
theorem dX5_shows_5 : decode cX5_shows 5 = .ok (.ifCond .eq 19, 3) := dk_153 0 19 (dk_at dksX5_shows_0 5 rfl rfl)
theorem dX5_shows_8 : decode cX5_shows 8 = .ok (.iload_n 2, 1) := dk_28 (dk_at dksX5_shows_0 8 rfl rfl)
theorem dX5_shows_9 : decode cX5_shows 9 = .ok (.invokestatic 171, 3) := dk_184 0 171 (dk_at dksX5_shows_0 9 rfl rfl)
theorem dX5_shows_12 : decode cX5_shows 12 = .ok (.ifCond .eq 12, 3) := dk_153 0 12 (dk_at dksX5_shows_0 12 rfl rfl)
theorem dX5_shows_15 : decode cX5_shows 15 = .ok (.aload_n 0, 1) := dk_42 (dk_at dksX5_shows_0 15 rfl rfl)
theorem dX5_shows_16 : decode cX5_shows 16 = .ok (.iload_n 1, 1) := dk_27 (dk_at dksX5_shows_0 16 rfl rfl)
theorem dX5_shows_17 : decode cX5_shows 17 = .ok (.iload_n 2, 1) := dk_28 (dk_at dksX5_shows_0 17 rfl rfl)
theorem dX5_shows_18 : decode cX5_shows 18 = .ok (.invokevirtual 142, 3) := dk_182 0 142 (dk_at dksX5_shows_0 18 rfl rfl)
theorem dX5_shows_21 : decode cX5_shows 21 = .ok (.goto 9, 3) := dk_167 0 9 (dk_at dksX5_shows_0 21 rfl rfl)
theorem dX5_shows_24 : decode cX5_shows 24 = .ok (.aload_n 0, 1) := dk_42 (dk_at dksX5_shows_1 0 rfl rfl)
theorem dX5_shows_25 : decode cX5_shows 25 = .ok (.bipush (-2), 2) := dk_16 254 (dk_at dksX5_shows_1 1 rfl rfl)
theorem dX5_shows_27 : decode cX5_shows 27 = .ok (.invokevirtual 89, 3) := dk_182 0 89 (dk_at dksX5_shows_1 3 rfl rfl)
theorem dX5_shows_30 : decode cX5_shows 30 = .ok (.ireturn, 1) := dk_172 (dk_at dksX5_shows_1 6 rfl rfl)
abbrev cX5_isEvening : ByteArray := prog_14_method_13_code
def yX5_isEvening : MethodName := ⟨RX5, "isEvening", "(I)Z"⟩
def dkwX5_isEvening_0 : List UInt8 := [26, 133, 9, 20, 0, 71, 184, 0, 64, 172]
abbrev dktX5_isEvening_0 : List UInt8 := dkwX5_isEvening_0 ++ []
theorem dksX5_isEvening_0 : cX5_isEvening.data.toList.drop 0 = dktX5_isEvening_0 := by decide +kernel
theorem dX5_isEvening_0 : decode cX5_isEvening 0 = .ok (.iload_n 0, 1) := dk_26 (dk_at dksX5_isEvening_0 0 rfl rfl)
theorem dX5_isEvening_1 : decode cX5_isEvening 1 = .ok (.i2l, 1) := dk_133 (dk_at dksX5_isEvening_0 1 rfl rfl)
theorem dX5_isEvening_2 : decode cX5_isEvening 2 = .ok (.lconst 0, 1) := dk_9 (dk_at dksX5_isEvening_0 2 rfl rfl)
theorem dX5_isEvening_3 : decode cX5_isEvening 3 = .ok (.ldc2_w 71, 3) := dk_20 0 71 (dk_at dksX5_isEvening_0 3 rfl rfl)
theorem dX5_isEvening_6 : decode cX5_isEvening 6 = .ok (.invokestatic 64, 3) := dk_184 0 64 (dk_at dksX5_isEvening_0 6 rfl rfl)
theorem dX5_isEvening_9 : decode cX5_isEvening 9 = .ok (.ireturn, 1) := dk_172 (dk_at dksX5_isEvening_0 9 rfl rfl)
abbrev cX5_suits : ByteArray := prog_14_method_42_code
def yX5_suits : MethodName := ⟨RX5, "suits", "(III)I"⟩
def dkwX5_suits_2 : List UInt8 := [3, 172]
abbrev dktX5_suits_2 : List UInt8 := dkwX5_suits_2 ++ []
def dkwX5_suits_1 : List UInt8 := [16, 254, 182, 0, 89, 172, 42, 182, 0, 151, 42, 27, 28, 29, 182, 0, 145, 153, 0, 7, 4, 167, 0, 4]
abbrev dktX5_suits_1 : List UInt8 := dkwX5_suits_1 ++ dktX5_suits_2
def dkwX5_suits_0 : List UInt8 := [42, 27, 182, 0, 112, 153, 0, 18, 42, 28, 182, 0, 148, 153, 0, 10, 29, 184, 0, 171, 154, 0, 10, 42]
abbrev dktX5_suits_0 : List UInt8 := dkwX5_suits_0 ++ dktX5_suits_1
theorem dksX5_suits_0 : cX5_suits.data.toList.drop 0 = dktX5_suits_0 := by decide +kernel
theorem dksX5_suits_1 : cX5_suits.data.toList.drop 24 = dktX5_suits_1 := dk_seg dksX5_suits_0 24 rfl rfl
theorem dksX5_suits_2 : cX5_suits.data.toList.drop 48 = dktX5_suits_2 := dk_seg dksX5_suits_1 24 rfl rfl
theorem dX5_suits_0 : decode cX5_suits 0 = .ok (.aload_n 0, 1) := dk_42 (dk_at dksX5_suits_0 0 rfl rfl)
theorem dX5_suits_1 : decode cX5_suits 1 = .ok (.iload_n 1, 1) := dk_27 (dk_at dksX5_suits_0 1 rfl rfl)
theorem dX5_suits_2 : decode cX5_suits 2 = .ok (.invokevirtual 112, 3) := dk_182 0 112 (dk_at dksX5_suits_0 2 rfl rfl)
theorem dX5_suits_5 : decode cX5_suits 5 = .ok (.ifCond .eq 18, 3) := dk_153 0 18 (dk_at dksX5_suits_0 5 rfl rfl)
theorem dX5_suits_8 : decode cX5_suits 8 = .ok (.aload_n 0, 1) := dk_42 (dk_at dksX5_suits_0 8 rfl rfl)
theorem dX5_suits_9 : decode cX5_suits 9 = .ok (.iload_n 2, 1) := dk_28 (dk_at dksX5_suits_0 9 rfl rfl)
theorem dX5_suits_10 : decode cX5_suits 10 = .ok (.invokevirtual 148, 3) := dk_182 0 148 (dk_at dksX5_suits_0 10 rfl rfl)
theorem dX5_suits_13 : decode cX5_suits 13 = .ok (.ifCond .eq 10, 3) := dk_153 0 10 (dk_at dksX5_suits_0 13 rfl rfl)
theorem dX5_suits_16 : decode cX5_suits 16 = .ok (.iload_n 3, 1) := dk_29 (dk_at dksX5_suits_0 16 rfl rfl)
theorem dX5_suits_17 : decode cX5_suits 17 = .ok (.invokestatic 171, 3) := dk_184 0 171 (dk_at dksX5_suits_0 17 rfl rfl)
theorem dX5_suits_20 : decode cX5_suits 20 = .ok (.ifCond .ne 10, 3) := dk_154 0 10 (dk_at dksX5_suits_0 20 rfl rfl)
theorem dX5_suits_23 : decode cX5_suits 23 = .ok (.aload_n 0, 1) := dk_42 (dk_at dksX5_suits_0 23 rfl rfl)
theorem dX5_suits_24 : decode cX5_suits 24 = .ok (.bipush (-2), 2) := dk_16 254 (dk_at dksX5_suits_1 0 rfl rfl)
theorem dX5_suits_26 : decode cX5_suits 26 = .ok (.invokevirtual 89, 3) := dk_182 0 89 (dk_at dksX5_suits_1 2 rfl rfl)
theorem dX5_suits_29 : decode cX5_suits 29 = .ok (.ireturn, 1) := dk_172 (dk_at dksX5_suits_1 5 rfl rfl)
theorem dX5_suits_30 : decode cX5_suits 30 = .ok (.aload_n 0, 1) := dk_42 (dk_at dksX5_suits_1 6 rfl rfl)
theorem dX5_suits_31 : decode cX5_suits 31 = .ok (.invokevirtual 151, 3) := dk_182 0 151 (dk_at dksX5_suits_1 7 rfl rfl)
theorem dX5_suits_34 : decode cX5_suits 34 = .ok (.aload_n 0, 1) := dk_42 (dk_at dksX5_suits_1 10 rfl rfl)
theorem dX5_suits_35 : decode cX5_suits 35 = .ok (.iload_n 1, 1) := dk_27 (dk_at dksX5_suits_1 11 rfl rfl)
theorem dX5_suits_36 : decode cX5_suits 36 = .ok (.iload_n 2, 1) := dk_28 (dk_at dksX5_suits_1 12 rfl rfl)
theorem dX5_suits_37 : decode cX5_suits 37 = .ok (.iload_n 3, 1) := dk_29 (dk_at dksX5_suits_1 13 rfl rfl)
theorem dX5_suits_38 : decode cX5_suits 38 = .ok (.invokevirtual 145, 3) := dk_182 0 145 (dk_at dksX5_suits_1 14 rfl rfl)
theorem dX5_suits_41 : decode cX5_suits 41 = .ok (.ifCond .eq 7, 3) := dk_153 0 7 (dk_at dksX5_suits_1 17 rfl rfl)
theorem dX5_suits_44 : decode cX5_suits 44 = .ok (.iconst 1, 1) := dk_4 (dk_at dksX5_suits_1 20 rfl rfl)
theorem dX5_suits_45 : decode cX5_suits 45 = .ok (.goto 4, 3) := dk_167 0 4 (dk_at dksX5_suits_1 21 rfl rfl)
theorem dX5_suits_48 : decode cX5_suits 48 = .ok (.iconst 0, 1) := dk_3 (dk_at dksX5_suits_2 0 rfl rfl)
theorem dX5_suits_49 : decode cX5_suits 49 = .ok (.ireturn, 1) := dk_172 (dk_at dksX5_suits_2 1 rfl rfl)
abbrev cX5_doesSuit : ByteArray := prog_14_method_31_code
def yX5_doesSuit : MethodName := ⟨RX5, "doesSuit", "(III)Z"⟩
def dkwX5_doesSuit_2 : List UInt8 := [29, 182, 0, 142, 160, 0, 7, 4, 167, 0, 4, 3, 172]
abbrev dktX5_doesSuit_2 : List UInt8 := dkwX5_doesSuit_2 ++ []
def dkwX5_doesSuit_1 : List UInt8 := [28, 46, 163, 0, 33, 42, 180, 0, 36, 28, 46, 16, 6, 159, 0, 18, 42, 180, 0, 36, 28, 46, 42, 27]
abbrev dktX5_doesSuit_1 : List UInt8 := dkwX5_doesSuit_1 ++ dktX5_doesSuit_2
def dkwX5_doesSuit_0 : List UInt8 := [42, 27, 42, 180, 0, 30, 28, 46, 182, 0, 138, 153, 0, 48, 42, 180, 0, 27, 27, 46, 42, 180, 0, 33]
abbrev dktX5_doesSuit_0 : List UInt8 := dkwX5_doesSuit_0 ++ dktX5_doesSuit_1
theorem dksX5_doesSuit_0 : cX5_doesSuit.data.toList.drop 0 = dktX5_doesSuit_0 := by decide +kernel
theorem dksX5_doesSuit_1 : cX5_doesSuit.data.toList.drop 24 = dktX5_doesSuit_1 := dk_seg dksX5_doesSuit_0 24 rfl rfl
theorem dksX5_doesSuit_2 : cX5_doesSuit.data.toList.drop 48 = dktX5_doesSuit_2 := dk_seg dksX5_doesSuit_1 24 rfl rfl
theorem dX5_doesSuit_0 : decode cX5_doesSuit 0 = .ok (.aload_n 0, 1) := dk_42 (dk_at dksX5_doesSuit_0 0 rfl rfl)
theorem dX5_doesSuit_1 : decode cX5_doesSuit 1 = .ok (.iload_n 1, 1) := dk_27 (dk_at dksX5_doesSuit_0 1 rfl rfl)
theorem dX5_doesSuit_2 : decode cX5_doesSuit 2 = .ok (.aload_n 0, 1) := dk_42 (dk_at dksX5_doesSuit_0 2 rfl rfl)
theorem dX5_doesSuit_3 : decode cX5_doesSuit 3 = .ok (.getfield 30, 3) := dk_180 0 30 (dk_at dksX5_doesSuit_0 3 rfl rfl)
theorem dX5_doesSuit_6 : decode cX5_doesSuit 6 = .ok (.iload_n 2, 1) := dk_28 (dk_at dksX5_doesSuit_0 6 rfl rfl)
theorem dX5_doesSuit_7 : decode cX5_doesSuit 7 = .ok (.iaload, 1) := dk_46 (dk_at dksX5_doesSuit_0 7 rfl rfl)
theorem dX5_doesSuit_8 : decode cX5_doesSuit 8 = .ok (.invokevirtual 138, 3) := dk_182 0 138 (dk_at dksX5_doesSuit_0 8 rfl rfl)
theorem dX5_doesSuit_11 : decode cX5_doesSuit 11 = .ok (.ifCond .eq 48, 3) := dk_153 0 48 (dk_at dksX5_doesSuit_0 11 rfl rfl)
theorem dX5_doesSuit_14 : decode cX5_doesSuit 14 = .ok (.aload_n 0, 1) := dk_42 (dk_at dksX5_doesSuit_0 14 rfl rfl)
theorem dX5_doesSuit_15 : decode cX5_doesSuit 15 = .ok (.getfield 27, 3) := dk_180 0 27 (dk_at dksX5_doesSuit_0 15 rfl rfl)
theorem dX5_doesSuit_18 : decode cX5_doesSuit 18 = .ok (.iload_n 1, 1) := dk_27 (dk_at dksX5_doesSuit_0 18 rfl rfl)
theorem dX5_doesSuit_19 : decode cX5_doesSuit 19 = .ok (.iaload, 1) := dk_46 (dk_at dksX5_doesSuit_0 19 rfl rfl)
theorem dX5_doesSuit_20 : decode cX5_doesSuit 20 = .ok (.aload_n 0, 1) := dk_42 (dk_at dksX5_doesSuit_0 20 rfl rfl)
theorem dX5_doesSuit_21 : decode cX5_doesSuit 21 = .ok (.getfield 33, 3) := dk_180 0 33 (dk_at dksX5_doesSuit_0 21 rfl rfl)
theorem dX5_doesSuit_24 : decode cX5_doesSuit 24 = .ok (.iload_n 2, 1) := dk_28 (dk_at dksX5_doesSuit_1 0 rfl rfl)
theorem dX5_doesSuit_25 : decode cX5_doesSuit 25 = .ok (.iaload, 1) := dk_46 (dk_at dksX5_doesSuit_1 1 rfl rfl)
theorem dX5_doesSuit_26 : decode cX5_doesSuit 26 = .ok (.if_icmp .gt 33, 3) := dk_163 0 33 (dk_at dksX5_doesSuit_1 2 rfl rfl)
theorem dX5_doesSuit_29 : decode cX5_doesSuit 29 = .ok (.aload_n 0, 1) := dk_42 (dk_at dksX5_doesSuit_1 5 rfl rfl)
theorem dX5_doesSuit_30 : decode cX5_doesSuit 30 = .ok (.getfield 36, 3) := dk_180 0 36 (dk_at dksX5_doesSuit_1 6 rfl rfl)
theorem dX5_doesSuit_33 : decode cX5_doesSuit 33 = .ok (.iload_n 2, 1) := dk_28 (dk_at dksX5_doesSuit_1 9 rfl rfl)
theorem dX5_doesSuit_34 : decode cX5_doesSuit 34 = .ok (.iaload, 1) := dk_46 (dk_at dksX5_doesSuit_1 10 rfl rfl)
theorem dX5_doesSuit_35 : decode cX5_doesSuit 35 = .ok (.bipush 6, 2) := dk_16 6 (dk_at dksX5_doesSuit_1 11 rfl rfl)
theorem dX5_doesSuit_37 : decode cX5_doesSuit 37 = .ok (.if_icmp .eq 18, 3) := dk_159 0 18 (dk_at dksX5_doesSuit_1 13 rfl rfl)
theorem dX5_doesSuit_40 : decode cX5_doesSuit 40 = .ok (.aload_n 0, 1) := dk_42 (dk_at dksX5_doesSuit_1 16 rfl rfl)
theorem dX5_doesSuit_41 : decode cX5_doesSuit 41 = .ok (.getfield 36, 3) := dk_180 0 36 (dk_at dksX5_doesSuit_1 17 rfl rfl)
theorem dX5_doesSuit_44 : decode cX5_doesSuit 44 = .ok (.iload_n 2, 1) := dk_28 (dk_at dksX5_doesSuit_1 20 rfl rfl)
theorem dX5_doesSuit_45 : decode cX5_doesSuit 45 = .ok (.iaload, 1) := dk_46 (dk_at dksX5_doesSuit_1 21 rfl rfl)
theorem dX5_doesSuit_46 : decode cX5_doesSuit 46 = .ok (.aload_n 0, 1) := dk_42 (dk_at dksX5_doesSuit_1 22 rfl rfl)
theorem dX5_doesSuit_47 : decode cX5_doesSuit 47 = .ok (.iload_n 1, 1) := dk_27 (dk_at dksX5_doesSuit_1 23 rfl rfl)
theorem dX5_doesSuit_48 : decode cX5_doesSuit 48 = .ok (.iload_n 3, 1) := dk_29 (dk_at dksX5_doesSuit_2 0 rfl rfl)
theorem dX5_doesSuit_49 : decode cX5_doesSuit 49 = .ok (.invokevirtual 142, 3) := dk_182 0 142 (dk_at dksX5_doesSuit_2 1 rfl rfl)
theorem dX5_doesSuit_52 : decode cX5_doesSuit 52 = .ok (.if_icmp .ne 7, 3) := dk_160 0 7 (dk_at dksX5_doesSuit_2 4 rfl rfl)
theorem dX5_doesSuit_55 : decode cX5_doesSuit 55 = .ok (.iconst 1, 1) := dk_4 (dk_at dksX5_doesSuit_2 7 rfl rfl)
theorem dX5_doesSuit_56 : decode cX5_doesSuit 56 = .ok (.goto 4, 3) := dk_167 0 4 (dk_at dksX5_doesSuit_2 8 rfl rfl)
theorem dX5_doesSuit_59 : decode cX5_doesSuit 59 = .ok (.iconst 0, 1) := dk_3 (dk_at dksX5_doesSuit_2 11 rfl rfl)
theorem dX5_doesSuit_60 : decode cX5_doesSuit 60 = .ok (.ireturn, 1) := dk_172 (dk_at dksX5_doesSuit_2 12 rfl rfl)
abbrev cX5_best : ByteArray := prog_14_method_47_code
def yX5_best : MethodName := ⟨RX5, "best", "(II)I"⟩
def dkwX5_best_2 : List UInt8 := [42, 180, 0, 174, 167, 0, 9, 42, 180, 0, 45, 28, 46, 172]
abbrev dktX5_best_2 : List UInt8 := dkwX5_best_2 ++ []
def dkwX5_best_1 : List UInt8 := [154, 0, 10, 42, 16, 246, 182, 0, 89, 172, 42, 182, 0, 151, 42, 27, 182, 0, 195, 28, 2, 160, 0, 10]
abbrev dktX5_best_1 : List UInt8 := dkwX5_best_1 ++ dktX5_best_2
def dkwX5_best_0 : List UInt8 := [27, 184, 0, 171, 153, 0, 21, 28, 133, 20, 0, 193, 42, 182, 0, 68, 4, 100, 133, 184, 0, 64]
abbrev dktX5_best_0 : List UInt8 := dkwX5_best_0 ++ dktX5_best_1
theorem dksX5_best_0 : cX5_best.data.toList.drop 0 = dktX5_best_0 := by decide +kernel
theorem dksX5_best_1 : cX5_best.data.toList.drop 22 = dktX5_best_1 := dk_seg dksX5_best_0 22 rfl rfl
theorem dksX5_best_2 : cX5_best.data.toList.drop 46 = dktX5_best_2 := dk_seg dksX5_best_1 24 rfl rfl
theorem dX5_best_0 : decode cX5_best 0 = .ok (.iload_n 1, 1) := dk_27 (dk_at dksX5_best_0 0 rfl rfl)
theorem dX5_best_1 : decode cX5_best 1 = .ok (.invokestatic 171, 3) := dk_184 0 171 (dk_at dksX5_best_0 1 rfl rfl)
theorem dX5_best_4 : decode cX5_best 4 = .ok (.ifCond .eq 21, 3) := dk_153 0 21 (dk_at dksX5_best_0 4 rfl rfl)
theorem dX5_best_7 : decode cX5_best 7 = .ok (.iload_n 2, 1) := dk_28 (dk_at dksX5_best_0 7 rfl rfl)
theorem dX5_best_8 : decode cX5_best 8 = .ok (.i2l, 1) := dk_133 (dk_at dksX5_best_0 8 rfl rfl)
theorem dX5_best_9 : decode cX5_best 9 = .ok (.ldc2_w 193, 3) := dk_20 0 193 (dk_at dksX5_best_0 9 rfl rfl)
theorem dX5_best_12 : decode cX5_best 12 = .ok (.aload_n 0, 1) := dk_42 (dk_at dksX5_best_0 12 rfl rfl)
theorem dX5_best_13 : decode cX5_best 13 = .ok (.invokevirtual 68, 3) := dk_182 0 68 (dk_at dksX5_best_0 13 rfl rfl)
theorem dX5_best_16 : decode cX5_best 16 = .ok (.iconst 1, 1) := dk_4 (dk_at dksX5_best_0 16 rfl rfl)
theorem dX5_best_17 : decode cX5_best 17 = .ok (.isub, 1) := dk_100 (dk_at dksX5_best_0 17 rfl rfl)
theorem dX5_best_18 : decode cX5_best 18 = .ok (.i2l, 1) := dk_133 (dk_at dksX5_best_0 18 rfl rfl)
theorem dX5_best_19 : decode cX5_best 19 = .ok (.invokestatic 64, 3) := dk_184 0 64 (dk_at dksX5_best_0 19 rfl rfl)
theorem dX5_best_22 : decode cX5_best 22 = .ok (.ifCond .ne 10, 3) := dk_154 0 10 (dk_at dksX5_best_1 0 rfl rfl)
theorem dX5_best_25 : decode cX5_best 25 = .ok (.aload_n 0, 1) := dk_42 (dk_at dksX5_best_1 3 rfl rfl)
theorem dX5_best_26 : decode cX5_best 26 = .ok (.bipush (-10), 2) := dk_16 246 (dk_at dksX5_best_1 4 rfl rfl)
theorem dX5_best_28 : decode cX5_best 28 = .ok (.invokevirtual 89, 3) := dk_182 0 89 (dk_at dksX5_best_1 6 rfl rfl)
theorem dX5_best_31 : decode cX5_best 31 = .ok (.ireturn, 1) := dk_172 (dk_at dksX5_best_1 9 rfl rfl)
theorem dX5_best_32 : decode cX5_best 32 = .ok (.aload_n 0, 1) := dk_42 (dk_at dksX5_best_1 10 rfl rfl)
theorem dX5_best_33 : decode cX5_best 33 = .ok (.invokevirtual 151, 3) := dk_182 0 151 (dk_at dksX5_best_1 11 rfl rfl)
theorem dX5_best_36 : decode cX5_best 36 = .ok (.aload_n 0, 1) := dk_42 (dk_at dksX5_best_1 14 rfl rfl)
theorem dX5_best_37 : decode cX5_best 37 = .ok (.iload_n 1, 1) := dk_27 (dk_at dksX5_best_1 15 rfl rfl)
theorem dX5_best_38 : decode cX5_best 38 = .ok (.invokevirtual 195, 3) := dk_182 0 195 (dk_at dksX5_best_1 16 rfl rfl)
theorem dX5_best_41 : decode cX5_best 41 = .ok (.iload_n 2, 1) := dk_28 (dk_at dksX5_best_1 19 rfl rfl)
theorem dX5_best_42 : decode cX5_best 42 = .ok (.iconst (-1), 1) := dk_2 (dk_at dksX5_best_1 20 rfl rfl)
theorem dX5_best_43 : decode cX5_best 43 = .ok (.if_icmp .ne 10, 3) := dk_160 0 10 (dk_at dksX5_best_1 21 rfl rfl)
theorem dX5_best_46 : decode cX5_best 46 = .ok (.aload_n 0, 1) := dk_42 (dk_at dksX5_best_2 0 rfl rfl)
theorem dX5_best_47 : decode cX5_best 47 = .ok (.getfield 174, 3) := dk_180 0 174 (dk_at dksX5_best_2 1 rfl rfl)
theorem dX5_best_50 : decode cX5_best 50 = .ok (.goto 9, 3) := dk_167 0 9 (dk_at dksX5_best_2 4 rfl rfl)
theorem dX5_best_53 : decode cX5_best 53 = .ok (.aload_n 0, 1) := dk_42 (dk_at dksX5_best_2 7 rfl rfl)
theorem dX5_best_54 : decode cX5_best 54 = .ok (.getfield 45, 3) := dk_180 0 45 (dk_at dksX5_best_2 8 rfl rfl)
theorem dX5_best_57 : decode cX5_best 57 = .ok (.iload_n 2, 1) := dk_28 (dk_at dksX5_best_2 11 rfl rfl)
theorem dX5_best_58 : decode cX5_best 58 = .ok (.iaload, 1) := dk_46 (dk_at dksX5_best_2 12 rfl rfl)
theorem dX5_best_59 : decode cX5_best 59 = .ok (.ireturn, 1) := dk_172 (dk_at dksX5_best_2 13 rfl rfl)
abbrev cX5_layBest : ByteArray := prog_14_method_46_code
def yX5_layBest : MethodName := ⟨RX5, "layBest", "(I)V"⟩
def dkwX5_layBest_5 : List UInt8 := [162, 0, 11, 42, 180, 0, 42, 28, 16, 254, 79, 167, 255, 152, 177]
abbrev dktX5_layBest_5 : List UInt8 := dkwX5_layBest_5 ++ []
def dkwX5_layBest_4 : List UInt8 := [160, 0, 14, 29, 2, 159, 0, 9, 132, 2, 255, 167, 0, 22, 132, 2, 1, 28, 42, 180, 0, 131]
abbrev dktX5_layBest_4 : List UInt8 := dkwX5_layBest_4 ++ dktX5_layBest_5
def dkwX5_layBest_3 : List UInt8 := [28, 46, 42, 28, 182, 0, 187, 126, 182, 0, 190, 62, 42, 180, 0, 42, 28, 29, 79, 29, 42, 182, 0, 60]
abbrev dktX5_layBest_3 : List UInt8 := dkwX5_layBest_3 ++ dktX5_layBest_4
def dkwX5_layBest_2 : List UInt8 := [180, 0, 42, 28, 46, 2, 162, 0, 7, 2, 167, 0, 25, 42, 42, 180, 0, 42, 28, 46, 42, 180, 0, 39]
abbrev dktX5_layBest_2 : List UInt8 := dkwX5_layBest_2 ++ dktX5_layBest_3
def dkwX5_layBest_1 : List UInt8 := [79, 28, 155, 0, 106, 28, 42, 180, 0, 131, 160, 0, 13, 42, 182, 0, 184, 132, 2, 255, 167, 255, 237, 42]
abbrev dktX5_layBest_1 : List UInt8 := dkwX5_layBest_1 ++ dktX5_layBest_2
def dkwX5_layBest_0 : List UInt8 := [42, 27, 182, 0, 180, 42, 2, 181, 0, 174, 42, 3, 181, 0, 177, 3, 61, 42, 180, 0, 42, 3, 16, 254]
abbrev dktX5_layBest_0 : List UInt8 := dkwX5_layBest_0 ++ dktX5_layBest_1
theorem dksX5_layBest_0 : cX5_layBest.data.toList.drop 0 = dktX5_layBest_0 := by decide +kernel
theorem dksX5_layBest_1 : cX5_layBest.data.toList.drop 24 = dktX5_layBest_1 := dk_seg dksX5_layBest_0 24 rfl rfl
theorem dksX5_layBest_2 : cX5_layBest.data.toList.drop 48 = dktX5_layBest_2 := dk_seg dksX5_layBest_1 24 rfl rfl
theorem dksX5_layBest_3 : cX5_layBest.data.toList.drop 72 = dktX5_layBest_3 := dk_seg dksX5_layBest_2 24 rfl rfl
theorem dksX5_layBest_4 : cX5_layBest.data.toList.drop 96 = dktX5_layBest_4 := dk_seg dksX5_layBest_3 24 rfl rfl
theorem dksX5_layBest_5 : cX5_layBest.data.toList.drop 118 = dktX5_layBest_5 := dk_seg dksX5_layBest_4 22 rfl rfl
theorem dX5_layBest_0 : decode cX5_layBest 0 = .ok (.aload_n 0, 1) := dk_42 (dk_at dksX5_layBest_0 0 rfl rfl)
theorem dX5_layBest_1 : decode cX5_layBest 1 = .ok (.iload_n 1, 1) := dk_27 (dk_at dksX5_layBest_0 1 rfl rfl)
theorem dX5_layBest_2 : decode cX5_layBest 2 = .ok (.invokevirtual 180, 3) := dk_182 0 180 (dk_at dksX5_layBest_0 2 rfl rfl)
theorem dX5_layBest_5 : decode cX5_layBest 5 = .ok (.aload_n 0, 1) := dk_42 (dk_at dksX5_layBest_0 5 rfl rfl)
theorem dX5_layBest_6 : decode cX5_layBest 6 = .ok (.iconst (-1), 1) := dk_2 (dk_at dksX5_layBest_0 6 rfl rfl)
theorem dX5_layBest_7 : decode cX5_layBest 7 = .ok (.putfield 174, 3) := dk_181 0 174 (dk_at dksX5_layBest_0 7 rfl rfl)
theorem dX5_layBest_10 : decode cX5_layBest 10 = .ok (.aload_n 0, 1) := dk_42 (dk_at dksX5_layBest_0 10 rfl rfl)
theorem dX5_layBest_11 : decode cX5_layBest 11 = .ok (.iconst 0, 1) := dk_3 (dk_at dksX5_layBest_0 11 rfl rfl)
theorem dX5_layBest_12 : decode cX5_layBest 12 = .ok (.putfield 177, 3) := dk_181 0 177 (dk_at dksX5_layBest_0 12 rfl rfl)
theorem dX5_layBest_15 : decode cX5_layBest 15 = .ok (.iconst 0, 1) := dk_3 (dk_at dksX5_layBest_0 15 rfl rfl)
theorem dX5_layBest_16 : decode cX5_layBest 16 = .ok (.istore_n 2, 1) := dk_61 (dk_at dksX5_layBest_0 16 rfl rfl)
theorem dX5_layBest_17 : decode cX5_layBest 17 = .ok (.aload_n 0, 1) := dk_42 (dk_at dksX5_layBest_0 17 rfl rfl)
theorem dX5_layBest_18 : decode cX5_layBest 18 = .ok (.getfield 42, 3) := dk_180 0 42 (dk_at dksX5_layBest_0 18 rfl rfl)
theorem dX5_layBest_21 : decode cX5_layBest 21 = .ok (.iconst 0, 1) := dk_3 (dk_at dksX5_layBest_0 21 rfl rfl)
theorem dX5_layBest_22 : decode cX5_layBest 22 = .ok (.bipush (-2), 2) := dk_16 254 (dk_at dksX5_layBest_0 22 rfl rfl)
theorem dX5_layBest_24 : decode cX5_layBest 24 = .ok (.iastore, 1) := dk_79 (dk_at dksX5_layBest_1 0 rfl rfl)
theorem dX5_layBest_25 : decode cX5_layBest 25 = .ok (.iload_n 2, 1) := dk_28 (dk_at dksX5_layBest_1 1 rfl rfl)
theorem dX5_layBest_26 : decode cX5_layBest 26 = .ok (.ifCond .lt 106, 3) := dk_155 0 106 (dk_at dksX5_layBest_1 2 rfl rfl)
theorem dX5_layBest_29 : decode cX5_layBest 29 = .ok (.iload_n 2, 1) := dk_28 (dk_at dksX5_layBest_1 5 rfl rfl)
theorem dX5_layBest_30 : decode cX5_layBest 30 = .ok (.aload_n 0, 1) := dk_42 (dk_at dksX5_layBest_1 6 rfl rfl)
theorem dX5_layBest_31 : decode cX5_layBest 31 = .ok (.getfield 131, 3) := dk_180 0 131 (dk_at dksX5_layBest_1 7 rfl rfl)
theorem dX5_layBest_34 : decode cX5_layBest 34 = .ok (.if_icmp .ne 13, 3) := dk_160 0 13 (dk_at dksX5_layBest_1 10 rfl rfl)
theorem dX5_layBest_37 : decode cX5_layBest 37 = .ok (.aload_n 0, 1) := dk_42 (dk_at dksX5_layBest_1 13 rfl rfl)
theorem dX5_layBest_38 : decode cX5_layBest 38 = .ok (.invokevirtual 184, 3) := dk_182 0 184 (dk_at dksX5_layBest_1 14 rfl rfl)
theorem dX5_layBest_41 : decode cX5_layBest 41 = .ok (.iinc 2 (-1), 3) := dk_132 2 255 (dk_at dksX5_layBest_1 17 rfl rfl)
theorem dX5_layBest_44 : decode cX5_layBest 44 = .ok (.goto (-19), 3) := dk_167 255 237 (dk_at dksX5_layBest_1 20 rfl rfl)
theorem dX5_layBest_47 : decode cX5_layBest 47 = .ok (.aload_n 0, 1) := dk_42 (dk_at dksX5_layBest_1 23 rfl rfl)
theorem dX5_layBest_48 : decode cX5_layBest 48 = .ok (.getfield 42, 3) := dk_180 0 42 (dk_at dksX5_layBest_2 0 rfl rfl)
theorem dX5_layBest_51 : decode cX5_layBest 51 = .ok (.iload_n 2, 1) := dk_28 (dk_at dksX5_layBest_2 3 rfl rfl)
theorem dX5_layBest_52 : decode cX5_layBest 52 = .ok (.iaload, 1) := dk_46 (dk_at dksX5_layBest_2 4 rfl rfl)
theorem dX5_layBest_53 : decode cX5_layBest 53 = .ok (.iconst (-1), 1) := dk_2 (dk_at dksX5_layBest_2 5 rfl rfl)
theorem dX5_layBest_54 : decode cX5_layBest 54 = .ok (.if_icmp .ge 7, 3) := dk_162 0 7 (dk_at dksX5_layBest_2 6 rfl rfl)
theorem dX5_layBest_57 : decode cX5_layBest 57 = .ok (.iconst (-1), 1) := dk_2 (dk_at dksX5_layBest_2 9 rfl rfl)
theorem dX5_layBest_58 : decode cX5_layBest 58 = .ok (.goto 25, 3) := dk_167 0 25 (dk_at dksX5_layBest_2 10 rfl rfl)
theorem dX5_layBest_61 : decode cX5_layBest 61 = .ok (.aload_n 0, 1) := dk_42 (dk_at dksX5_layBest_2 13 rfl rfl)
theorem dX5_layBest_62 : decode cX5_layBest 62 = .ok (.aload_n 0, 1) := dk_42 (dk_at dksX5_layBest_2 14 rfl rfl)
theorem dX5_layBest_63 : decode cX5_layBest 63 = .ok (.getfield 42, 3) := dk_180 0 42 (dk_at dksX5_layBest_2 15 rfl rfl)
theorem dX5_layBest_66 : decode cX5_layBest 66 = .ok (.iload_n 2, 1) := dk_28 (dk_at dksX5_layBest_2 18 rfl rfl)
theorem dX5_layBest_67 : decode cX5_layBest 67 = .ok (.iaload, 1) := dk_46 (dk_at dksX5_layBest_2 19 rfl rfl)
theorem dX5_layBest_68 : decode cX5_layBest 68 = .ok (.aload_n 0, 1) := dk_42 (dk_at dksX5_layBest_2 20 rfl rfl)
theorem dX5_layBest_69 : decode cX5_layBest 69 = .ok (.getfield 39, 3) := dk_180 0 39 (dk_at dksX5_layBest_2 21 rfl rfl)
theorem dX5_layBest_72 : decode cX5_layBest 72 = .ok (.iload_n 2, 1) := dk_28 (dk_at dksX5_layBest_3 0 rfl rfl)
theorem dX5_layBest_73 : decode cX5_layBest 73 = .ok (.iaload, 1) := dk_46 (dk_at dksX5_layBest_3 1 rfl rfl)
theorem dX5_layBest_74 : decode cX5_layBest 74 = .ok (.aload_n 0, 1) := dk_42 (dk_at dksX5_layBest_3 2 rfl rfl)
theorem dX5_layBest_75 : decode cX5_layBest 75 = .ok (.iload_n 2, 1) := dk_28 (dk_at dksX5_layBest_3 3 rfl rfl)
theorem dX5_layBest_76 : decode cX5_layBest 76 = .ok (.invokevirtual 187, 3) := dk_182 0 187 (dk_at dksX5_layBest_3 4 rfl rfl)
theorem dX5_layBest_79 : decode cX5_layBest 79 = .ok (.iand, 1) := dk_126 (dk_at dksX5_layBest_3 7 rfl rfl)
theorem dX5_layBest_80 : decode cX5_layBest 80 = .ok (.invokevirtual 190, 3) := dk_182 0 190 (dk_at dksX5_layBest_3 8 rfl rfl)
theorem dX5_layBest_83 : decode cX5_layBest 83 = .ok (.istore_n 3, 1) := dk_62 (dk_at dksX5_layBest_3 11 rfl rfl)
theorem dX5_layBest_84 : decode cX5_layBest 84 = .ok (.aload_n 0, 1) := dk_42 (dk_at dksX5_layBest_3 12 rfl rfl)
theorem dX5_layBest_85 : decode cX5_layBest 85 = .ok (.getfield 42, 3) := dk_180 0 42 (dk_at dksX5_layBest_3 13 rfl rfl)
theorem dX5_layBest_88 : decode cX5_layBest 88 = .ok (.iload_n 2, 1) := dk_28 (dk_at dksX5_layBest_3 16 rfl rfl)
theorem dX5_layBest_89 : decode cX5_layBest 89 = .ok (.iload_n 3, 1) := dk_29 (dk_at dksX5_layBest_3 17 rfl rfl)
theorem dX5_layBest_90 : decode cX5_layBest 90 = .ok (.iastore, 1) := dk_79 (dk_at dksX5_layBest_3 18 rfl rfl)
theorem dX5_layBest_91 : decode cX5_layBest 91 = .ok (.iload_n 3, 1) := dk_29 (dk_at dksX5_layBest_3 19 rfl rfl)
theorem dX5_layBest_92 : decode cX5_layBest 92 = .ok (.aload_n 0, 1) := dk_42 (dk_at dksX5_layBest_3 20 rfl rfl)
theorem dX5_layBest_93 : decode cX5_layBest 93 = .ok (.invokevirtual 60, 3) := dk_182 0 60 (dk_at dksX5_layBest_3 21 rfl rfl)
theorem dX5_layBest_96 : decode cX5_layBest 96 = .ok (.if_icmp .ne 14, 3) := dk_160 0 14 (dk_at dksX5_layBest_4 0 rfl rfl)
theorem dX5_layBest_99 : decode cX5_layBest 99 = .ok (.iload_n 3, 1) := dk_29 (dk_at dksX5_layBest_4 3 rfl rfl)
theorem dX5_layBest_100 : decode cX5_layBest 100 = .ok (.iconst (-1), 1) := dk_2 (dk_at dksX5_layBest_4 4 rfl rfl)
theorem dX5_layBest_101 : decode cX5_layBest 101 = .ok (.if_icmp .eq 9, 3) := dk_159 0 9 (dk_at dksX5_layBest_4 5 rfl rfl)
theorem dX5_layBest_104 : decode cX5_layBest 104 = .ok (.iinc 2 (-1), 3) := dk_132 2 255 (dk_at dksX5_layBest_4 8 rfl rfl)
theorem dX5_layBest_107 : decode cX5_layBest 107 = .ok (.goto 22, 3) := dk_167 0 22 (dk_at dksX5_layBest_4 11 rfl rfl)
theorem dX5_layBest_110 : decode cX5_layBest 110 = .ok (.iinc 2 1, 3) := dk_132 2 1 (dk_at dksX5_layBest_4 14 rfl rfl)
theorem dX5_layBest_113 : decode cX5_layBest 113 = .ok (.iload_n 2, 1) := dk_28 (dk_at dksX5_layBest_4 17 rfl rfl)
theorem dX5_layBest_114 : decode cX5_layBest 114 = .ok (.aload_n 0, 1) := dk_42 (dk_at dksX5_layBest_4 18 rfl rfl)
theorem dX5_layBest_115 : decode cX5_layBest 115 = .ok (.getfield 131, 3) := dk_180 0 131 (dk_at dksX5_layBest_4 19 rfl rfl)
theorem dX5_layBest_118 : decode cX5_layBest 118 = .ok (.if_icmp .ge 11, 3) := dk_162 0 11 (dk_at dksX5_layBest_5 0 rfl rfl)
theorem dX5_layBest_121 : decode cX5_layBest 121 = .ok (.aload_n 0, 1) := dk_42 (dk_at dksX5_layBest_5 3 rfl rfl)
theorem dX5_layBest_122 : decode cX5_layBest 122 = .ok (.getfield 42, 3) := dk_180 0 42 (dk_at dksX5_layBest_5 4 rfl rfl)
theorem dX5_layBest_125 : decode cX5_layBest 125 = .ok (.iload_n 2, 1) := dk_28 (dk_at dksX5_layBest_5 7 rfl rfl)
theorem dX5_layBest_126 : decode cX5_layBest 126 = .ok (.bipush (-2), 2) := dk_16 254 (dk_at dksX5_layBest_5 8 rfl rfl)
theorem dX5_layBest_128 : decode cX5_layBest 128 = .ok (.iastore, 1) := dk_79 (dk_at dksX5_layBest_5 10 rfl rfl)
theorem dX5_layBest_129 : decode cX5_layBest 129 = .ok (.goto (-104), 3) := dk_167 255 152 (dk_at dksX5_layBest_5 11 rfl rfl)
theorem dX5_layBest_132 : decode cX5_layBest 132 = .ok (.return_, 1) := dk_177 (dk_at dksX5_layBest_5 14 rfl rfl)
abbrev cX5_laySuit : ByteArray := prog_14_method_32_code
def yX5_laySuit : MethodName := ⟨RX5, "laySuit", "(I)V"⟩
def dkwX5_laySuit_2 : List UInt8 := [167, 0, 4, 3, 128, 79, 132, 3, 1, 167, 255, 219, 132, 2, 1, 167, 255, 196, 177]
abbrev dktX5_laySuit_2 : List UInt8 := dkwX5_laySuit_2 ++ []
def dkwX5_laySuit_1 : List UInt8 := [162, 0, 35, 42, 180, 0, 39, 28, 92, 46, 42, 29, 28, 27, 182, 0, 145, 153, 0, 9, 4, 29, 120]
abbrev dktX5_laySuit_1 : List UInt8 := dkwX5_laySuit_1 ++ dktX5_laySuit_2
def dkwX5_laySuit_0 : List UInt8 := [3, 61, 28, 42, 180, 0, 131, 162, 0, 58, 42, 180, 0, 39, 28, 3, 79, 3, 62, 29, 42, 182, 0, 60]
abbrev dktX5_laySuit_0 : List UInt8 := dkwX5_laySuit_0 ++ dktX5_laySuit_1
theorem dksX5_laySuit_0 : cX5_laySuit.data.toList.drop 0 = dktX5_laySuit_0 := by decide +kernel
theorem dksX5_laySuit_1 : cX5_laySuit.data.toList.drop 24 = dktX5_laySuit_1 := dk_seg dksX5_laySuit_0 24 rfl rfl
theorem dksX5_laySuit_2 : cX5_laySuit.data.toList.drop 47 = dktX5_laySuit_2 := dk_seg dksX5_laySuit_1 23 rfl rfl
theorem dX5_laySuit_0 : decode cX5_laySuit 0 = .ok (.iconst 0, 1) := dk_3 (dk_at dksX5_laySuit_0 0 rfl rfl)
theorem dX5_laySuit_1 : decode cX5_laySuit 1 = .ok (.istore_n 2, 1) := dk_61 (dk_at dksX5_laySuit_0 1 rfl rfl)
theorem dX5_laySuit_2 : decode cX5_laySuit 2 = .ok (.iload_n 2, 1) := dk_28 (dk_at dksX5_laySuit_0 2 rfl rfl)
theorem dX5_laySuit_3 : decode cX5_laySuit 3 = .ok (.aload_n 0, 1) := dk_42 (dk_at dksX5_laySuit_0 3 rfl rfl)
theorem dX5_laySuit_4 : decode cX5_laySuit 4 = .ok (.getfield 131, 3) := dk_180 0 131 (dk_at dksX5_laySuit_0 4 rfl rfl)
theorem dX5_laySuit_7 : decode cX5_laySuit 7 = .ok (.if_icmp .ge 58, 3) := dk_162 0 58 (dk_at dksX5_laySuit_0 7 rfl rfl)
theorem dX5_laySuit_10 : decode cX5_laySuit 10 = .ok (.aload_n 0, 1) := dk_42 (dk_at dksX5_laySuit_0 10 rfl rfl)
theorem dX5_laySuit_11 : decode cX5_laySuit 11 = .ok (.getfield 39, 3) := dk_180 0 39 (dk_at dksX5_laySuit_0 11 rfl rfl)
theorem dX5_laySuit_14 : decode cX5_laySuit 14 = .ok (.iload_n 2, 1) := dk_28 (dk_at dksX5_laySuit_0 14 rfl rfl)
theorem dX5_laySuit_15 : decode cX5_laySuit 15 = .ok (.iconst 0, 1) := dk_3 (dk_at dksX5_laySuit_0 15 rfl rfl)
theorem dX5_laySuit_16 : decode cX5_laySuit 16 = .ok (.iastore, 1) := dk_79 (dk_at dksX5_laySuit_0 16 rfl rfl)
theorem dX5_laySuit_17 : decode cX5_laySuit 17 = .ok (.iconst 0, 1) := dk_3 (dk_at dksX5_laySuit_0 17 rfl rfl)
theorem dX5_laySuit_18 : decode cX5_laySuit 18 = .ok (.istore_n 3, 1) := dk_62 (dk_at dksX5_laySuit_0 18 rfl rfl)
theorem dX5_laySuit_19 : decode cX5_laySuit 19 = .ok (.iload_n 3, 1) := dk_29 (dk_at dksX5_laySuit_0 19 rfl rfl)
theorem dX5_laySuit_20 : decode cX5_laySuit 20 = .ok (.aload_n 0, 1) := dk_42 (dk_at dksX5_laySuit_0 20 rfl rfl)
theorem dX5_laySuit_21 : decode cX5_laySuit 21 = .ok (.invokevirtual 60, 3) := dk_182 0 60 (dk_at dksX5_laySuit_0 21 rfl rfl)
theorem dX5_laySuit_24 : decode cX5_laySuit 24 = .ok (.if_icmp .ge 35, 3) := dk_162 0 35 (dk_at dksX5_laySuit_1 0 rfl rfl)
theorem dX5_laySuit_27 : decode cX5_laySuit 27 = .ok (.aload_n 0, 1) := dk_42 (dk_at dksX5_laySuit_1 3 rfl rfl)
theorem dX5_laySuit_28 : decode cX5_laySuit 28 = .ok (.getfield 39, 3) := dk_180 0 39 (dk_at dksX5_laySuit_1 4 rfl rfl)
theorem dX5_laySuit_31 : decode cX5_laySuit 31 = .ok (.iload_n 2, 1) := dk_28 (dk_at dksX5_laySuit_1 7 rfl rfl)
theorem dX5_laySuit_32 : decode cX5_laySuit 32 = .ok (.dup2, 1) := dk_92 (dk_at dksX5_laySuit_1 8 rfl rfl)
theorem dX5_laySuit_33 : decode cX5_laySuit 33 = .ok (.iaload, 1) := dk_46 (dk_at dksX5_laySuit_1 9 rfl rfl)
theorem dX5_laySuit_34 : decode cX5_laySuit 34 = .ok (.aload_n 0, 1) := dk_42 (dk_at dksX5_laySuit_1 10 rfl rfl)
theorem dX5_laySuit_35 : decode cX5_laySuit 35 = .ok (.iload_n 3, 1) := dk_29 (dk_at dksX5_laySuit_1 11 rfl rfl)
theorem dX5_laySuit_36 : decode cX5_laySuit 36 = .ok (.iload_n 2, 1) := dk_28 (dk_at dksX5_laySuit_1 12 rfl rfl)
theorem dX5_laySuit_37 : decode cX5_laySuit 37 = .ok (.iload_n 1, 1) := dk_27 (dk_at dksX5_laySuit_1 13 rfl rfl)
theorem dX5_laySuit_38 : decode cX5_laySuit 38 = .ok (.invokevirtual 145, 3) := dk_182 0 145 (dk_at dksX5_laySuit_1 14 rfl rfl)
theorem dX5_laySuit_41 : decode cX5_laySuit 41 = .ok (.ifCond .eq 9, 3) := dk_153 0 9 (dk_at dksX5_laySuit_1 17 rfl rfl)
theorem dX5_laySuit_44 : decode cX5_laySuit 44 = .ok (.iconst 1, 1) := dk_4 (dk_at dksX5_laySuit_1 20 rfl rfl)
theorem dX5_laySuit_45 : decode cX5_laySuit 45 = .ok (.iload_n 3, 1) := dk_29 (dk_at dksX5_laySuit_1 21 rfl rfl)
theorem dX5_laySuit_46 : decode cX5_laySuit 46 = .ok (.ishl, 1) := dk_120 (dk_at dksX5_laySuit_1 22 rfl rfl)
theorem dX5_laySuit_47 : decode cX5_laySuit 47 = .ok (.goto 4, 3) := dk_167 0 4 (dk_at dksX5_laySuit_2 0 rfl rfl)
theorem dX5_laySuit_50 : decode cX5_laySuit 50 = .ok (.iconst 0, 1) := dk_3 (dk_at dksX5_laySuit_2 3 rfl rfl)
theorem dX5_laySuit_51 : decode cX5_laySuit 51 = .ok (.ior, 1) := dk_128 (dk_at dksX5_laySuit_2 4 rfl rfl)
theorem dX5_laySuit_52 : decode cX5_laySuit 52 = .ok (.iastore, 1) := dk_79 (dk_at dksX5_laySuit_2 5 rfl rfl)
theorem dX5_laySuit_53 : decode cX5_laySuit 53 = .ok (.iinc 3 1, 3) := dk_132 3 1 (dk_at dksX5_laySuit_2 6 rfl rfl)
theorem dX5_laySuit_56 : decode cX5_laySuit 56 = .ok (.goto (-37), 3) := dk_167 255 219 (dk_at dksX5_laySuit_2 9 rfl rfl)
theorem dX5_laySuit_59 : decode cX5_laySuit 59 = .ok (.iinc 2 1, 3) := dk_132 2 1 (dk_at dksX5_laySuit_2 12 rfl rfl)
theorem dX5_laySuit_62 : decode cX5_laySuit 62 = .ok (.goto (-60), 3) := dk_167 255 196 (dk_at dksX5_laySuit_2 15 rfl rfl)
theorem dX5_laySuit_65 : decode cX5_laySuit 65 = .ok (.return_, 1) := dk_177 (dk_at dksX5_laySuit_2 18 rfl rfl)
abbrev cX5_judgeRow : ByteArray := prog_14_method_43_code
def yX5_judgeRow : MethodName := ⟨RX5, "judgeRow", "()V"⟩
def dkwX5_judgeRow_5 : List UInt8 := [180, 0, 42, 29, 46, 79, 132, 3, 1, 167, 255, 233, 177]
abbrev dktX5_judgeRow_5 : List UInt8 := dkwX5_judgeRow_5 ++ []
def dkwX5_judgeRow_4 : List UInt8 := [181, 0, 174, 42, 28, 181, 0, 177, 3, 62, 29, 42, 180, 0, 131, 162, 0, 21, 42, 180, 0, 45, 29, 42]
abbrev dktX5_judgeRow_4 : List UInt8 := dkwX5_judgeRow_4 ++ dktX5_judgeRow_5
def dkwX5_judgeRow_3 : List UInt8 := [180, 0, 174, 163, 0, 19, 27, 42, 180, 0, 174, 160, 0, 49, 28, 42, 180, 0, 177, 164, 0, 41, 42, 27]
abbrev dktX5_judgeRow_3 : List UInt8 := dkwX5_judgeRow_3 ++ dktX5_judgeRow_4
def dkwX5_judgeRow_2 : List UInt8 := [167, 0, 14, 42, 180, 0, 27, 42, 180, 0, 42, 29, 46, 46, 96, 61, 132, 3, 1, 167, 255, 199, 27, 42]
abbrev dktX5_judgeRow_2 : List UInt8 := dkwX5_judgeRow_2 ++ dktX5_judgeRow_3
def dkwX5_judgeRow_1 : List UInt8 := [160, 0, 7, 3, 167, 0, 4, 4, 96, 60, 28, 42, 180, 0, 42, 29, 46, 2, 160, 0, 7, 3]
abbrev dktX5_judgeRow_1 : List UInt8 := dkwX5_judgeRow_1 ++ dktX5_judgeRow_2
def dkwX5_judgeRow_0 : List UInt8 := [3, 60, 3, 61, 3, 62, 29, 42, 180, 0, 131, 162, 0, 55, 27, 42, 180, 0, 42, 29, 46, 2]
abbrev dktX5_judgeRow_0 : List UInt8 := dkwX5_judgeRow_0 ++ dktX5_judgeRow_1
theorem dksX5_judgeRow_0 : cX5_judgeRow.data.toList.drop 0 = dktX5_judgeRow_0 := by decide +kernel
theorem dksX5_judgeRow_1 : cX5_judgeRow.data.toList.drop 22 = dktX5_judgeRow_1 := dk_seg dksX5_judgeRow_0 22 rfl rfl
theorem dksX5_judgeRow_2 : cX5_judgeRow.data.toList.drop 44 = dktX5_judgeRow_2 := dk_seg dksX5_judgeRow_1 22 rfl rfl
theorem dksX5_judgeRow_3 : cX5_judgeRow.data.toList.drop 68 = dktX5_judgeRow_3 := dk_seg dksX5_judgeRow_2 24 rfl rfl
theorem dksX5_judgeRow_4 : cX5_judgeRow.data.toList.drop 92 = dktX5_judgeRow_4 := dk_seg dksX5_judgeRow_3 24 rfl rfl
theorem dksX5_judgeRow_5 : cX5_judgeRow.data.toList.drop 116 = dktX5_judgeRow_5 := dk_seg dksX5_judgeRow_4 24 rfl rfl
theorem dX5_judgeRow_0 : decode cX5_judgeRow 0 = .ok (.iconst 0, 1) := dk_3 (dk_at dksX5_judgeRow_0 0 rfl rfl)
theorem dX5_judgeRow_1 : decode cX5_judgeRow 1 = .ok (.istore_n 1, 1) := dk_60 (dk_at dksX5_judgeRow_0 1 rfl rfl)
theorem dX5_judgeRow_2 : decode cX5_judgeRow 2 = .ok (.iconst 0, 1) := dk_3 (dk_at dksX5_judgeRow_0 2 rfl rfl)
theorem dX5_judgeRow_3 : decode cX5_judgeRow 3 = .ok (.istore_n 2, 1) := dk_61 (dk_at dksX5_judgeRow_0 3 rfl rfl)
theorem dX5_judgeRow_4 : decode cX5_judgeRow 4 = .ok (.iconst 0, 1) := dk_3 (dk_at dksX5_judgeRow_0 4 rfl rfl)
theorem dX5_judgeRow_5 : decode cX5_judgeRow 5 = .ok (.istore_n 3, 1) := dk_62 (dk_at dksX5_judgeRow_0 5 rfl rfl)
theorem dX5_judgeRow_6 : decode cX5_judgeRow 6 = .ok (.iload_n 3, 1) := dk_29 (dk_at dksX5_judgeRow_0 6 rfl rfl)
theorem dX5_judgeRow_7 : decode cX5_judgeRow 7 = .ok (.aload_n 0, 1) := dk_42 (dk_at dksX5_judgeRow_0 7 rfl rfl)
theorem dX5_judgeRow_8 : decode cX5_judgeRow 8 = .ok (.getfield 131, 3) := dk_180 0 131 (dk_at dksX5_judgeRow_0 8 rfl rfl)
theorem dX5_judgeRow_11 : decode cX5_judgeRow 11 = .ok (.if_icmp .ge 55, 3) := dk_162 0 55 (dk_at dksX5_judgeRow_0 11 rfl rfl)
theorem dX5_judgeRow_14 : decode cX5_judgeRow 14 = .ok (.iload_n 1, 1) := dk_27 (dk_at dksX5_judgeRow_0 14 rfl rfl)
theorem dX5_judgeRow_15 : decode cX5_judgeRow 15 = .ok (.aload_n 0, 1) := dk_42 (dk_at dksX5_judgeRow_0 15 rfl rfl)
theorem dX5_judgeRow_16 : decode cX5_judgeRow 16 = .ok (.getfield 42, 3) := dk_180 0 42 (dk_at dksX5_judgeRow_0 16 rfl rfl)
theorem dX5_judgeRow_19 : decode cX5_judgeRow 19 = .ok (.iload_n 3, 1) := dk_29 (dk_at dksX5_judgeRow_0 19 rfl rfl)
theorem dX5_judgeRow_20 : decode cX5_judgeRow 20 = .ok (.iaload, 1) := dk_46 (dk_at dksX5_judgeRow_0 20 rfl rfl)
theorem dX5_judgeRow_21 : decode cX5_judgeRow 21 = .ok (.iconst (-1), 1) := dk_2 (dk_at dksX5_judgeRow_0 21 rfl rfl)
theorem dX5_judgeRow_22 : decode cX5_judgeRow 22 = .ok (.if_icmp .ne 7, 3) := dk_160 0 7 (dk_at dksX5_judgeRow_1 0 rfl rfl)
theorem dX5_judgeRow_25 : decode cX5_judgeRow 25 = .ok (.iconst 0, 1) := dk_3 (dk_at dksX5_judgeRow_1 3 rfl rfl)
theorem dX5_judgeRow_26 : decode cX5_judgeRow 26 = .ok (.goto 4, 3) := dk_167 0 4 (dk_at dksX5_judgeRow_1 4 rfl rfl)
theorem dX5_judgeRow_29 : decode cX5_judgeRow 29 = .ok (.iconst 1, 1) := dk_4 (dk_at dksX5_judgeRow_1 7 rfl rfl)
theorem dX5_judgeRow_30 : decode cX5_judgeRow 30 = .ok (.iadd, 1) := dk_96 (dk_at dksX5_judgeRow_1 8 rfl rfl)
theorem dX5_judgeRow_31 : decode cX5_judgeRow 31 = .ok (.istore_n 1, 1) := dk_60 (dk_at dksX5_judgeRow_1 9 rfl rfl)
theorem dX5_judgeRow_32 : decode cX5_judgeRow 32 = .ok (.iload_n 2, 1) := dk_28 (dk_at dksX5_judgeRow_1 10 rfl rfl)
theorem dX5_judgeRow_33 : decode cX5_judgeRow 33 = .ok (.aload_n 0, 1) := dk_42 (dk_at dksX5_judgeRow_1 11 rfl rfl)
theorem dX5_judgeRow_34 : decode cX5_judgeRow 34 = .ok (.getfield 42, 3) := dk_180 0 42 (dk_at dksX5_judgeRow_1 12 rfl rfl)
theorem dX5_judgeRow_37 : decode cX5_judgeRow 37 = .ok (.iload_n 3, 1) := dk_29 (dk_at dksX5_judgeRow_1 15 rfl rfl)
theorem dX5_judgeRow_38 : decode cX5_judgeRow 38 = .ok (.iaload, 1) := dk_46 (dk_at dksX5_judgeRow_1 16 rfl rfl)
theorem dX5_judgeRow_39 : decode cX5_judgeRow 39 = .ok (.iconst (-1), 1) := dk_2 (dk_at dksX5_judgeRow_1 17 rfl rfl)
theorem dX5_judgeRow_40 : decode cX5_judgeRow 40 = .ok (.if_icmp .ne 7, 3) := dk_160 0 7 (dk_at dksX5_judgeRow_1 18 rfl rfl)
theorem dX5_judgeRow_43 : decode cX5_judgeRow 43 = .ok (.iconst 0, 1) := dk_3 (dk_at dksX5_judgeRow_1 21 rfl rfl)
theorem dX5_judgeRow_44 : decode cX5_judgeRow 44 = .ok (.goto 14, 3) := dk_167 0 14 (dk_at dksX5_judgeRow_2 0 rfl rfl)
theorem dX5_judgeRow_47 : decode cX5_judgeRow 47 = .ok (.aload_n 0, 1) := dk_42 (dk_at dksX5_judgeRow_2 3 rfl rfl)
theorem dX5_judgeRow_48 : decode cX5_judgeRow 48 = .ok (.getfield 27, 3) := dk_180 0 27 (dk_at dksX5_judgeRow_2 4 rfl rfl)
theorem dX5_judgeRow_51 : decode cX5_judgeRow 51 = .ok (.aload_n 0, 1) := dk_42 (dk_at dksX5_judgeRow_2 7 rfl rfl)
theorem dX5_judgeRow_52 : decode cX5_judgeRow 52 = .ok (.getfield 42, 3) := dk_180 0 42 (dk_at dksX5_judgeRow_2 8 rfl rfl)
theorem dX5_judgeRow_55 : decode cX5_judgeRow 55 = .ok (.iload_n 3, 1) := dk_29 (dk_at dksX5_judgeRow_2 11 rfl rfl)
theorem dX5_judgeRow_56 : decode cX5_judgeRow 56 = .ok (.iaload, 1) := dk_46 (dk_at dksX5_judgeRow_2 12 rfl rfl)
theorem dX5_judgeRow_57 : decode cX5_judgeRow 57 = .ok (.iaload, 1) := dk_46 (dk_at dksX5_judgeRow_2 13 rfl rfl)
theorem dX5_judgeRow_58 : decode cX5_judgeRow 58 = .ok (.iadd, 1) := dk_96 (dk_at dksX5_judgeRow_2 14 rfl rfl)
theorem dX5_judgeRow_59 : decode cX5_judgeRow 59 = .ok (.istore_n 2, 1) := dk_61 (dk_at dksX5_judgeRow_2 15 rfl rfl)
theorem dX5_judgeRow_60 : decode cX5_judgeRow 60 = .ok (.iinc 3 1, 3) := dk_132 3 1 (dk_at dksX5_judgeRow_2 16 rfl rfl)
theorem dX5_judgeRow_63 : decode cX5_judgeRow 63 = .ok (.goto (-57), 3) := dk_167 255 199 (dk_at dksX5_judgeRow_2 19 rfl rfl)
theorem dX5_judgeRow_66 : decode cX5_judgeRow 66 = .ok (.iload_n 1, 1) := dk_27 (dk_at dksX5_judgeRow_2 22 rfl rfl)
theorem dX5_judgeRow_67 : decode cX5_judgeRow 67 = .ok (.aload_n 0, 1) := dk_42 (dk_at dksX5_judgeRow_2 23 rfl rfl)
theorem dX5_judgeRow_68 : decode cX5_judgeRow 68 = .ok (.getfield 174, 3) := dk_180 0 174 (dk_at dksX5_judgeRow_3 0 rfl rfl)
theorem dX5_judgeRow_71 : decode cX5_judgeRow 71 = .ok (.if_icmp .gt 19, 3) := dk_163 0 19 (dk_at dksX5_judgeRow_3 3 rfl rfl)
theorem dX5_judgeRow_74 : decode cX5_judgeRow 74 = .ok (.iload_n 1, 1) := dk_27 (dk_at dksX5_judgeRow_3 6 rfl rfl)
theorem dX5_judgeRow_75 : decode cX5_judgeRow 75 = .ok (.aload_n 0, 1) := dk_42 (dk_at dksX5_judgeRow_3 7 rfl rfl)
theorem dX5_judgeRow_76 : decode cX5_judgeRow 76 = .ok (.getfield 174, 3) := dk_180 0 174 (dk_at dksX5_judgeRow_3 8 rfl rfl)
theorem dX5_judgeRow_79 : decode cX5_judgeRow 79 = .ok (.if_icmp .ne 49, 3) := dk_160 0 49 (dk_at dksX5_judgeRow_3 11 rfl rfl)
theorem dX5_judgeRow_82 : decode cX5_judgeRow 82 = .ok (.iload_n 2, 1) := dk_28 (dk_at dksX5_judgeRow_3 14 rfl rfl)
theorem dX5_judgeRow_83 : decode cX5_judgeRow 83 = .ok (.aload_n 0, 1) := dk_42 (dk_at dksX5_judgeRow_3 15 rfl rfl)
theorem dX5_judgeRow_84 : decode cX5_judgeRow 84 = .ok (.getfield 177, 3) := dk_180 0 177 (dk_at dksX5_judgeRow_3 16 rfl rfl)
theorem dX5_judgeRow_87 : decode cX5_judgeRow 87 = .ok (.if_icmp .le 41, 3) := dk_164 0 41 (dk_at dksX5_judgeRow_3 19 rfl rfl)
theorem dX5_judgeRow_90 : decode cX5_judgeRow 90 = .ok (.aload_n 0, 1) := dk_42 (dk_at dksX5_judgeRow_3 22 rfl rfl)
theorem dX5_judgeRow_91 : decode cX5_judgeRow 91 = .ok (.iload_n 1, 1) := dk_27 (dk_at dksX5_judgeRow_3 23 rfl rfl)
theorem dX5_judgeRow_92 : decode cX5_judgeRow 92 = .ok (.putfield 174, 3) := dk_181 0 174 (dk_at dksX5_judgeRow_4 0 rfl rfl)
theorem dX5_judgeRow_95 : decode cX5_judgeRow 95 = .ok (.aload_n 0, 1) := dk_42 (dk_at dksX5_judgeRow_4 3 rfl rfl)
theorem dX5_judgeRow_96 : decode cX5_judgeRow 96 = .ok (.iload_n 2, 1) := dk_28 (dk_at dksX5_judgeRow_4 4 rfl rfl)
theorem dX5_judgeRow_97 : decode cX5_judgeRow 97 = .ok (.putfield 177, 3) := dk_181 0 177 (dk_at dksX5_judgeRow_4 5 rfl rfl)
theorem dX5_judgeRow_100 : decode cX5_judgeRow 100 = .ok (.iconst 0, 1) := dk_3 (dk_at dksX5_judgeRow_4 8 rfl rfl)
theorem dX5_judgeRow_101 : decode cX5_judgeRow 101 = .ok (.istore_n 3, 1) := dk_62 (dk_at dksX5_judgeRow_4 9 rfl rfl)
theorem dX5_judgeRow_102 : decode cX5_judgeRow 102 = .ok (.iload_n 3, 1) := dk_29 (dk_at dksX5_judgeRow_4 10 rfl rfl)
theorem dX5_judgeRow_103 : decode cX5_judgeRow 103 = .ok (.aload_n 0, 1) := dk_42 (dk_at dksX5_judgeRow_4 11 rfl rfl)
theorem dX5_judgeRow_104 : decode cX5_judgeRow 104 = .ok (.getfield 131, 3) := dk_180 0 131 (dk_at dksX5_judgeRow_4 12 rfl rfl)
theorem dX5_judgeRow_107 : decode cX5_judgeRow 107 = .ok (.if_icmp .ge 21, 3) := dk_162 0 21 (dk_at dksX5_judgeRow_4 15 rfl rfl)
theorem dX5_judgeRow_110 : decode cX5_judgeRow 110 = .ok (.aload_n 0, 1) := dk_42 (dk_at dksX5_judgeRow_4 18 rfl rfl)
theorem dX5_judgeRow_111 : decode cX5_judgeRow 111 = .ok (.getfield 45, 3) := dk_180 0 45 (dk_at dksX5_judgeRow_4 19 rfl rfl)
theorem dX5_judgeRow_114 : decode cX5_judgeRow 114 = .ok (.iload_n 3, 1) := dk_29 (dk_at dksX5_judgeRow_4 22 rfl rfl)
theorem dX5_judgeRow_115 : decode cX5_judgeRow 115 = .ok (.aload_n 0, 1) := dk_42 (dk_at dksX5_judgeRow_4 23 rfl rfl)
theorem dX5_judgeRow_116 : decode cX5_judgeRow 116 = .ok (.getfield 42, 3) := dk_180 0 42 (dk_at dksX5_judgeRow_5 0 rfl rfl)
theorem dX5_judgeRow_119 : decode cX5_judgeRow 119 = .ok (.iload_n 3, 1) := dk_29 (dk_at dksX5_judgeRow_5 3 rfl rfl)
theorem dX5_judgeRow_120 : decode cX5_judgeRow 120 = .ok (.iaload, 1) := dk_46 (dk_at dksX5_judgeRow_5 4 rfl rfl)
theorem dX5_judgeRow_121 : decode cX5_judgeRow 121 = .ok (.iastore, 1) := dk_79 (dk_at dksX5_judgeRow_5 5 rfl rfl)
theorem dX5_judgeRow_122 : decode cX5_judgeRow 122 = .ok (.iinc 3 1, 3) := dk_132 3 1 (dk_at dksX5_judgeRow_5 6 rfl rfl)
theorem dX5_judgeRow_125 : decode cX5_judgeRow 125 = .ok (.goto (-23), 3) := dk_167 255 233 (dk_at dksX5_judgeRow_5 9 rfl rfl)
theorem dX5_judgeRow_128 : decode cX5_judgeRow 128 = .ok (.return_, 1) := dk_177 (dk_at dksX5_judgeRow_5 12 rfl rfl)
abbrev cX5_freeBut : ByteArray := prog_14_method_44_code
def yX5_freeBut : MethodName := ⟨RX5, "freeBut", "(I)I"⟩
def dkwX5_freeBut_2 : List UInt8 := [167, 255, 221, 28, 172]
abbrev dktX5_freeBut_2 : List UInt8 := dkwX5_freeBut_2 ++ []
def dkwX5_freeBut_1 : List UInt8 := [160, 0, 7, 2, 167, 0, 13, 4, 42, 180, 0, 42, 29, 46, 120, 2, 130, 126, 61, 132, 3, 1]
abbrev dktX5_freeBut_1 : List UInt8 := dkwX5_freeBut_1 ++ dktX5_freeBut_2
def dkwX5_freeBut_0 : List UInt8 := [4, 42, 182, 0, 60, 120, 4, 100, 61, 3, 62, 29, 27, 162, 0, 36, 28, 42, 180, 0, 42, 29, 46, 2]
abbrev dktX5_freeBut_0 : List UInt8 := dkwX5_freeBut_0 ++ dktX5_freeBut_1
theorem dksX5_freeBut_0 : cX5_freeBut.data.toList.drop 0 = dktX5_freeBut_0 := by decide +kernel
theorem dksX5_freeBut_1 : cX5_freeBut.data.toList.drop 24 = dktX5_freeBut_1 := dk_seg dksX5_freeBut_0 24 rfl rfl
theorem dksX5_freeBut_2 : cX5_freeBut.data.toList.drop 46 = dktX5_freeBut_2 := dk_seg dksX5_freeBut_1 22 rfl rfl
theorem dX5_freeBut_0 : decode cX5_freeBut 0 = .ok (.iconst 1, 1) := dk_4 (dk_at dksX5_freeBut_0 0 rfl rfl)
theorem dX5_freeBut_1 : decode cX5_freeBut 1 = .ok (.aload_n 0, 1) := dk_42 (dk_at dksX5_freeBut_0 1 rfl rfl)
theorem dX5_freeBut_2 : decode cX5_freeBut 2 = .ok (.invokevirtual 60, 3) := dk_182 0 60 (dk_at dksX5_freeBut_0 2 rfl rfl)
theorem dX5_freeBut_5 : decode cX5_freeBut 5 = .ok (.ishl, 1) := dk_120 (dk_at dksX5_freeBut_0 5 rfl rfl)
theorem dX5_freeBut_6 : decode cX5_freeBut 6 = .ok (.iconst 1, 1) := dk_4 (dk_at dksX5_freeBut_0 6 rfl rfl)
theorem dX5_freeBut_7 : decode cX5_freeBut 7 = .ok (.isub, 1) := dk_100 (dk_at dksX5_freeBut_0 7 rfl rfl)
theorem dX5_freeBut_8 : decode cX5_freeBut 8 = .ok (.istore_n 2, 1) := dk_61 (dk_at dksX5_freeBut_0 8 rfl rfl)
theorem dX5_freeBut_9 : decode cX5_freeBut 9 = .ok (.iconst 0, 1) := dk_3 (dk_at dksX5_freeBut_0 9 rfl rfl)
theorem dX5_freeBut_10 : decode cX5_freeBut 10 = .ok (.istore_n 3, 1) := dk_62 (dk_at dksX5_freeBut_0 10 rfl rfl)
theorem dX5_freeBut_11 : decode cX5_freeBut 11 = .ok (.iload_n 3, 1) := dk_29 (dk_at dksX5_freeBut_0 11 rfl rfl)
theorem dX5_freeBut_12 : decode cX5_freeBut 12 = .ok (.iload_n 1, 1) := dk_27 (dk_at dksX5_freeBut_0 12 rfl rfl)
theorem dX5_freeBut_13 : decode cX5_freeBut 13 = .ok (.if_icmp .ge 36, 3) := dk_162 0 36 (dk_at dksX5_freeBut_0 13 rfl rfl)
theorem dX5_freeBut_16 : decode cX5_freeBut 16 = .ok (.iload_n 2, 1) := dk_28 (dk_at dksX5_freeBut_0 16 rfl rfl)
theorem dX5_freeBut_17 : decode cX5_freeBut 17 = .ok (.aload_n 0, 1) := dk_42 (dk_at dksX5_freeBut_0 17 rfl rfl)
theorem dX5_freeBut_18 : decode cX5_freeBut 18 = .ok (.getfield 42, 3) := dk_180 0 42 (dk_at dksX5_freeBut_0 18 rfl rfl)
theorem dX5_freeBut_21 : decode cX5_freeBut 21 = .ok (.iload_n 3, 1) := dk_29 (dk_at dksX5_freeBut_0 21 rfl rfl)
theorem dX5_freeBut_22 : decode cX5_freeBut 22 = .ok (.iaload, 1) := dk_46 (dk_at dksX5_freeBut_0 22 rfl rfl)
theorem dX5_freeBut_23 : decode cX5_freeBut 23 = .ok (.iconst (-1), 1) := dk_2 (dk_at dksX5_freeBut_0 23 rfl rfl)
theorem dX5_freeBut_24 : decode cX5_freeBut 24 = .ok (.if_icmp .ne 7, 3) := dk_160 0 7 (dk_at dksX5_freeBut_1 0 rfl rfl)
theorem dX5_freeBut_27 : decode cX5_freeBut 27 = .ok (.iconst (-1), 1) := dk_2 (dk_at dksX5_freeBut_1 3 rfl rfl)
theorem dX5_freeBut_28 : decode cX5_freeBut 28 = .ok (.goto 13, 3) := dk_167 0 13 (dk_at dksX5_freeBut_1 4 rfl rfl)
theorem dX5_freeBut_31 : decode cX5_freeBut 31 = .ok (.iconst 1, 1) := dk_4 (dk_at dksX5_freeBut_1 7 rfl rfl)
theorem dX5_freeBut_32 : decode cX5_freeBut 32 = .ok (.aload_n 0, 1) := dk_42 (dk_at dksX5_freeBut_1 8 rfl rfl)
theorem dX5_freeBut_33 : decode cX5_freeBut 33 = .ok (.getfield 42, 3) := dk_180 0 42 (dk_at dksX5_freeBut_1 9 rfl rfl)
theorem dX5_freeBut_36 : decode cX5_freeBut 36 = .ok (.iload_n 3, 1) := dk_29 (dk_at dksX5_freeBut_1 12 rfl rfl)
theorem dX5_freeBut_37 : decode cX5_freeBut 37 = .ok (.iaload, 1) := dk_46 (dk_at dksX5_freeBut_1 13 rfl rfl)
theorem dX5_freeBut_38 : decode cX5_freeBut 38 = .ok (.ishl, 1) := dk_120 (dk_at dksX5_freeBut_1 14 rfl rfl)
theorem dX5_freeBut_39 : decode cX5_freeBut 39 = .ok (.iconst (-1), 1) := dk_2 (dk_at dksX5_freeBut_1 15 rfl rfl)
theorem dX5_freeBut_40 : decode cX5_freeBut 40 = .ok (.ixor, 1) := dk_130 (dk_at dksX5_freeBut_1 16 rfl rfl)
theorem dX5_freeBut_41 : decode cX5_freeBut 41 = .ok (.iand, 1) := dk_126 (dk_at dksX5_freeBut_1 17 rfl rfl)
theorem dX5_freeBut_42 : decode cX5_freeBut 42 = .ok (.istore_n 2, 1) := dk_61 (dk_at dksX5_freeBut_1 18 rfl rfl)
theorem dX5_freeBut_43 : decode cX5_freeBut 43 = .ok (.iinc 3 1, 3) := dk_132 3 1 (dk_at dksX5_freeBut_1 19 rfl rfl)
theorem dX5_freeBut_46 : decode cX5_freeBut 46 = .ok (.goto (-35), 3) := dk_167 255 221 (dk_at dksX5_freeBut_2 0 rfl rfl)
theorem dX5_freeBut_49 : decode cX5_freeBut 49 = .ok (.iload_n 2, 1) := dk_28 (dk_at dksX5_freeBut_2 3 rfl rfl)
theorem dX5_freeBut_50 : decode cX5_freeBut 50 = .ok (.ireturn, 1) := dk_172 (dk_at dksX5_freeBut_2 4 rfl rfl)
abbrev cX5_nextView : ByteArray := prog_14_method_45_code
def yX5_nextView : MethodName := ⟨RX5, "nextView", "(II)I"⟩
def dkwX5_nextView_1 : List UInt8 := [167, 255, 237, 29, 172]
abbrev dktX5_nextView_1 : List UInt8 := dkwX5_nextView_1 ++ []
def dkwX5_nextView_0 : List UInt8 := [27, 4, 96, 62, 29, 42, 182, 0, 60, 162, 0, 17, 28, 29, 122, 4, 126, 154, 0, 9, 132, 3, 1]
abbrev dktX5_nextView_0 : List UInt8 := dkwX5_nextView_0 ++ dktX5_nextView_1
theorem dksX5_nextView_0 : cX5_nextView.data.toList.drop 0 = dktX5_nextView_0 := by decide +kernel
theorem dksX5_nextView_1 : cX5_nextView.data.toList.drop 23 = dktX5_nextView_1 := dk_seg dksX5_nextView_0 23 rfl rfl
theorem dX5_nextView_0 : decode cX5_nextView 0 = .ok (.iload_n 1, 1) := dk_27 (dk_at dksX5_nextView_0 0 rfl rfl)
theorem dX5_nextView_1 : decode cX5_nextView 1 = .ok (.iconst 1, 1) := dk_4 (dk_at dksX5_nextView_0 1 rfl rfl)
theorem dX5_nextView_2 : decode cX5_nextView 2 = .ok (.iadd, 1) := dk_96 (dk_at dksX5_nextView_0 2 rfl rfl)
theorem dX5_nextView_3 : decode cX5_nextView 3 = .ok (.istore_n 3, 1) := dk_62 (dk_at dksX5_nextView_0 3 rfl rfl)
theorem dX5_nextView_4 : decode cX5_nextView 4 = .ok (.iload_n 3, 1) := dk_29 (dk_at dksX5_nextView_0 4 rfl rfl)
theorem dX5_nextView_5 : decode cX5_nextView 5 = .ok (.aload_n 0, 1) := dk_42 (dk_at dksX5_nextView_0 5 rfl rfl)
theorem dX5_nextView_6 : decode cX5_nextView 6 = .ok (.invokevirtual 60, 3) := dk_182 0 60 (dk_at dksX5_nextView_0 6 rfl rfl)
theorem dX5_nextView_9 : decode cX5_nextView 9 = .ok (.if_icmp .ge 17, 3) := dk_162 0 17 (dk_at dksX5_nextView_0 9 rfl rfl)
theorem dX5_nextView_12 : decode cX5_nextView 12 = .ok (.iload_n 2, 1) := dk_28 (dk_at dksX5_nextView_0 12 rfl rfl)
theorem dX5_nextView_13 : decode cX5_nextView 13 = .ok (.iload_n 3, 1) := dk_29 (dk_at dksX5_nextView_0 13 rfl rfl)
theorem dX5_nextView_14 : decode cX5_nextView 14 = .ok (.ishr, 1) := dk_122 (dk_at dksX5_nextView_0 14 rfl rfl)
theorem dX5_nextView_15 : decode cX5_nextView 15 = .ok (.iconst 1, 1) := dk_4 (dk_at dksX5_nextView_0 15 rfl rfl)
theorem dX5_nextView_16 : decode cX5_nextView 16 = .ok (.iand, 1) := dk_126 (dk_at dksX5_nextView_0 16 rfl rfl)
theorem dX5_nextView_17 : decode cX5_nextView 17 = .ok (.ifCond .ne 9, 3) := dk_154 0 9 (dk_at dksX5_nextView_0 17 rfl rfl)
theorem dX5_nextView_20 : decode cX5_nextView 20 = .ok (.iinc 3 1, 3) := dk_132 3 1 (dk_at dksX5_nextView_0 20 rfl rfl)
theorem dX5_nextView_23 : decode cX5_nextView 23 = .ok (.goto (-19), 3) := dk_167 255 237 (dk_at dksX5_nextView_1 0 rfl rfl)
theorem dX5_nextView_26 : decode cX5_nextView 26 = .ok (.iload_n 3, 1) := dk_29 (dk_at dksX5_nextView_1 3 rfl rfl)
theorem dX5_nextView_27 : decode cX5_nextView 27 = .ok (.ireturn, 1) := dk_172 (dk_at dksX5_nextView_1 4 rfl rfl)
abbrev cX5_money : ByteArray := prog_14_method_48_code
def yX5_money : MethodName := ⟨RX5, "money", "(I)I"⟩
def dkwX5_money_1 : List UInt8 := [180, 0, 177, 172]
abbrev dktX5_money_1 : List UInt8 := dkwX5_money_1 ++ []
def dkwX5_money_0 : List UInt8 := [27, 184, 0, 171, 154, 0, 10, 42, 16, 254, 182, 0, 89, 172, 42, 182, 0, 151, 42, 27, 182, 0, 195, 42]
abbrev dktX5_money_0 : List UInt8 := dkwX5_money_0 ++ dktX5_money_1
theorem dksX5_money_0 : cX5_money.data.toList.drop 0 = dktX5_money_0 := by decide +kernel
theorem dksX5_money_1 : cX5_money.data.toList.drop 24 = dktX5_money_1 := dk_seg dksX5_money_0 24 rfl rfl
theorem dX5_money_0 : decode cX5_money 0 = .ok (.iload_n 1, 1) := dk_27 (dk_at dksX5_money_0 0 rfl rfl)
theorem dX5_money_1 : decode cX5_money 1 = .ok (.invokestatic 171, 3) := dk_184 0 171 (dk_at dksX5_money_0 1 rfl rfl)
theorem dX5_money_4 : decode cX5_money 4 = .ok (.ifCond .ne 10, 3) := dk_154 0 10 (dk_at dksX5_money_0 4 rfl rfl)
theorem dX5_money_7 : decode cX5_money 7 = .ok (.aload_n 0, 1) := dk_42 (dk_at dksX5_money_0 7 rfl rfl)
theorem dX5_money_8 : decode cX5_money 8 = .ok (.bipush (-2), 2) := dk_16 254 (dk_at dksX5_money_0 8 rfl rfl)
theorem dX5_money_10 : decode cX5_money 10 = .ok (.invokevirtual 89, 3) := dk_182 0 89 (dk_at dksX5_money_0 10 rfl rfl)
theorem dX5_money_13 : decode cX5_money 13 = .ok (.ireturn, 1) := dk_172 (dk_at dksX5_money_0 13 rfl rfl)
theorem dX5_money_14 : decode cX5_money 14 = .ok (.aload_n 0, 1) := dk_42 (dk_at dksX5_money_0 14 rfl rfl)
theorem dX5_money_15 : decode cX5_money 15 = .ok (.invokevirtual 151, 3) := dk_182 0 151 (dk_at dksX5_money_0 15 rfl rfl)
theorem dX5_money_18 : decode cX5_money 18 = .ok (.aload_n 0, 1) := dk_42 (dk_at dksX5_money_0 18 rfl rfl)
theorem dX5_money_19 : decode cX5_money 19 = .ok (.iload_n 1, 1) := dk_27 (dk_at dksX5_money_0 19 rfl rfl)
theorem dX5_money_20 : decode cX5_money 20 = .ok (.invokevirtual 195, 3) := dk_182 0 195 (dk_at dksX5_money_0 20 rfl rfl)
theorem dX5_money_23 : decode cX5_money 23 = .ok (.aload_n 0, 1) := dk_42 (dk_at dksX5_money_0 23 rfl rfl)
theorem dX5_money_24 : decode cX5_money 24 = .ok (.getfield 177, 3) := dk_180 0 177 (dk_at dksX5_money_1 0 rfl rfl)
theorem dX5_money_27 : decode cX5_money 27 = .ok (.ireturn, 1) := dk_172 (dk_at dksX5_money_1 3 rfl rfl)
abbrev cX5_come : ByteArray := prog_14_method_51_code
def yX5_come : MethodName := ⟨RX5, "come", "(II)I"⟩
def dkwX5_come_3 : List UInt8 := [42, 180, 0, 198, 100, 172]
abbrev dktX5_come_3 : List UInt8 := dkwX5_come_3 ++ []
def dkwX5_come_2 : List UInt8 := [154, 0, 10, 42, 180, 0, 198, 167, 0, 7, 42, 180, 0, 201, 172, 42, 27, 182, 0, 195, 42, 180, 0, 174]
abbrev dktX5_come_2 : List UInt8 := dkwX5_come_2 ++ dktX5_come_3
def dkwX5_come_1 : List UInt8 := [182, 0, 89, 172, 42, 182, 0, 151, 42, 27, 42, 182, 0, 206, 182, 0, 209, 28, 5, 162, 0, 19, 28]
abbrev dktX5_come_1 : List UInt8 := dkwX5_come_1 ++ dktX5_come_2
def dkwX5_come_0 : List UInt8 := [27, 184, 0, 171, 153, 0, 15, 28, 133, 9, 20, 0, 204, 184, 0, 64, 154, 0, 10, 42, 16, 254]
abbrev dktX5_come_0 : List UInt8 := dkwX5_come_0 ++ dktX5_come_1
theorem dksX5_come_0 : cX5_come.data.toList.drop 0 = dktX5_come_0 := by decide +kernel
theorem dksX5_come_1 : cX5_come.data.toList.drop 22 = dktX5_come_1 := dk_seg dksX5_come_0 22 rfl rfl
theorem dksX5_come_2 : cX5_come.data.toList.drop 45 = dktX5_come_2 := dk_seg dksX5_come_1 23 rfl rfl
theorem dksX5_come_3 : cX5_come.data.toList.drop 69 = dktX5_come_3 := dk_seg dksX5_come_2 24 rfl rfl
theorem dX5_come_0 : decode cX5_come 0 = .ok (.iload_n 1, 1) := dk_27 (dk_at dksX5_come_0 0 rfl rfl)
theorem dX5_come_1 : decode cX5_come 1 = .ok (.invokestatic 171, 3) := dk_184 0 171 (dk_at dksX5_come_0 1 rfl rfl)
theorem dX5_come_4 : decode cX5_come 4 = .ok (.ifCond .eq 15, 3) := dk_153 0 15 (dk_at dksX5_come_0 4 rfl rfl)
theorem dX5_come_7 : decode cX5_come 7 = .ok (.iload_n 2, 1) := dk_28 (dk_at dksX5_come_0 7 rfl rfl)
theorem dX5_come_8 : decode cX5_come 8 = .ok (.i2l, 1) := dk_133 (dk_at dksX5_come_0 8 rfl rfl)
theorem dX5_come_9 : decode cX5_come 9 = .ok (.lconst 0, 1) := dk_9 (dk_at dksX5_come_0 9 rfl rfl)
theorem dX5_come_10 : decode cX5_come 10 = .ok (.ldc2_w 204, 3) := dk_20 0 204 (dk_at dksX5_come_0 10 rfl rfl)
theorem dX5_come_13 : decode cX5_come 13 = .ok (.invokestatic 64, 3) := dk_184 0 64 (dk_at dksX5_come_0 13 rfl rfl)
theorem dX5_come_16 : decode cX5_come 16 = .ok (.ifCond .ne 10, 3) := dk_154 0 10 (dk_at dksX5_come_0 16 rfl rfl)
theorem dX5_come_19 : decode cX5_come 19 = .ok (.aload_n 0, 1) := dk_42 (dk_at dksX5_come_0 19 rfl rfl)
theorem dX5_come_20 : decode cX5_come 20 = .ok (.bipush (-2), 2) := dk_16 254 (dk_at dksX5_come_0 20 rfl rfl)
theorem dX5_come_22 : decode cX5_come 22 = .ok (.invokevirtual 89, 3) := dk_182 0 89 (dk_at dksX5_come_1 0 rfl rfl)
theorem dX5_come_25 : decode cX5_come 25 = .ok (.ireturn, 1) := dk_172 (dk_at dksX5_come_1 3 rfl rfl)
theorem dX5_come_26 : decode cX5_come 26 = .ok (.aload_n 0, 1) := dk_42 (dk_at dksX5_come_1 4 rfl rfl)
theorem dX5_come_27 : decode cX5_come 27 = .ok (.invokevirtual 151, 3) := dk_182 0 151 (dk_at dksX5_come_1 5 rfl rfl)
theorem dX5_come_30 : decode cX5_come 30 = .ok (.aload_n 0, 1) := dk_42 (dk_at dksX5_come_1 8 rfl rfl)
theorem dX5_come_31 : decode cX5_come 31 = .ok (.iload_n 1, 1) := dk_27 (dk_at dksX5_come_1 9 rfl rfl)
theorem dX5_come_32 : decode cX5_come 32 = .ok (.aload_n 0, 1) := dk_42 (dk_at dksX5_come_1 10 rfl rfl)
theorem dX5_come_33 : decode cX5_come 33 = .ok (.invokevirtual 206, 3) := dk_182 0 206 (dk_at dksX5_come_1 11 rfl rfl)
theorem dX5_come_36 : decode cX5_come 36 = .ok (.invokevirtual 209, 3) := dk_182 0 209 (dk_at dksX5_come_1 14 rfl rfl)
theorem dX5_come_39 : decode cX5_come 39 = .ok (.iload_n 2, 1) := dk_28 (dk_at dksX5_come_1 17 rfl rfl)
theorem dX5_come_40 : decode cX5_come 40 = .ok (.iconst 2, 1) := dk_5 (dk_at dksX5_come_1 18 rfl rfl)
theorem dX5_come_41 : decode cX5_come 41 = .ok (.if_icmp .ge 19, 3) := dk_162 0 19 (dk_at dksX5_come_1 19 rfl rfl)
theorem dX5_come_44 : decode cX5_come 44 = .ok (.iload_n 2, 1) := dk_28 (dk_at dksX5_come_1 22 rfl rfl)
theorem dX5_come_45 : decode cX5_come 45 = .ok (.ifCond .ne 10, 3) := dk_154 0 10 (dk_at dksX5_come_2 0 rfl rfl)
theorem dX5_come_48 : decode cX5_come 48 = .ok (.aload_n 0, 1) := dk_42 (dk_at dksX5_come_2 3 rfl rfl)
theorem dX5_come_49 : decode cX5_come 49 = .ok (.getfield 198, 3) := dk_180 0 198 (dk_at dksX5_come_2 4 rfl rfl)
theorem dX5_come_52 : decode cX5_come 52 = .ok (.goto 7, 3) := dk_167 0 7 (dk_at dksX5_come_2 7 rfl rfl)
theorem dX5_come_55 : decode cX5_come 55 = .ok (.aload_n 0, 1) := dk_42 (dk_at dksX5_come_2 10 rfl rfl)
theorem dX5_come_56 : decode cX5_come 56 = .ok (.getfield 201, 3) := dk_180 0 201 (dk_at dksX5_come_2 11 rfl rfl)
theorem dX5_come_59 : decode cX5_come 59 = .ok (.ireturn, 1) := dk_172 (dk_at dksX5_come_2 14 rfl rfl)
theorem dX5_come_60 : decode cX5_come 60 = .ok (.aload_n 0, 1) := dk_42 (dk_at dksX5_come_2 15 rfl rfl)
theorem dX5_come_61 : decode cX5_come 61 = .ok (.iload_n 1, 1) := dk_27 (dk_at dksX5_come_2 16 rfl rfl)
theorem dX5_come_62 : decode cX5_come 62 = .ok (.invokevirtual 195, 3) := dk_182 0 195 (dk_at dksX5_come_2 17 rfl rfl)
theorem dX5_come_65 : decode cX5_come 65 = .ok (.aload_n 0, 1) := dk_42 (dk_at dksX5_come_2 20 rfl rfl)
theorem dX5_come_66 : decode cX5_come 66 = .ok (.getfield 174, 3) := dk_180 0 174 (dk_at dksX5_come_2 21 rfl rfl)
theorem dX5_come_69 : decode cX5_come 69 = .ok (.aload_n 0, 1) := dk_42 (dk_at dksX5_come_3 0 rfl rfl)
theorem dX5_come_70 : decode cX5_come 70 = .ok (.getfield 198, 3) := dk_180 0 198 (dk_at dksX5_come_3 1 rfl rfl)
theorem dX5_come_73 : decode cX5_come 73 = .ok (.isub, 1) := dk_100 (dk_at dksX5_come_3 4 rfl rfl)
theorem dX5_come_74 : decode cX5_come 74 = .ok (.ireturn, 1) := dk_172 (dk_at dksX5_come_3 5 rfl rfl)
abbrev cX5_allRenters : ByteArray := prog_14_method_50_code
def yX5_allRenters : MethodName := ⟨RX5, "allRenters", "()I"⟩
def dkwX5_allRenters_0 : List UInt8 := [4, 42, 182, 0, 68, 120, 4, 100, 172]
abbrev dktX5_allRenters_0 : List UInt8 := dkwX5_allRenters_0 ++ []
theorem dksX5_allRenters_0 : cX5_allRenters.data.toList.drop 0 = dktX5_allRenters_0 := by decide +kernel
theorem dX5_allRenters_0 : decode cX5_allRenters 0 = .ok (.iconst 1, 1) := dk_4 (dk_at dksX5_allRenters_0 0 rfl rfl)
theorem dX5_allRenters_1 : decode cX5_allRenters 1 = .ok (.aload_n 0, 1) := dk_42 (dk_at dksX5_allRenters_0 1 rfl rfl)
theorem dX5_allRenters_2 : decode cX5_allRenters 2 = .ok (.invokevirtual 68, 3) := dk_182 0 68 (dk_at dksX5_allRenters_0 2 rfl rfl)
theorem dX5_allRenters_5 : decode cX5_allRenters 5 = .ok (.ishl, 1) := dk_120 (dk_at dksX5_allRenters_0 5 rfl rfl)
theorem dX5_allRenters_6 : decode cX5_allRenters 6 = .ok (.iconst 1, 1) := dk_4 (dk_at dksX5_allRenters_0 6 rfl rfl)
theorem dX5_allRenters_7 : decode cX5_allRenters 7 = .ok (.isub, 1) := dk_100 (dk_at dksX5_allRenters_0 7 rfl rfl)
theorem dX5_allRenters_8 : decode cX5_allRenters 8 = .ok (.ireturn, 1) := dk_172 (dk_at dksX5_allRenters_0 8 rfl rfl)
abbrev cX5_layCome : ByteArray := prog_14_method_49_code
def yX5_layCome : MethodName := ⟨RX5, "layCome", "(II)V"⟩
def dkwX5_layCome_7 : List UInt8 := [21, 5, 46, 96, 181, 0, 201, 132, 4, 1, 167, 255, 111, 177]
abbrev dktX5_layCome_7 : List UInt8 := dkwX5_layCome_7 ++ []
def dkwX5_layCome_6 : List UInt8 := [2, 130, 126, 62, 42, 89, 180, 0, 198, 4, 96, 181, 0, 198, 42, 89, 180, 0, 201, 42, 180, 0, 27]
abbrev dktX5_layCome_6 : List UInt8 := dkwX5_layCome_6 ++ dktX5_layCome_7
def dkwX5_layCome_5 : List UInt8 := [167, 0, 5, 21, 5, 54, 5, 132, 6, 1, 167, 255, 173, 21, 5, 2, 159, 0, 38, 29, 4, 21, 5, 120]
abbrev dktX5_layCome_5 : List UInt8 := dkwX5_layCome_5 ++ dktX5_layCome_6
def dkwX5_layCome_4 : List UInt8 := [159, 0, 20, 42, 180, 0, 27, 21, 6, 46, 42, 180, 0, 27, 21, 5, 46, 164, 0, 8, 21, 6]
abbrev dktX5_layCome_4 : List UInt8 := dkwX5_layCome_4 ++ dktX5_layCome_5
def dkwX5_layCome_3 : List UInt8 := [21, 6, 120, 126, 153, 0, 7, 4, 167, 0, 4, 3, 54, 7, 21, 7, 153, 0, 31, 21, 5, 2]
abbrev dktX5_layCome_3 : List UInt8 := dkwX5_layCome_3 ++ dktX5_layCome_4
def dkwX5_layCome_2 : List UInt8 := [162, 0, 80, 28, 21, 4, 122, 4, 126, 4, 160, 0, 70, 29, 42, 180, 0, 39, 21, 4, 46, 126, 4]
abbrev dktX5_layCome_2 : List UInt8 := dkwX5_layCome_2 ++ dktX5_layCome_3
def dkwX5_layCome_1 : List UInt8 := [3, 54, 4, 21, 4, 42, 180, 0, 131, 162, 0, 142, 2, 54, 5, 3, 54, 6, 21, 6, 42, 182, 0, 60]
abbrev dktX5_layCome_1 : List UInt8 := dkwX5_layCome_1 ++ dktX5_layCome_2
def dkwX5_layCome_0 : List UInt8 := [4, 42, 182, 0, 60, 120, 4, 100, 62, 42, 27, 182, 0, 180, 42, 3, 181, 0, 198, 42, 3, 181, 0, 201]
abbrev dktX5_layCome_0 : List UInt8 := dkwX5_layCome_0 ++ dktX5_layCome_1
theorem dksX5_layCome_0 : cX5_layCome.data.toList.drop 0 = dktX5_layCome_0 := by decide +kernel
theorem dksX5_layCome_1 : cX5_layCome.data.toList.drop 24 = dktX5_layCome_1 := dk_seg dksX5_layCome_0 24 rfl rfl
theorem dksX5_layCome_2 : cX5_layCome.data.toList.drop 48 = dktX5_layCome_2 := dk_seg dksX5_layCome_1 24 rfl rfl
theorem dksX5_layCome_3 : cX5_layCome.data.toList.drop 71 = dktX5_layCome_3 := dk_seg dksX5_layCome_2 23 rfl rfl
theorem dksX5_layCome_4 : cX5_layCome.data.toList.drop 93 = dktX5_layCome_4 := dk_seg dksX5_layCome_3 22 rfl rfl
theorem dksX5_layCome_5 : cX5_layCome.data.toList.drop 115 = dktX5_layCome_5 := dk_seg dksX5_layCome_4 22 rfl rfl
theorem dksX5_layCome_6 : cX5_layCome.data.toList.drop 139 = dktX5_layCome_6 := dk_seg dksX5_layCome_5 24 rfl rfl
theorem dksX5_layCome_7 : cX5_layCome.data.toList.drop 162 = dktX5_layCome_7 := dk_seg dksX5_layCome_6 23 rfl rfl
theorem dX5_layCome_0 : decode cX5_layCome 0 = .ok (.iconst 1, 1) := dk_4 (dk_at dksX5_layCome_0 0 rfl rfl)
theorem dX5_layCome_1 : decode cX5_layCome 1 = .ok (.aload_n 0, 1) := dk_42 (dk_at dksX5_layCome_0 1 rfl rfl)
theorem dX5_layCome_2 : decode cX5_layCome 2 = .ok (.invokevirtual 60, 3) := dk_182 0 60 (dk_at dksX5_layCome_0 2 rfl rfl)
theorem dX5_layCome_5 : decode cX5_layCome 5 = .ok (.ishl, 1) := dk_120 (dk_at dksX5_layCome_0 5 rfl rfl)
theorem dX5_layCome_6 : decode cX5_layCome 6 = .ok (.iconst 1, 1) := dk_4 (dk_at dksX5_layCome_0 6 rfl rfl)
theorem dX5_layCome_7 : decode cX5_layCome 7 = .ok (.isub, 1) := dk_100 (dk_at dksX5_layCome_0 7 rfl rfl)
theorem dX5_layCome_8 : decode cX5_layCome 8 = .ok (.istore_n 3, 1) := dk_62 (dk_at dksX5_layCome_0 8 rfl rfl)
theorem dX5_layCome_9 : decode cX5_layCome 9 = .ok (.aload_n 0, 1) := dk_42 (dk_at dksX5_layCome_0 9 rfl rfl)
theorem dX5_layCome_10 : decode cX5_layCome 10 = .ok (.iload_n 1, 1) := dk_27 (dk_at dksX5_layCome_0 10 rfl rfl)
theorem dX5_layCome_11 : decode cX5_layCome 11 = .ok (.invokevirtual 180, 3) := dk_182 0 180 (dk_at dksX5_layCome_0 11 rfl rfl)
theorem dX5_layCome_14 : decode cX5_layCome 14 = .ok (.aload_n 0, 1) := dk_42 (dk_at dksX5_layCome_0 14 rfl rfl)
theorem dX5_layCome_15 : decode cX5_layCome 15 = .ok (.iconst 0, 1) := dk_3 (dk_at dksX5_layCome_0 15 rfl rfl)
theorem dX5_layCome_16 : decode cX5_layCome 16 = .ok (.putfield 198, 3) := dk_181 0 198 (dk_at dksX5_layCome_0 16 rfl rfl)
theorem dX5_layCome_19 : decode cX5_layCome 19 = .ok (.aload_n 0, 1) := dk_42 (dk_at dksX5_layCome_0 19 rfl rfl)
theorem dX5_layCome_20 : decode cX5_layCome 20 = .ok (.iconst 0, 1) := dk_3 (dk_at dksX5_layCome_0 20 rfl rfl)
theorem dX5_layCome_21 : decode cX5_layCome 21 = .ok (.putfield 201, 3) := dk_181 0 201 (dk_at dksX5_layCome_0 21 rfl rfl)
theorem dX5_layCome_24 : decode cX5_layCome 24 = .ok (.iconst 0, 1) := dk_3 (dk_at dksX5_layCome_1 0 rfl rfl)
theorem dX5_layCome_25 : decode cX5_layCome 25 = .ok (.istore 4, 2) := dk_54 4 (dk_at dksX5_layCome_1 1 rfl rfl)
theorem dX5_layCome_27 : decode cX5_layCome 27 = .ok (.iload 4, 2) := dk_21 4 (dk_at dksX5_layCome_1 3 rfl rfl)
theorem dX5_layCome_29 : decode cX5_layCome 29 = .ok (.aload_n 0, 1) := dk_42 (dk_at dksX5_layCome_1 5 rfl rfl)
theorem dX5_layCome_30 : decode cX5_layCome 30 = .ok (.getfield 131, 3) := dk_180 0 131 (dk_at dksX5_layCome_1 6 rfl rfl)
theorem dX5_layCome_33 : decode cX5_layCome 33 = .ok (.if_icmp .ge 142, 3) := dk_162 0 142 (dk_at dksX5_layCome_1 9 rfl rfl)
theorem dX5_layCome_36 : decode cX5_layCome 36 = .ok (.iconst (-1), 1) := dk_2 (dk_at dksX5_layCome_1 12 rfl rfl)
theorem dX5_layCome_37 : decode cX5_layCome 37 = .ok (.istore 5, 2) := dk_54 5 (dk_at dksX5_layCome_1 13 rfl rfl)
theorem dX5_layCome_39 : decode cX5_layCome 39 = .ok (.iconst 0, 1) := dk_3 (dk_at dksX5_layCome_1 15 rfl rfl)
theorem dX5_layCome_40 : decode cX5_layCome 40 = .ok (.istore 6, 2) := dk_54 6 (dk_at dksX5_layCome_1 16 rfl rfl)
theorem dX5_layCome_42 : decode cX5_layCome 42 = .ok (.iload 6, 2) := dk_21 6 (dk_at dksX5_layCome_1 18 rfl rfl)
theorem dX5_layCome_44 : decode cX5_layCome 44 = .ok (.aload_n 0, 1) := dk_42 (dk_at dksX5_layCome_1 20 rfl rfl)
theorem dX5_layCome_45 : decode cX5_layCome 45 = .ok (.invokevirtual 60, 3) := dk_182 0 60 (dk_at dksX5_layCome_1 21 rfl rfl)
theorem dX5_layCome_48 : decode cX5_layCome 48 = .ok (.if_icmp .ge 80, 3) := dk_162 0 80 (dk_at dksX5_layCome_2 0 rfl rfl)
theorem dX5_layCome_51 : decode cX5_layCome 51 = .ok (.iload_n 2, 1) := dk_28 (dk_at dksX5_layCome_2 3 rfl rfl)
theorem dX5_layCome_52 : decode cX5_layCome 52 = .ok (.iload 4, 2) := dk_21 4 (dk_at dksX5_layCome_2 4 rfl rfl)
theorem dX5_layCome_54 : decode cX5_layCome 54 = .ok (.ishr, 1) := dk_122 (dk_at dksX5_layCome_2 6 rfl rfl)
theorem dX5_layCome_55 : decode cX5_layCome 55 = .ok (.iconst 1, 1) := dk_4 (dk_at dksX5_layCome_2 7 rfl rfl)
theorem dX5_layCome_56 : decode cX5_layCome 56 = .ok (.iand, 1) := dk_126 (dk_at dksX5_layCome_2 8 rfl rfl)
theorem dX5_layCome_57 : decode cX5_layCome 57 = .ok (.iconst 1, 1) := dk_4 (dk_at dksX5_layCome_2 9 rfl rfl)
theorem dX5_layCome_58 : decode cX5_layCome 58 = .ok (.if_icmp .ne 70, 3) := dk_160 0 70 (dk_at dksX5_layCome_2 10 rfl rfl)
theorem dX5_layCome_61 : decode cX5_layCome 61 = .ok (.iload_n 3, 1) := dk_29 (dk_at dksX5_layCome_2 13 rfl rfl)
theorem dX5_layCome_62 : decode cX5_layCome 62 = .ok (.aload_n 0, 1) := dk_42 (dk_at dksX5_layCome_2 14 rfl rfl)
theorem dX5_layCome_63 : decode cX5_layCome 63 = .ok (.getfield 39, 3) := dk_180 0 39 (dk_at dksX5_layCome_2 15 rfl rfl)
theorem dX5_layCome_66 : decode cX5_layCome 66 = .ok (.iload 4, 2) := dk_21 4 (dk_at dksX5_layCome_2 18 rfl rfl)
theorem dX5_layCome_68 : decode cX5_layCome 68 = .ok (.iaload, 1) := dk_46 (dk_at dksX5_layCome_2 20 rfl rfl)
theorem dX5_layCome_69 : decode cX5_layCome 69 = .ok (.iand, 1) := dk_126 (dk_at dksX5_layCome_2 21 rfl rfl)
theorem dX5_layCome_70 : decode cX5_layCome 70 = .ok (.iconst 1, 1) := dk_4 (dk_at dksX5_layCome_2 22 rfl rfl)
theorem dX5_layCome_71 : decode cX5_layCome 71 = .ok (.iload 6, 2) := dk_21 6 (dk_at dksX5_layCome_3 0 rfl rfl)
theorem dX5_layCome_73 : decode cX5_layCome 73 = .ok (.ishl, 1) := dk_120 (dk_at dksX5_layCome_3 2 rfl rfl)
theorem dX5_layCome_74 : decode cX5_layCome 74 = .ok (.iand, 1) := dk_126 (dk_at dksX5_layCome_3 3 rfl rfl)
theorem dX5_layCome_75 : decode cX5_layCome 75 = .ok (.ifCond .eq 7, 3) := dk_153 0 7 (dk_at dksX5_layCome_3 4 rfl rfl)
theorem dX5_layCome_78 : decode cX5_layCome 78 = .ok (.iconst 1, 1) := dk_4 (dk_at dksX5_layCome_3 7 rfl rfl)
theorem dX5_layCome_79 : decode cX5_layCome 79 = .ok (.goto 4, 3) := dk_167 0 4 (dk_at dksX5_layCome_3 8 rfl rfl)
theorem dX5_layCome_82 : decode cX5_layCome 82 = .ok (.iconst 0, 1) := dk_3 (dk_at dksX5_layCome_3 11 rfl rfl)
theorem dX5_layCome_83 : decode cX5_layCome 83 = .ok (.istore 7, 2) := dk_54 7 (dk_at dksX5_layCome_3 12 rfl rfl)
theorem dX5_layCome_85 : decode cX5_layCome 85 = .ok (.iload 7, 2) := dk_21 7 (dk_at dksX5_layCome_3 14 rfl rfl)
theorem dX5_layCome_87 : decode cX5_layCome 87 = .ok (.ifCond .eq 31, 3) := dk_153 0 31 (dk_at dksX5_layCome_3 16 rfl rfl)
theorem dX5_layCome_90 : decode cX5_layCome 90 = .ok (.iload 5, 2) := dk_21 5 (dk_at dksX5_layCome_3 19 rfl rfl)
theorem dX5_layCome_92 : decode cX5_layCome 92 = .ok (.iconst (-1), 1) := dk_2 (dk_at dksX5_layCome_3 21 rfl rfl)
theorem dX5_layCome_93 : decode cX5_layCome 93 = .ok (.if_icmp .eq 20, 3) := dk_159 0 20 (dk_at dksX5_layCome_4 0 rfl rfl)
theorem dX5_layCome_96 : decode cX5_layCome 96 = .ok (.aload_n 0, 1) := dk_42 (dk_at dksX5_layCome_4 3 rfl rfl)
theorem dX5_layCome_97 : decode cX5_layCome 97 = .ok (.getfield 27, 3) := dk_180 0 27 (dk_at dksX5_layCome_4 4 rfl rfl)
theorem dX5_layCome_100 : decode cX5_layCome 100 = .ok (.iload 6, 2) := dk_21 6 (dk_at dksX5_layCome_4 7 rfl rfl)
theorem dX5_layCome_102 : decode cX5_layCome 102 = .ok (.iaload, 1) := dk_46 (dk_at dksX5_layCome_4 9 rfl rfl)
theorem dX5_layCome_103 : decode cX5_layCome 103 = .ok (.aload_n 0, 1) := dk_42 (dk_at dksX5_layCome_4 10 rfl rfl)
theorem dX5_layCome_104 : decode cX5_layCome 104 = .ok (.getfield 27, 3) := dk_180 0 27 (dk_at dksX5_layCome_4 11 rfl rfl)
theorem dX5_layCome_107 : decode cX5_layCome 107 = .ok (.iload 5, 2) := dk_21 5 (dk_at dksX5_layCome_4 14 rfl rfl)
theorem dX5_layCome_109 : decode cX5_layCome 109 = .ok (.iaload, 1) := dk_46 (dk_at dksX5_layCome_4 16 rfl rfl)
theorem dX5_layCome_110 : decode cX5_layCome 110 = .ok (.if_icmp .le 8, 3) := dk_164 0 8 (dk_at dksX5_layCome_4 17 rfl rfl)
theorem dX5_layCome_113 : decode cX5_layCome 113 = .ok (.iload 6, 2) := dk_21 6 (dk_at dksX5_layCome_4 20 rfl rfl)
theorem dX5_layCome_115 : decode cX5_layCome 115 = .ok (.goto 5, 3) := dk_167 0 5 (dk_at dksX5_layCome_5 0 rfl rfl)
theorem dX5_layCome_118 : decode cX5_layCome 118 = .ok (.iload 5, 2) := dk_21 5 (dk_at dksX5_layCome_5 3 rfl rfl)
theorem dX5_layCome_120 : decode cX5_layCome 120 = .ok (.istore 5, 2) := dk_54 5 (dk_at dksX5_layCome_5 5 rfl rfl)
theorem dX5_layCome_122 : decode cX5_layCome 122 = .ok (.iinc 6 1, 3) := dk_132 6 1 (dk_at dksX5_layCome_5 7 rfl rfl)
theorem dX5_layCome_125 : decode cX5_layCome 125 = .ok (.goto (-83), 3) := dk_167 255 173 (dk_at dksX5_layCome_5 10 rfl rfl)
theorem dX5_layCome_128 : decode cX5_layCome 128 = .ok (.iload 5, 2) := dk_21 5 (dk_at dksX5_layCome_5 13 rfl rfl)
theorem dX5_layCome_130 : decode cX5_layCome 130 = .ok (.iconst (-1), 1) := dk_2 (dk_at dksX5_layCome_5 15 rfl rfl)
theorem dX5_layCome_131 : decode cX5_layCome 131 = .ok (.if_icmp .eq 38, 3) := dk_159 0 38 (dk_at dksX5_layCome_5 16 rfl rfl)
theorem dX5_layCome_134 : decode cX5_layCome 134 = .ok (.iload_n 3, 1) := dk_29 (dk_at dksX5_layCome_5 19 rfl rfl)
theorem dX5_layCome_135 : decode cX5_layCome 135 = .ok (.iconst 1, 1) := dk_4 (dk_at dksX5_layCome_5 20 rfl rfl)
theorem dX5_layCome_136 : decode cX5_layCome 136 = .ok (.iload 5, 2) := dk_21 5 (dk_at dksX5_layCome_5 21 rfl rfl)
theorem dX5_layCome_138 : decode cX5_layCome 138 = .ok (.ishl, 1) := dk_120 (dk_at dksX5_layCome_5 23 rfl rfl)
theorem dX5_layCome_139 : decode cX5_layCome 139 = .ok (.iconst (-1), 1) := dk_2 (dk_at dksX5_layCome_6 0 rfl rfl)
theorem dX5_layCome_140 : decode cX5_layCome 140 = .ok (.ixor, 1) := dk_130 (dk_at dksX5_layCome_6 1 rfl rfl)
theorem dX5_layCome_141 : decode cX5_layCome 141 = .ok (.iand, 1) := dk_126 (dk_at dksX5_layCome_6 2 rfl rfl)
theorem dX5_layCome_142 : decode cX5_layCome 142 = .ok (.istore_n 3, 1) := dk_62 (dk_at dksX5_layCome_6 3 rfl rfl)
theorem dX5_layCome_143 : decode cX5_layCome 143 = .ok (.aload_n 0, 1) := dk_42 (dk_at dksX5_layCome_6 4 rfl rfl)
theorem dX5_layCome_144 : decode cX5_layCome 144 = .ok (.dup, 1) := dk_89 (dk_at dksX5_layCome_6 5 rfl rfl)
theorem dX5_layCome_145 : decode cX5_layCome 145 = .ok (.getfield 198, 3) := dk_180 0 198 (dk_at dksX5_layCome_6 6 rfl rfl)
theorem dX5_layCome_148 : decode cX5_layCome 148 = .ok (.iconst 1, 1) := dk_4 (dk_at dksX5_layCome_6 9 rfl rfl)
theorem dX5_layCome_149 : decode cX5_layCome 149 = .ok (.iadd, 1) := dk_96 (dk_at dksX5_layCome_6 10 rfl rfl)
theorem dX5_layCome_150 : decode cX5_layCome 150 = .ok (.putfield 198, 3) := dk_181 0 198 (dk_at dksX5_layCome_6 11 rfl rfl)
theorem dX5_layCome_153 : decode cX5_layCome 153 = .ok (.aload_n 0, 1) := dk_42 (dk_at dksX5_layCome_6 14 rfl rfl)
theorem dX5_layCome_154 : decode cX5_layCome 154 = .ok (.dup, 1) := dk_89 (dk_at dksX5_layCome_6 15 rfl rfl)
theorem dX5_layCome_155 : decode cX5_layCome 155 = .ok (.getfield 201, 3) := dk_180 0 201 (dk_at dksX5_layCome_6 16 rfl rfl)
theorem dX5_layCome_158 : decode cX5_layCome 158 = .ok (.aload_n 0, 1) := dk_42 (dk_at dksX5_layCome_6 19 rfl rfl)
theorem dX5_layCome_159 : decode cX5_layCome 159 = .ok (.getfield 27, 3) := dk_180 0 27 (dk_at dksX5_layCome_6 20 rfl rfl)
theorem dX5_layCome_162 : decode cX5_layCome 162 = .ok (.iload 5, 2) := dk_21 5 (dk_at dksX5_layCome_7 0 rfl rfl)
theorem dX5_layCome_164 : decode cX5_layCome 164 = .ok (.iaload, 1) := dk_46 (dk_at dksX5_layCome_7 2 rfl rfl)
theorem dX5_layCome_165 : decode cX5_layCome 165 = .ok (.iadd, 1) := dk_96 (dk_at dksX5_layCome_7 3 rfl rfl)
theorem dX5_layCome_166 : decode cX5_layCome 166 = .ok (.putfield 201, 3) := dk_181 0 201 (dk_at dksX5_layCome_7 4 rfl rfl)
theorem dX5_layCome_169 : decode cX5_layCome 169 = .ok (.iinc 4 1, 3) := dk_132 4 1 (dk_at dksX5_layCome_7 7 rfl rfl)
theorem dX5_layCome_172 : decode cX5_layCome 172 = .ok (.goto (-145), 3) := dk_167 255 111 (dk_at dksX5_layCome_7 10 rfl rfl)
theorem dX5_layCome_175 : decode cX5_layCome 175 = .ok (.return_, 1) := dk_177 (dk_at dksX5_layCome_7 13 rfl rfl)
abbrev cX5_more : ByteArray := prog_14_method_52_code
def yX5_more : MethodName := ⟨RX5, "more", "(IIII)I"⟩
def dkwX5_more_4 : List UInt8 := [182, 0, 195, 42, 180, 0, 174, 21, 5, 100, 172]
abbrev dktX5_more_4 : List UInt8 := dkwX5_more_4 ++ []
def dkwX5_more_3 : List UInt8 := [79, 42, 180, 0, 36, 42, 180, 0, 131, 21, 4, 79, 42, 89, 180, 0, 131, 4, 96, 181, 0, 131, 42, 27]
abbrev dktX5_more_3 : List UInt8 := dkwX5_more_3 ++ dktX5_more_4
def dkwX5_more_2 : List UInt8 := [180, 0, 174, 54, 5, 42, 180, 0, 30, 42, 180, 0, 131, 28, 79, 42, 180, 0, 33, 42, 180, 0, 131, 29]
abbrev dktX5_more_2 : List UInt8 := dkwX5_more_2 ++ dktX5_more_3
def dkwX5_more_1 : List UInt8 := [42, 182, 0, 68, 16, 6, 160, 0, 8, 42, 182, 0, 157, 172, 42, 182, 0, 151, 42, 27, 182, 0, 195, 42]
abbrev dktX5_more_1 : List UInt8 := dkwX5_more_1 ++ dktX5_more_2
def dkwX5_more_0 : List UInt8 := [27, 184, 0, 171, 153, 0, 13, 28, 29, 21, 4, 184, 0, 104, 154, 0, 10, 42, 16, 254, 182, 0, 89, 172]
abbrev dktX5_more_0 : List UInt8 := dkwX5_more_0 ++ dktX5_more_1
theorem dksX5_more_0 : cX5_more.data.toList.drop 0 = dktX5_more_0 := by decide +kernel
theorem dksX5_more_1 : cX5_more.data.toList.drop 24 = dktX5_more_1 := dk_seg dksX5_more_0 24 rfl rfl
theorem dksX5_more_2 : cX5_more.data.toList.drop 48 = dktX5_more_2 := dk_seg dksX5_more_1 24 rfl rfl
theorem dksX5_more_3 : cX5_more.data.toList.drop 72 = dktX5_more_3 := dk_seg dksX5_more_2 24 rfl rfl
theorem dksX5_more_4 : cX5_more.data.toList.drop 96 = dktX5_more_4 := dk_seg dksX5_more_3 24 rfl rfl
theorem dX5_more_0 : decode cX5_more 0 = .ok (.iload_n 1, 1) := dk_27 (dk_at dksX5_more_0 0 rfl rfl)
theorem dX5_more_1 : decode cX5_more 1 = .ok (.invokestatic 171, 3) := dk_184 0 171 (dk_at dksX5_more_0 1 rfl rfl)
theorem dX5_more_4 : decode cX5_more 4 = .ok (.ifCond .eq 13, 3) := dk_153 0 13 (dk_at dksX5_more_0 4 rfl rfl)
theorem dX5_more_7 : decode cX5_more 7 = .ok (.iload_n 2, 1) := dk_28 (dk_at dksX5_more_0 7 rfl rfl)
theorem dX5_more_8 : decode cX5_more 8 = .ok (.iload_n 3, 1) := dk_29 (dk_at dksX5_more_0 8 rfl rfl)
theorem dX5_more_9 : decode cX5_more 9 = .ok (.iload 4, 2) := dk_21 4 (dk_at dksX5_more_0 9 rfl rfl)
theorem dX5_more_11 : decode cX5_more 11 = .ok (.invokestatic 104, 3) := dk_184 0 104 (dk_at dksX5_more_0 11 rfl rfl)
theorem dX5_more_14 : decode cX5_more 14 = .ok (.ifCond .ne 10, 3) := dk_154 0 10 (dk_at dksX5_more_0 14 rfl rfl)
theorem dX5_more_17 : decode cX5_more 17 = .ok (.aload_n 0, 1) := dk_42 (dk_at dksX5_more_0 17 rfl rfl)
theorem dX5_more_18 : decode cX5_more 18 = .ok (.bipush (-2), 2) := dk_16 254 (dk_at dksX5_more_0 18 rfl rfl)
theorem dX5_more_20 : decode cX5_more 20 = .ok (.invokevirtual 89, 3) := dk_182 0 89 (dk_at dksX5_more_0 20 rfl rfl)
theorem dX5_more_23 : decode cX5_more 23 = .ok (.ireturn, 1) := dk_172 (dk_at dksX5_more_0 23 rfl rfl)
theorem dX5_more_24 : decode cX5_more 24 = .ok (.aload_n 0, 1) := dk_42 (dk_at dksX5_more_1 0 rfl rfl)
theorem dX5_more_25 : decode cX5_more 25 = .ok (.invokevirtual 68, 3) := dk_182 0 68 (dk_at dksX5_more_1 1 rfl rfl)
theorem dX5_more_28 : decode cX5_more 28 = .ok (.bipush 6, 2) := dk_16 6 (dk_at dksX5_more_1 4 rfl rfl)
theorem dX5_more_30 : decode cX5_more 30 = .ok (.if_icmp .ne 8, 3) := dk_160 0 8 (dk_at dksX5_more_1 6 rfl rfl)
theorem dX5_more_33 : decode cX5_more 33 = .ok (.aload_n 0, 1) := dk_42 (dk_at dksX5_more_1 9 rfl rfl)
theorem dX5_more_34 : decode cX5_more 34 = .ok (.invokevirtual 157, 3) := dk_182 0 157 (dk_at dksX5_more_1 10 rfl rfl)
theorem dX5_more_37 : decode cX5_more 37 = .ok (.ireturn, 1) := dk_172 (dk_at dksX5_more_1 13 rfl rfl)
theorem dX5_more_38 : decode cX5_more 38 = .ok (.aload_n 0, 1) := dk_42 (dk_at dksX5_more_1 14 rfl rfl)
theorem dX5_more_39 : decode cX5_more 39 = .ok (.invokevirtual 151, 3) := dk_182 0 151 (dk_at dksX5_more_1 15 rfl rfl)
theorem dX5_more_42 : decode cX5_more 42 = .ok (.aload_n 0, 1) := dk_42 (dk_at dksX5_more_1 18 rfl rfl)
theorem dX5_more_43 : decode cX5_more 43 = .ok (.iload_n 1, 1) := dk_27 (dk_at dksX5_more_1 19 rfl rfl)
theorem dX5_more_44 : decode cX5_more 44 = .ok (.invokevirtual 195, 3) := dk_182 0 195 (dk_at dksX5_more_1 20 rfl rfl)
theorem dX5_more_47 : decode cX5_more 47 = .ok (.aload_n 0, 1) := dk_42 (dk_at dksX5_more_1 23 rfl rfl)
theorem dX5_more_48 : decode cX5_more 48 = .ok (.getfield 174, 3) := dk_180 0 174 (dk_at dksX5_more_2 0 rfl rfl)
theorem dX5_more_51 : decode cX5_more 51 = .ok (.istore 5, 2) := dk_54 5 (dk_at dksX5_more_2 3 rfl rfl)
theorem dX5_more_53 : decode cX5_more 53 = .ok (.aload_n 0, 1) := dk_42 (dk_at dksX5_more_2 5 rfl rfl)
theorem dX5_more_54 : decode cX5_more 54 = .ok (.getfield 30, 3) := dk_180 0 30 (dk_at dksX5_more_2 6 rfl rfl)
theorem dX5_more_57 : decode cX5_more 57 = .ok (.aload_n 0, 1) := dk_42 (dk_at dksX5_more_2 9 rfl rfl)
theorem dX5_more_58 : decode cX5_more 58 = .ok (.getfield 131, 3) := dk_180 0 131 (dk_at dksX5_more_2 10 rfl rfl)
theorem dX5_more_61 : decode cX5_more 61 = .ok (.iload_n 2, 1) := dk_28 (dk_at dksX5_more_2 13 rfl rfl)
theorem dX5_more_62 : decode cX5_more 62 = .ok (.iastore, 1) := dk_79 (dk_at dksX5_more_2 14 rfl rfl)
theorem dX5_more_63 : decode cX5_more 63 = .ok (.aload_n 0, 1) := dk_42 (dk_at dksX5_more_2 15 rfl rfl)
theorem dX5_more_64 : decode cX5_more 64 = .ok (.getfield 33, 3) := dk_180 0 33 (dk_at dksX5_more_2 16 rfl rfl)
theorem dX5_more_67 : decode cX5_more 67 = .ok (.aload_n 0, 1) := dk_42 (dk_at dksX5_more_2 19 rfl rfl)
theorem dX5_more_68 : decode cX5_more 68 = .ok (.getfield 131, 3) := dk_180 0 131 (dk_at dksX5_more_2 20 rfl rfl)
theorem dX5_more_71 : decode cX5_more 71 = .ok (.iload_n 3, 1) := dk_29 (dk_at dksX5_more_2 23 rfl rfl)
theorem dX5_more_72 : decode cX5_more 72 = .ok (.iastore, 1) := dk_79 (dk_at dksX5_more_3 0 rfl rfl)
theorem dX5_more_73 : decode cX5_more 73 = .ok (.aload_n 0, 1) := dk_42 (dk_at dksX5_more_3 1 rfl rfl)
theorem dX5_more_74 : decode cX5_more 74 = .ok (.getfield 36, 3) := dk_180 0 36 (dk_at dksX5_more_3 2 rfl rfl)
theorem dX5_more_77 : decode cX5_more 77 = .ok (.aload_n 0, 1) := dk_42 (dk_at dksX5_more_3 5 rfl rfl)
theorem dX5_more_78 : decode cX5_more 78 = .ok (.getfield 131, 3) := dk_180 0 131 (dk_at dksX5_more_3 6 rfl rfl)
theorem dX5_more_81 : decode cX5_more 81 = .ok (.iload 4, 2) := dk_21 4 (dk_at dksX5_more_3 9 rfl rfl)
theorem dX5_more_83 : decode cX5_more 83 = .ok (.iastore, 1) := dk_79 (dk_at dksX5_more_3 11 rfl rfl)
theorem dX5_more_84 : decode cX5_more 84 = .ok (.aload_n 0, 1) := dk_42 (dk_at dksX5_more_3 12 rfl rfl)
theorem dX5_more_85 : decode cX5_more 85 = .ok (.dup, 1) := dk_89 (dk_at dksX5_more_3 13 rfl rfl)
theorem dX5_more_86 : decode cX5_more 86 = .ok (.getfield 131, 3) := dk_180 0 131 (dk_at dksX5_more_3 14 rfl rfl)
theorem dX5_more_89 : decode cX5_more 89 = .ok (.iconst 1, 1) := dk_4 (dk_at dksX5_more_3 17 rfl rfl)
theorem dX5_more_90 : decode cX5_more 90 = .ok (.iadd, 1) := dk_96 (dk_at dksX5_more_3 18 rfl rfl)
theorem dX5_more_91 : decode cX5_more 91 = .ok (.putfield 131, 3) := dk_181 0 131 (dk_at dksX5_more_3 19 rfl rfl)
theorem dX5_more_94 : decode cX5_more 94 = .ok (.aload_n 0, 1) := dk_42 (dk_at dksX5_more_3 22 rfl rfl)
theorem dX5_more_95 : decode cX5_more 95 = .ok (.iload_n 1, 1) := dk_27 (dk_at dksX5_more_3 23 rfl rfl)
theorem dX5_more_96 : decode cX5_more 96 = .ok (.invokevirtual 195, 3) := dk_182 0 195 (dk_at dksX5_more_4 0 rfl rfl)
theorem dX5_more_99 : decode cX5_more 99 = .ok (.aload_n 0, 1) := dk_42 (dk_at dksX5_more_4 3 rfl rfl)
theorem dX5_more_100 : decode cX5_more 100 = .ok (.getfield 174, 3) := dk_180 0 174 (dk_at dksX5_more_4 4 rfl rfl)
theorem dX5_more_103 : decode cX5_more 103 = .ok (.iload 5, 2) := dk_21 5 (dk_at dksX5_more_4 7 rfl rfl)
theorem dX5_more_105 : decode cX5_more 105 = .ok (.isub, 1) := dk_100 (dk_at dksX5_more_4 9 rfl rfl)
theorem dX5_more_106 : decode cX5_more 106 = .ok (.ireturn, 1) := dk_172 (dk_at dksX5_more_4 10 rfl rfl)
abbrev cX5_changed : ByteArray := prog_14_method_53_code
def yX5_changed : MethodName := ⟨RX5, "changed", "(II)I"⟩
def dkwX5_changed_4 : List UInt8 := [21, 4, 54, 4, 132, 5, 1, 167, 255, 188, 29, 172]
abbrev dktX5_changed_4 : List UInt8 := dkwX5_changed_4 ++ []
def dkwX5_changed_3 : List UInt8 := [21, 5, 167, 0, 4, 29, 62, 42, 180, 0, 177, 21, 4, 164, 0, 10, 42, 180, 0, 177, 167, 0, 5]
abbrev dktX5_changed_3 : List UInt8 := dkwX5_changed_3 ++ dktX5_changed_4
def dkwX5_changed_2 : List UInt8 := [3, 182, 0, 117, 21, 5, 184, 0, 128, 79, 42, 27, 182, 0, 195, 42, 180, 0, 177, 21, 4, 164, 0, 8]
abbrev dktX5_changed_2 : List UInt8 := dkwX5_changed_2 ++ dktX5_changed_3
def dkwX5_changed_1 : List UInt8 := [2, 54, 4, 42, 182, 0, 151, 3, 54, 5, 21, 5, 16, 100, 162, 0, 67, 42, 180, 0, 27, 28, 42, 28]
abbrev dktX5_changed_1 : List UInt8 := dkwX5_changed_1 ++ dktX5_changed_2
def dkwX5_changed_0 : List UInt8 := [27, 184, 0, 171, 153, 0, 11, 42, 28, 182, 0, 112, 154, 0, 10, 42, 16, 254, 182, 0, 89, 172, 3, 62]
abbrev dktX5_changed_0 : List UInt8 := dkwX5_changed_0 ++ dktX5_changed_1
theorem dksX5_changed_0 : cX5_changed.data.toList.drop 0 = dktX5_changed_0 := by decide +kernel
theorem dksX5_changed_1 : cX5_changed.data.toList.drop 24 = dktX5_changed_1 := dk_seg dksX5_changed_0 24 rfl rfl
theorem dksX5_changed_2 : cX5_changed.data.toList.drop 48 = dktX5_changed_2 := dk_seg dksX5_changed_1 24 rfl rfl
theorem dksX5_changed_3 : cX5_changed.data.toList.drop 72 = dktX5_changed_3 := dk_seg dksX5_changed_2 24 rfl rfl
theorem dksX5_changed_4 : cX5_changed.data.toList.drop 95 = dktX5_changed_4 := dk_seg dksX5_changed_3 23 rfl rfl
theorem dX5_changed_0 : decode cX5_changed 0 = .ok (.iload_n 1, 1) := dk_27 (dk_at dksX5_changed_0 0 rfl rfl)
theorem dX5_changed_1 : decode cX5_changed 1 = .ok (.invokestatic 171, 3) := dk_184 0 171 (dk_at dksX5_changed_0 1 rfl rfl)
theorem dX5_changed_4 : decode cX5_changed 4 = .ok (.ifCond .eq 11, 3) := dk_153 0 11 (dk_at dksX5_changed_0 4 rfl rfl)
theorem dX5_changed_7 : decode cX5_changed 7 = .ok (.aload_n 0, 1) := dk_42 (dk_at dksX5_changed_0 7 rfl rfl)
theorem dX5_changed_8 : decode cX5_changed 8 = .ok (.iload_n 2, 1) := dk_28 (dk_at dksX5_changed_0 8 rfl rfl)
theorem dX5_changed_9 : decode cX5_changed 9 = .ok (.invokevirtual 112, 3) := dk_182 0 112 (dk_at dksX5_changed_0 9 rfl rfl)
theorem dX5_changed_12 : decode cX5_changed 12 = .ok (.ifCond .ne 10, 3) := dk_154 0 10 (dk_at dksX5_changed_0 12 rfl rfl)
theorem dX5_changed_15 : decode cX5_changed 15 = .ok (.aload_n 0, 1) := dk_42 (dk_at dksX5_changed_0 15 rfl rfl)
theorem dX5_changed_16 : decode cX5_changed 16 = .ok (.bipush (-2), 2) := dk_16 254 (dk_at dksX5_changed_0 16 rfl rfl)
theorem dX5_changed_18 : decode cX5_changed 18 = .ok (.invokevirtual 89, 3) := dk_182 0 89 (dk_at dksX5_changed_0 18 rfl rfl)
theorem dX5_changed_21 : decode cX5_changed 21 = .ok (.ireturn, 1) := dk_172 (dk_at dksX5_changed_0 21 rfl rfl)
theorem dX5_changed_22 : decode cX5_changed 22 = .ok (.iconst 0, 1) := dk_3 (dk_at dksX5_changed_0 22 rfl rfl)
theorem dX5_changed_23 : decode cX5_changed 23 = .ok (.istore_n 3, 1) := dk_62 (dk_at dksX5_changed_0 23 rfl rfl)
theorem dX5_changed_24 : decode cX5_changed 24 = .ok (.iconst (-1), 1) := dk_2 (dk_at dksX5_changed_1 0 rfl rfl)
theorem dX5_changed_25 : decode cX5_changed 25 = .ok (.istore 4, 2) := dk_54 4 (dk_at dksX5_changed_1 1 rfl rfl)
theorem dX5_changed_27 : decode cX5_changed 27 = .ok (.aload_n 0, 1) := dk_42 (dk_at dksX5_changed_1 3 rfl rfl)
theorem dX5_changed_28 : decode cX5_changed 28 = .ok (.invokevirtual 151, 3) := dk_182 0 151 (dk_at dksX5_changed_1 4 rfl rfl)
theorem dX5_changed_31 : decode cX5_changed 31 = .ok (.iconst 0, 1) := dk_3 (dk_at dksX5_changed_1 7 rfl rfl)
theorem dX5_changed_32 : decode cX5_changed 32 = .ok (.istore 5, 2) := dk_54 5 (dk_at dksX5_changed_1 8 rfl rfl)
theorem dX5_changed_34 : decode cX5_changed 34 = .ok (.iload 5, 2) := dk_21 5 (dk_at dksX5_changed_1 10 rfl rfl)
theorem dX5_changed_36 : decode cX5_changed 36 = .ok (.bipush 100, 2) := dk_16 100 (dk_at dksX5_changed_1 12 rfl rfl)
theorem dX5_changed_38 : decode cX5_changed 38 = .ok (.if_icmp .ge 67, 3) := dk_162 0 67 (dk_at dksX5_changed_1 14 rfl rfl)
theorem dX5_changed_41 : decode cX5_changed 41 = .ok (.aload_n 0, 1) := dk_42 (dk_at dksX5_changed_1 17 rfl rfl)
theorem dX5_changed_42 : decode cX5_changed 42 = .ok (.getfield 27, 3) := dk_180 0 27 (dk_at dksX5_changed_1 18 rfl rfl)
theorem dX5_changed_45 : decode cX5_changed 45 = .ok (.iload_n 2, 1) := dk_28 (dk_at dksX5_changed_1 21 rfl rfl)
theorem dX5_changed_46 : decode cX5_changed 46 = .ok (.aload_n 0, 1) := dk_42 (dk_at dksX5_changed_1 22 rfl rfl)
theorem dX5_changed_47 : decode cX5_changed 47 = .ok (.iload_n 2, 1) := dk_28 (dk_at dksX5_changed_1 23 rfl rfl)
theorem dX5_changed_48 : decode cX5_changed 48 = .ok (.iconst 0, 1) := dk_3 (dk_at dksX5_changed_2 0 rfl rfl)
theorem dX5_changed_49 : decode cX5_changed 49 = .ok (.invokevirtual 117, 3) := dk_182 0 117 (dk_at dksX5_changed_2 1 rfl rfl)
theorem dX5_changed_52 : decode cX5_changed 52 = .ok (.iload 5, 2) := dk_21 5 (dk_at dksX5_changed_2 4 rfl rfl)
theorem dX5_changed_54 : decode cX5_changed 54 = .ok (.invokestatic 128, 3) := dk_184 0 128 (dk_at dksX5_changed_2 6 rfl rfl)
theorem dX5_changed_57 : decode cX5_changed 57 = .ok (.iastore, 1) := dk_79 (dk_at dksX5_changed_2 9 rfl rfl)
theorem dX5_changed_58 : decode cX5_changed 58 = .ok (.aload_n 0, 1) := dk_42 (dk_at dksX5_changed_2 10 rfl rfl)
theorem dX5_changed_59 : decode cX5_changed 59 = .ok (.iload_n 1, 1) := dk_27 (dk_at dksX5_changed_2 11 rfl rfl)
theorem dX5_changed_60 : decode cX5_changed 60 = .ok (.invokevirtual 195, 3) := dk_182 0 195 (dk_at dksX5_changed_2 12 rfl rfl)
theorem dX5_changed_63 : decode cX5_changed 63 = .ok (.aload_n 0, 1) := dk_42 (dk_at dksX5_changed_2 15 rfl rfl)
theorem dX5_changed_64 : decode cX5_changed 64 = .ok (.getfield 177, 3) := dk_180 0 177 (dk_at dksX5_changed_2 16 rfl rfl)
theorem dX5_changed_67 : decode cX5_changed 67 = .ok (.iload 4, 2) := dk_21 4 (dk_at dksX5_changed_2 19 rfl rfl)
theorem dX5_changed_69 : decode cX5_changed 69 = .ok (.if_icmp .le 8, 3) := dk_164 0 8 (dk_at dksX5_changed_2 21 rfl rfl)
theorem dX5_changed_72 : decode cX5_changed 72 = .ok (.iload 5, 2) := dk_21 5 (dk_at dksX5_changed_3 0 rfl rfl)
theorem dX5_changed_74 : decode cX5_changed 74 = .ok (.goto 4, 3) := dk_167 0 4 (dk_at dksX5_changed_3 2 rfl rfl)
theorem dX5_changed_77 : decode cX5_changed 77 = .ok (.iload_n 3, 1) := dk_29 (dk_at dksX5_changed_3 5 rfl rfl)
theorem dX5_changed_78 : decode cX5_changed 78 = .ok (.istore_n 3, 1) := dk_62 (dk_at dksX5_changed_3 6 rfl rfl)
theorem dX5_changed_79 : decode cX5_changed 79 = .ok (.aload_n 0, 1) := dk_42 (dk_at dksX5_changed_3 7 rfl rfl)
theorem dX5_changed_80 : decode cX5_changed 80 = .ok (.getfield 177, 3) := dk_180 0 177 (dk_at dksX5_changed_3 8 rfl rfl)
theorem dX5_changed_83 : decode cX5_changed 83 = .ok (.iload 4, 2) := dk_21 4 (dk_at dksX5_changed_3 11 rfl rfl)
theorem dX5_changed_85 : decode cX5_changed 85 = .ok (.if_icmp .le 10, 3) := dk_164 0 10 (dk_at dksX5_changed_3 13 rfl rfl)
theorem dX5_changed_88 : decode cX5_changed 88 = .ok (.aload_n 0, 1) := dk_42 (dk_at dksX5_changed_3 16 rfl rfl)
theorem dX5_changed_89 : decode cX5_changed 89 = .ok (.getfield 177, 3) := dk_180 0 177 (dk_at dksX5_changed_3 17 rfl rfl)
theorem dX5_changed_92 : decode cX5_changed 92 = .ok (.goto 5, 3) := dk_167 0 5 (dk_at dksX5_changed_3 20 rfl rfl)
theorem dX5_changed_95 : decode cX5_changed 95 = .ok (.iload 4, 2) := dk_21 4 (dk_at dksX5_changed_4 0 rfl rfl)
theorem dX5_changed_97 : decode cX5_changed 97 = .ok (.istore 4, 2) := dk_54 4 (dk_at dksX5_changed_4 2 rfl rfl)
theorem dX5_changed_99 : decode cX5_changed 99 = .ok (.iinc 5 1, 3) := dk_132 5 1 (dk_at dksX5_changed_4 4 rfl rfl)
theorem dX5_changed_102 : decode cX5_changed 102 = .ok (.goto (-68), 3) := dk_167 255 188 (dk_at dksX5_changed_4 7 rfl rfl)
theorem dX5_changed_105 : decode cX5_changed 105 = .ok (.iload_n 3, 1) := dk_29 (dk_at dksX5_changed_4 10 rfl rfl)
theorem dX5_changed_106 : decode cX5_changed 106 = .ok (.ireturn, 1) := dk_172 (dk_at dksX5_changed_4 11 rfl rfl)
abbrev cX5_air : ByteArray := prog_14_method_55_code
def yX5_air : MethodName := ⟨RX5, "air", "(I)I"⟩
def dkwX5_air_2 : List UInt8 := [180, 0, 7, 5, 46, 182, 0, 142, 42, 29, 42, 180, 0, 7, 5, 46, 182, 0, 142, 96, 16, 6, 112, 172]
abbrev dktX5_air_2 : List UInt8 := dkwX5_air_2 ++ []
def dkwX5_air_1 : List UInt8 := [130, 182, 0, 154, 62, 28, 2, 159, 0, 8, 29, 2, 160, 0, 7, 2, 167, 0, 29, 42, 28, 42]
abbrev dktX5_air_1 : List UInt8 := dkwX5_air_1 ++ dktX5_air_2
def dkwX5_air_0 : List UInt8 := [42, 27, 182, 0, 212, 154, 0, 10, 42, 16, 254, 182, 0, 89, 172, 42, 27, 182, 0, 154, 61, 42, 27, 4]
abbrev dktX5_air_0 : List UInt8 := dkwX5_air_0 ++ dktX5_air_1
theorem dksX5_air_0 : cX5_air.data.toList.drop 0 = dktX5_air_0 := by decide +kernel
theorem dksX5_air_1 : cX5_air.data.toList.drop 24 = dktX5_air_1 := dk_seg dksX5_air_0 24 rfl rfl
theorem dksX5_air_2 : cX5_air.data.toList.drop 46 = dktX5_air_2 := dk_seg dksX5_air_1 22 rfl rfl
theorem dX5_air_0 : decode cX5_air 0 = .ok (.aload_n 0, 1) := dk_42 (dk_at dksX5_air_0 0 rfl rfl)
theorem dX5_air_1 : decode cX5_air 1 = .ok (.iload_n 1, 1) := dk_27 (dk_at dksX5_air_0 1 rfl rfl)
theorem dX5_air_2 : decode cX5_air 2 = .ok (.invokevirtual 212, 3) := dk_182 0 212 (dk_at dksX5_air_0 2 rfl rfl)
theorem dX5_air_5 : decode cX5_air 5 = .ok (.ifCond .ne 10, 3) := dk_154 0 10 (dk_at dksX5_air_0 5 rfl rfl)
theorem dX5_air_8 : decode cX5_air 8 = .ok (.aload_n 0, 1) := dk_42 (dk_at dksX5_air_0 8 rfl rfl)
theorem dX5_air_9 : decode cX5_air 9 = .ok (.bipush (-2), 2) := dk_16 254 (dk_at dksX5_air_0 9 rfl rfl)
theorem dX5_air_11 : decode cX5_air 11 = .ok (.invokevirtual 89, 3) := dk_182 0 89 (dk_at dksX5_air_0 11 rfl rfl)
theorem dX5_air_14 : decode cX5_air 14 = .ok (.ireturn, 1) := dk_172 (dk_at dksX5_air_0 14 rfl rfl)
theorem dX5_air_15 : decode cX5_air 15 = .ok (.aload_n 0, 1) := dk_42 (dk_at dksX5_air_0 15 rfl rfl)
theorem dX5_air_16 : decode cX5_air 16 = .ok (.iload_n 1, 1) := dk_27 (dk_at dksX5_air_0 16 rfl rfl)
theorem dX5_air_17 : decode cX5_air 17 = .ok (.invokevirtual 154, 3) := dk_182 0 154 (dk_at dksX5_air_0 17 rfl rfl)
theorem dX5_air_20 : decode cX5_air 20 = .ok (.istore_n 2, 1) := dk_61 (dk_at dksX5_air_0 20 rfl rfl)
theorem dX5_air_21 : decode cX5_air 21 = .ok (.aload_n 0, 1) := dk_42 (dk_at dksX5_air_0 21 rfl rfl)
theorem dX5_air_22 : decode cX5_air 22 = .ok (.iload_n 1, 1) := dk_27 (dk_at dksX5_air_0 22 rfl rfl)
theorem dX5_air_23 : decode cX5_air 23 = .ok (.iconst 1, 1) := dk_4 (dk_at dksX5_air_0 23 rfl rfl)
theorem dX5_air_24 : decode cX5_air 24 = .ok (.ixor, 1) := dk_130 (dk_at dksX5_air_1 0 rfl rfl)
theorem dX5_air_25 : decode cX5_air 25 = .ok (.invokevirtual 154, 3) := dk_182 0 154 (dk_at dksX5_air_1 1 rfl rfl)
theorem dX5_air_28 : decode cX5_air 28 = .ok (.istore_n 3, 1) := dk_62 (dk_at dksX5_air_1 4 rfl rfl)
theorem dX5_air_29 : decode cX5_air 29 = .ok (.iload_n 2, 1) := dk_28 (dk_at dksX5_air_1 5 rfl rfl)
theorem dX5_air_30 : decode cX5_air 30 = .ok (.iconst (-1), 1) := dk_2 (dk_at dksX5_air_1 6 rfl rfl)
theorem dX5_air_31 : decode cX5_air 31 = .ok (.if_icmp .eq 8, 3) := dk_159 0 8 (dk_at dksX5_air_1 7 rfl rfl)
theorem dX5_air_34 : decode cX5_air 34 = .ok (.iload_n 3, 1) := dk_29 (dk_at dksX5_air_1 10 rfl rfl)
theorem dX5_air_35 : decode cX5_air 35 = .ok (.iconst (-1), 1) := dk_2 (dk_at dksX5_air_1 11 rfl rfl)
theorem dX5_air_36 : decode cX5_air 36 = .ok (.if_icmp .ne 7, 3) := dk_160 0 7 (dk_at dksX5_air_1 12 rfl rfl)
theorem dX5_air_39 : decode cX5_air 39 = .ok (.iconst (-1), 1) := dk_2 (dk_at dksX5_air_1 15 rfl rfl)
theorem dX5_air_40 : decode cX5_air 40 = .ok (.goto 29, 3) := dk_167 0 29 (dk_at dksX5_air_1 16 rfl rfl)
theorem dX5_air_43 : decode cX5_air 43 = .ok (.aload_n 0, 1) := dk_42 (dk_at dksX5_air_1 19 rfl rfl)
theorem dX5_air_44 : decode cX5_air 44 = .ok (.iload_n 2, 1) := dk_28 (dk_at dksX5_air_1 20 rfl rfl)
theorem dX5_air_45 : decode cX5_air 45 = .ok (.aload_n 0, 1) := dk_42 (dk_at dksX5_air_1 21 rfl rfl)
theorem dX5_air_46 : decode cX5_air 46 = .ok (.getfield 7, 3) := dk_180 0 7 (dk_at dksX5_air_2 0 rfl rfl)
theorem dX5_air_49 : decode cX5_air 49 = .ok (.iconst 2, 1) := dk_5 (dk_at dksX5_air_2 3 rfl rfl)
theorem dX5_air_50 : decode cX5_air 50 = .ok (.iaload, 1) := dk_46 (dk_at dksX5_air_2 4 rfl rfl)
theorem dX5_air_51 : decode cX5_air 51 = .ok (.invokevirtual 142, 3) := dk_182 0 142 (dk_at dksX5_air_2 5 rfl rfl)
theorem dX5_air_54 : decode cX5_air 54 = .ok (.aload_n 0, 1) := dk_42 (dk_at dksX5_air_2 8 rfl rfl)
theorem dX5_air_55 : decode cX5_air 55 = .ok (.iload_n 3, 1) := dk_29 (dk_at dksX5_air_2 9 rfl rfl)
theorem dX5_air_56 : decode cX5_air 56 = .ok (.aload_n 0, 1) := dk_42 (dk_at dksX5_air_2 10 rfl rfl)
theorem dX5_air_57 : decode cX5_air 57 = .ok (.getfield 7, 3) := dk_180 0 7 (dk_at dksX5_air_2 11 rfl rfl)
theorem dX5_air_60 : decode cX5_air 60 = .ok (.iconst 2, 1) := dk_5 (dk_at dksX5_air_2 14 rfl rfl)
theorem dX5_air_61 : decode cX5_air 61 = .ok (.iaload, 1) := dk_46 (dk_at dksX5_air_2 15 rfl rfl)
theorem dX5_air_62 : decode cX5_air 62 = .ok (.invokevirtual 142, 3) := dk_182 0 142 (dk_at dksX5_air_2 16 rfl rfl)
theorem dX5_air_65 : decode cX5_air 65 = .ok (.iadd, 1) := dk_96 (dk_at dksX5_air_2 19 rfl rfl)
theorem dX5_air_66 : decode cX5_air 66 = .ok (.bipush 6, 2) := dk_16 6 (dk_at dksX5_air_2 20 rfl rfl)
theorem dX5_air_68 : decode cX5_air 68 = .ok (.irem, 1) := dk_112 (dk_at dksX5_air_2 22 rfl rfl)
theorem dX5_air_69 : decode cX5_air 69 = .ok (.ireturn, 1) := dk_172 (dk_at dksX5_air_2 23 rfl rfl)
abbrev cX5_areOpposite : ByteArray := prog_14_method_54_code
def yX5_areOpposite : MethodName := ⟨RX5, "areOpposite", "(I)Z"⟩
def dkwX5_areOpposite_0 : List UInt8 := [42, 27, 182, 0, 148, 153, 0, 17, 42, 27, 4, 130, 182, 0, 148, 153, 0, 7, 4, 167, 0, 4, 3, 172]
abbrev dktX5_areOpposite_0 : List UInt8 := dkwX5_areOpposite_0 ++ []
theorem dksX5_areOpposite_0 : cX5_areOpposite.data.toList.drop 0 = dktX5_areOpposite_0 := by decide +kernel
theorem dX5_areOpposite_0 : decode cX5_areOpposite 0 = .ok (.aload_n 0, 1) := dk_42 (dk_at dksX5_areOpposite_0 0 rfl rfl)
theorem dX5_areOpposite_1 : decode cX5_areOpposite 1 = .ok (.iload_n 1, 1) := dk_27 (dk_at dksX5_areOpposite_0 1 rfl rfl)
theorem dX5_areOpposite_2 : decode cX5_areOpposite 2 = .ok (.invokevirtual 148, 3) := dk_182 0 148 (dk_at dksX5_areOpposite_0 2 rfl rfl)
theorem dX5_areOpposite_5 : decode cX5_areOpposite 5 = .ok (.ifCond .eq 17, 3) := dk_153 0 17 (dk_at dksX5_areOpposite_0 5 rfl rfl)
theorem dX5_areOpposite_8 : decode cX5_areOpposite 8 = .ok (.aload_n 0, 1) := dk_42 (dk_at dksX5_areOpposite_0 8 rfl rfl)
theorem dX5_areOpposite_9 : decode cX5_areOpposite 9 = .ok (.iload_n 1, 1) := dk_27 (dk_at dksX5_areOpposite_0 9 rfl rfl)
theorem dX5_areOpposite_10 : decode cX5_areOpposite 10 = .ok (.iconst 1, 1) := dk_4 (dk_at dksX5_areOpposite_0 10 rfl rfl)
theorem dX5_areOpposite_11 : decode cX5_areOpposite 11 = .ok (.ixor, 1) := dk_130 (dk_at dksX5_areOpposite_0 11 rfl rfl)
theorem dX5_areOpposite_12 : decode cX5_areOpposite 12 = .ok (.invokevirtual 148, 3) := dk_182 0 148 (dk_at dksX5_areOpposite_0 12 rfl rfl)
theorem dX5_areOpposite_15 : decode cX5_areOpposite 15 = .ok (.ifCond .eq 7, 3) := dk_153 0 7 (dk_at dksX5_areOpposite_0 15 rfl rfl)
theorem dX5_areOpposite_18 : decode cX5_areOpposite 18 = .ok (.iconst 1, 1) := dk_4 (dk_at dksX5_areOpposite_0 18 rfl rfl)
theorem dX5_areOpposite_19 : decode cX5_areOpposite 19 = .ok (.goto 4, 3) := dk_167 0 4 (dk_at dksX5_areOpposite_0 19 rfl rfl)
theorem dX5_areOpposite_22 : decode cX5_areOpposite 22 = .ok (.iconst 0, 1) := dk_3 (dk_at dksX5_areOpposite_0 22 rfl rfl)
theorem dX5_areOpposite_23 : decode cX5_areOpposite 23 = .ok (.ireturn, 1) := dk_172 (dk_at dksX5_areOpposite_0 23 rfl rfl)
abbrev cX5_bring : ByteArray := prog_14_method_56_code
def yX5_bring : MethodName := ⟨RX5, "bring", "(III)I"⟩
def dkwX5_bring_10 : List UInt8 := [29, 154, 0, 8, 21, 5, 167, 0, 5, 21, 4, 172]
abbrev dktX5_bring_10 : List UInt8 := dkwX5_bring_10 ++ []
def dkwX5_bring_9 : List UInt8 := [54, 5, 132, 7, 1, 167, 255, 105, 132, 6, 1, 167, 255, 87, 21, 4, 2, 160, 0, 7, 2, 167, 0, 14]
abbrev dktX5_bring_9 : List UInt8 := dkwX5_bring_9 ++ dktX5_bring_10
def dkwX5_bring_8 : List UInt8 := [182, 0, 142, 96, 16, 6, 112, 28, 160, 0, 17, 16, 10, 21, 6, 104, 21, 7, 96, 54, 4, 21, 9]
abbrev dktX5_bring_8 : List UInt8 := dkwX5_bring_8 ++ dktX5_bring_9
def dkwX5_bring_7 : List UInt8 := [162, 0, 49, 42, 21, 6, 42, 180, 0, 7, 5, 46, 182, 0, 142, 42, 21, 7, 42, 180, 0, 7, 5, 46]
abbrev dktX5_bring_7 : List UInt8 := dkwX5_bring_7 ++ dktX5_bring_8
def dkwX5_bring_6 : List UInt8 := [182, 0, 154, 160, 0, 7, 3, 167, 0, 4, 4, 96, 54, 9, 21, 8, 153, 0, 56, 21, 9, 21, 5]
abbrev dktX5_bring_6 : List UInt8 := dkwX5_bring_6 ++ dktX5_bring_7
def dkwX5_bring_5 : List UInt8 := [3, 54, 8, 21, 6, 42, 27, 182, 0, 154, 160, 0, 7, 3, 167, 0, 4, 4, 21, 7, 42, 27, 4, 96]
abbrev dktX5_bring_5 : List UInt8 := dkwX5_bring_5 ++ dktX5_bring_6
def dkwX5_bring_4 : List UInt8 := [153, 0, 24, 42, 21, 7, 42, 180, 0, 30, 27, 4, 96, 46, 182, 0, 138, 153, 0, 7, 4, 167, 0, 4]
abbrev dktX5_bring_4 : List UInt8 := dkwX5_bring_4 ++ dktX5_bring_5
def dkwX5_bring_3 : List UInt8 := [162, 0, 148, 21, 6, 21, 7, 159, 0, 39, 42, 21, 6, 42, 180, 0, 30, 27, 46, 182, 0, 138]
abbrev dktX5_bring_3 : List UInt8 := dkwX5_bring_3 ++ dktX5_bring_4
def dkwX5_bring_2 : List UInt8 := [182, 0, 151, 3, 54, 6, 21, 6, 42, 182, 0, 60, 162, 0, 166, 3, 54, 7, 21, 7, 42, 182, 0, 60]
abbrev dktX5_bring_2 : List UInt8 := dkwX5_bring_2 ++ dktX5_bring_3
def dkwX5_bring_1 : List UInt8 := [9, 10, 184, 0, 64, 154, 0, 10, 42, 16, 254, 182, 0, 89, 172, 2, 54, 4, 18, 215, 54, 5, 42]
abbrev dktX5_bring_1 : List UInt8 := dkwX5_bring_1 ++ dktX5_bring_2
def dkwX5_bring_0 : List UInt8 := [42, 27, 182, 0, 212, 153, 0, 27, 27, 5, 112, 4, 159, 0, 20, 28, 184, 0, 81, 153, 0, 13, 29, 133]
abbrev dktX5_bring_0 : List UInt8 := dkwX5_bring_0 ++ dktX5_bring_1
theorem dksX5_bring_0 : cX5_bring.data.toList.drop 0 = dktX5_bring_0 := by decide +kernel
theorem dksX5_bring_1 : cX5_bring.data.toList.drop 24 = dktX5_bring_1 := dk_seg dksX5_bring_0 24 rfl rfl
theorem dksX5_bring_2 : cX5_bring.data.toList.drop 47 = dktX5_bring_2 := dk_seg dksX5_bring_1 23 rfl rfl
theorem dksX5_bring_3 : cX5_bring.data.toList.drop 71 = dktX5_bring_3 := dk_seg dksX5_bring_2 24 rfl rfl
theorem dksX5_bring_4 : cX5_bring.data.toList.drop 93 = dktX5_bring_4 := dk_seg dksX5_bring_3 22 rfl rfl
theorem dksX5_bring_5 : cX5_bring.data.toList.drop 117 = dktX5_bring_5 := dk_seg dksX5_bring_4 24 rfl rfl
theorem dksX5_bring_6 : cX5_bring.data.toList.drop 141 = dktX5_bring_6 := dk_seg dksX5_bring_5 24 rfl rfl
theorem dksX5_bring_7 : cX5_bring.data.toList.drop 164 = dktX5_bring_7 := dk_seg dksX5_bring_6 23 rfl rfl
theorem dksX5_bring_8 : cX5_bring.data.toList.drop 188 = dktX5_bring_8 := dk_seg dksX5_bring_7 24 rfl rfl
theorem dksX5_bring_9 : cX5_bring.data.toList.drop 211 = dktX5_bring_9 := dk_seg dksX5_bring_8 23 rfl rfl
theorem dksX5_bring_10 : cX5_bring.data.toList.drop 235 = dktX5_bring_10 := dk_seg dksX5_bring_9 24 rfl rfl
theorem dX5_bring_0 : decode cX5_bring 0 = .ok (.aload_n 0, 1) := dk_42 (dk_at dksX5_bring_0 0 rfl rfl)
theorem dX5_bring_1 : decode cX5_bring 1 = .ok (.iload_n 1, 1) := dk_27 (dk_at dksX5_bring_0 1 rfl rfl)
theorem dX5_bring_2 : decode cX5_bring 2 = .ok (.invokevirtual 212, 3) := dk_182 0 212 (dk_at dksX5_bring_0 2 rfl rfl)
theorem dX5_bring_5 : decode cX5_bring 5 = .ok (.ifCond .eq 27, 3) := dk_153 0 27 (dk_at dksX5_bring_0 5 rfl rfl)
theorem dX5_bring_8 : decode cX5_bring 8 = .ok (.iload_n 1, 1) := dk_27 (dk_at dksX5_bring_0 8 rfl rfl)
theorem dX5_bring_9 : decode cX5_bring 9 = .ok (.iconst 2, 1) := dk_5 (dk_at dksX5_bring_0 9 rfl rfl)
theorem dX5_bring_10 : decode cX5_bring 10 = .ok (.irem, 1) := dk_112 (dk_at dksX5_bring_0 10 rfl rfl)
theorem dX5_bring_11 : decode cX5_bring 11 = .ok (.iconst 1, 1) := dk_4 (dk_at dksX5_bring_0 11 rfl rfl)
theorem dX5_bring_12 : decode cX5_bring 12 = .ok (.if_icmp .eq 20, 3) := dk_159 0 20 (dk_at dksX5_bring_0 12 rfl rfl)
theorem dX5_bring_15 : decode cX5_bring 15 = .ok (.iload_n 2, 1) := dk_28 (dk_at dksX5_bring_0 15 rfl rfl)
theorem dX5_bring_16 : decode cX5_bring 16 = .ok (.invokestatic 81, 3) := dk_184 0 81 (dk_at dksX5_bring_0 16 rfl rfl)
theorem dX5_bring_19 : decode cX5_bring 19 = .ok (.ifCond .eq 13, 3) := dk_153 0 13 (dk_at dksX5_bring_0 19 rfl rfl)
theorem dX5_bring_22 : decode cX5_bring 22 = .ok (.iload_n 3, 1) := dk_29 (dk_at dksX5_bring_0 22 rfl rfl)
theorem dX5_bring_23 : decode cX5_bring 23 = .ok (.i2l, 1) := dk_133 (dk_at dksX5_bring_0 23 rfl rfl)
theorem dX5_bring_24 : decode cX5_bring 24 = .ok (.lconst 0, 1) := dk_9 (dk_at dksX5_bring_1 0 rfl rfl)
theorem dX5_bring_25 : decode cX5_bring 25 = .ok (.lconst 1, 1) := dk_10 (dk_at dksX5_bring_1 1 rfl rfl)
theorem dX5_bring_26 : decode cX5_bring 26 = .ok (.invokestatic 64, 3) := dk_184 0 64 (dk_at dksX5_bring_1 2 rfl rfl)
theorem dX5_bring_29 : decode cX5_bring 29 = .ok (.ifCond .ne 10, 3) := dk_154 0 10 (dk_at dksX5_bring_1 5 rfl rfl)
theorem dX5_bring_32 : decode cX5_bring 32 = .ok (.aload_n 0, 1) := dk_42 (dk_at dksX5_bring_1 8 rfl rfl)
theorem dX5_bring_33 : decode cX5_bring 33 = .ok (.bipush (-2), 2) := dk_16 254 (dk_at dksX5_bring_1 9 rfl rfl)
theorem dX5_bring_35 : decode cX5_bring 35 = .ok (.invokevirtual 89, 3) := dk_182 0 89 (dk_at dksX5_bring_1 11 rfl rfl)
theorem dX5_bring_38 : decode cX5_bring 38 = .ok (.ireturn, 1) := dk_172 (dk_at dksX5_bring_1 14 rfl rfl)
theorem dX5_bring_39 : decode cX5_bring 39 = .ok (.iconst (-1), 1) := dk_2 (dk_at dksX5_bring_1 15 rfl rfl)
theorem dX5_bring_40 : decode cX5_bring 40 = .ok (.istore 4, 2) := dk_54 4 (dk_at dksX5_bring_1 16 rfl rfl)
theorem dX5_bring_42 : decode cX5_bring 42 = .ok (.ldc 215, 2) := dk_18 215 (dk_at dksX5_bring_1 18 rfl rfl)
theorem dX5_bring_44 : decode cX5_bring 44 = .ok (.istore 5, 2) := dk_54 5 (dk_at dksX5_bring_1 20 rfl rfl)
theorem dX5_bring_46 : decode cX5_bring 46 = .ok (.aload_n 0, 1) := dk_42 (dk_at dksX5_bring_1 22 rfl rfl)
theorem dX5_bring_47 : decode cX5_bring 47 = .ok (.invokevirtual 151, 3) := dk_182 0 151 (dk_at dksX5_bring_2 0 rfl rfl)
theorem dX5_bring_50 : decode cX5_bring 50 = .ok (.iconst 0, 1) := dk_3 (dk_at dksX5_bring_2 3 rfl rfl)
theorem dX5_bring_51 : decode cX5_bring 51 = .ok (.istore 6, 2) := dk_54 6 (dk_at dksX5_bring_2 4 rfl rfl)
theorem dX5_bring_53 : decode cX5_bring 53 = .ok (.iload 6, 2) := dk_21 6 (dk_at dksX5_bring_2 6 rfl rfl)
theorem dX5_bring_55 : decode cX5_bring 55 = .ok (.aload_n 0, 1) := dk_42 (dk_at dksX5_bring_2 8 rfl rfl)
theorem dX5_bring_56 : decode cX5_bring 56 = .ok (.invokevirtual 60, 3) := dk_182 0 60 (dk_at dksX5_bring_2 9 rfl rfl)
theorem dX5_bring_59 : decode cX5_bring 59 = .ok (.if_icmp .ge 166, 3) := dk_162 0 166 (dk_at dksX5_bring_2 12 rfl rfl)
theorem dX5_bring_62 : decode cX5_bring 62 = .ok (.iconst 0, 1) := dk_3 (dk_at dksX5_bring_2 15 rfl rfl)
theorem dX5_bring_63 : decode cX5_bring 63 = .ok (.istore 7, 2) := dk_54 7 (dk_at dksX5_bring_2 16 rfl rfl)
theorem dX5_bring_65 : decode cX5_bring 65 = .ok (.iload 7, 2) := dk_21 7 (dk_at dksX5_bring_2 18 rfl rfl)
theorem dX5_bring_67 : decode cX5_bring 67 = .ok (.aload_n 0, 1) := dk_42 (dk_at dksX5_bring_2 20 rfl rfl)
theorem dX5_bring_68 : decode cX5_bring 68 = .ok (.invokevirtual 60, 3) := dk_182 0 60 (dk_at dksX5_bring_2 21 rfl rfl)
theorem dX5_bring_71 : decode cX5_bring 71 = .ok (.if_icmp .ge 148, 3) := dk_162 0 148 (dk_at dksX5_bring_3 0 rfl rfl)
theorem dX5_bring_74 : decode cX5_bring 74 = .ok (.iload 6, 2) := dk_21 6 (dk_at dksX5_bring_3 3 rfl rfl)
theorem dX5_bring_76 : decode cX5_bring 76 = .ok (.iload 7, 2) := dk_21 7 (dk_at dksX5_bring_3 5 rfl rfl)
theorem dX5_bring_78 : decode cX5_bring 78 = .ok (.if_icmp .eq 39, 3) := dk_159 0 39 (dk_at dksX5_bring_3 7 rfl rfl)
theorem dX5_bring_81 : decode cX5_bring 81 = .ok (.aload_n 0, 1) := dk_42 (dk_at dksX5_bring_3 10 rfl rfl)
theorem dX5_bring_82 : decode cX5_bring 82 = .ok (.iload 6, 2) := dk_21 6 (dk_at dksX5_bring_3 11 rfl rfl)
theorem dX5_bring_84 : decode cX5_bring 84 = .ok (.aload_n 0, 1) := dk_42 (dk_at dksX5_bring_3 13 rfl rfl)
theorem dX5_bring_85 : decode cX5_bring 85 = .ok (.getfield 30, 3) := dk_180 0 30 (dk_at dksX5_bring_3 14 rfl rfl)
theorem dX5_bring_88 : decode cX5_bring 88 = .ok (.iload_n 1, 1) := dk_27 (dk_at dksX5_bring_3 17 rfl rfl)
theorem dX5_bring_89 : decode cX5_bring 89 = .ok (.iaload, 1) := dk_46 (dk_at dksX5_bring_3 18 rfl rfl)
theorem dX5_bring_90 : decode cX5_bring 90 = .ok (.invokevirtual 138, 3) := dk_182 0 138 (dk_at dksX5_bring_3 19 rfl rfl)
theorem dX5_bring_93 : decode cX5_bring 93 = .ok (.ifCond .eq 24, 3) := dk_153 0 24 (dk_at dksX5_bring_4 0 rfl rfl)
theorem dX5_bring_96 : decode cX5_bring 96 = .ok (.aload_n 0, 1) := dk_42 (dk_at dksX5_bring_4 3 rfl rfl)
theorem dX5_bring_97 : decode cX5_bring 97 = .ok (.iload 7, 2) := dk_21 7 (dk_at dksX5_bring_4 4 rfl rfl)
theorem dX5_bring_99 : decode cX5_bring 99 = .ok (.aload_n 0, 1) := dk_42 (dk_at dksX5_bring_4 6 rfl rfl)
theorem dX5_bring_100 : decode cX5_bring 100 = .ok (.getfield 30, 3) := dk_180 0 30 (dk_at dksX5_bring_4 7 rfl rfl)
theorem dX5_bring_103 : decode cX5_bring 103 = .ok (.iload_n 1, 1) := dk_27 (dk_at dksX5_bring_4 10 rfl rfl)
theorem dX5_bring_104 : decode cX5_bring 104 = .ok (.iconst 1, 1) := dk_4 (dk_at dksX5_bring_4 11 rfl rfl)
theorem dX5_bring_105 : decode cX5_bring 105 = .ok (.iadd, 1) := dk_96 (dk_at dksX5_bring_4 12 rfl rfl)
theorem dX5_bring_106 : decode cX5_bring 106 = .ok (.iaload, 1) := dk_46 (dk_at dksX5_bring_4 13 rfl rfl)
theorem dX5_bring_107 : decode cX5_bring 107 = .ok (.invokevirtual 138, 3) := dk_182 0 138 (dk_at dksX5_bring_4 14 rfl rfl)
theorem dX5_bring_110 : decode cX5_bring 110 = .ok (.ifCond .eq 7, 3) := dk_153 0 7 (dk_at dksX5_bring_4 17 rfl rfl)
theorem dX5_bring_113 : decode cX5_bring 113 = .ok (.iconst 1, 1) := dk_4 (dk_at dksX5_bring_4 20 rfl rfl)
theorem dX5_bring_114 : decode cX5_bring 114 = .ok (.goto 4, 3) := dk_167 0 4 (dk_at dksX5_bring_4 21 rfl rfl)
theorem dX5_bring_117 : decode cX5_bring 117 = .ok (.iconst 0, 1) := dk_3 (dk_at dksX5_bring_5 0 rfl rfl)
theorem dX5_bring_118 : decode cX5_bring 118 = .ok (.istore 8, 2) := dk_54 8 (dk_at dksX5_bring_5 1 rfl rfl)
theorem dX5_bring_120 : decode cX5_bring 120 = .ok (.iload 6, 2) := dk_21 6 (dk_at dksX5_bring_5 3 rfl rfl)
theorem dX5_bring_122 : decode cX5_bring 122 = .ok (.aload_n 0, 1) := dk_42 (dk_at dksX5_bring_5 5 rfl rfl)
theorem dX5_bring_123 : decode cX5_bring 123 = .ok (.iload_n 1, 1) := dk_27 (dk_at dksX5_bring_5 6 rfl rfl)
theorem dX5_bring_124 : decode cX5_bring 124 = .ok (.invokevirtual 154, 3) := dk_182 0 154 (dk_at dksX5_bring_5 7 rfl rfl)
theorem dX5_bring_127 : decode cX5_bring 127 = .ok (.if_icmp .ne 7, 3) := dk_160 0 7 (dk_at dksX5_bring_5 10 rfl rfl)
theorem dX5_bring_130 : decode cX5_bring 130 = .ok (.iconst 0, 1) := dk_3 (dk_at dksX5_bring_5 13 rfl rfl)
theorem dX5_bring_131 : decode cX5_bring 131 = .ok (.goto 4, 3) := dk_167 0 4 (dk_at dksX5_bring_5 14 rfl rfl)
theorem dX5_bring_134 : decode cX5_bring 134 = .ok (.iconst 1, 1) := dk_4 (dk_at dksX5_bring_5 17 rfl rfl)
theorem dX5_bring_135 : decode cX5_bring 135 = .ok (.iload 7, 2) := dk_21 7 (dk_at dksX5_bring_5 18 rfl rfl)
theorem dX5_bring_137 : decode cX5_bring 137 = .ok (.aload_n 0, 1) := dk_42 (dk_at dksX5_bring_5 20 rfl rfl)
theorem dX5_bring_138 : decode cX5_bring 138 = .ok (.iload_n 1, 1) := dk_27 (dk_at dksX5_bring_5 21 rfl rfl)
theorem dX5_bring_139 : decode cX5_bring 139 = .ok (.iconst 1, 1) := dk_4 (dk_at dksX5_bring_5 22 rfl rfl)
theorem dX5_bring_140 : decode cX5_bring 140 = .ok (.iadd, 1) := dk_96 (dk_at dksX5_bring_5 23 rfl rfl)
theorem dX5_bring_141 : decode cX5_bring 141 = .ok (.invokevirtual 154, 3) := dk_182 0 154 (dk_at dksX5_bring_6 0 rfl rfl)
theorem dX5_bring_144 : decode cX5_bring 144 = .ok (.if_icmp .ne 7, 3) := dk_160 0 7 (dk_at dksX5_bring_6 3 rfl rfl)
theorem dX5_bring_147 : decode cX5_bring 147 = .ok (.iconst 0, 1) := dk_3 (dk_at dksX5_bring_6 6 rfl rfl)
theorem dX5_bring_148 : decode cX5_bring 148 = .ok (.goto 4, 3) := dk_167 0 4 (dk_at dksX5_bring_6 7 rfl rfl)
theorem dX5_bring_151 : decode cX5_bring 151 = .ok (.iconst 1, 1) := dk_4 (dk_at dksX5_bring_6 10 rfl rfl)
theorem dX5_bring_152 : decode cX5_bring 152 = .ok (.iadd, 1) := dk_96 (dk_at dksX5_bring_6 11 rfl rfl)
theorem dX5_bring_153 : decode cX5_bring 153 = .ok (.istore 9, 2) := dk_54 9 (dk_at dksX5_bring_6 12 rfl rfl)
theorem dX5_bring_155 : decode cX5_bring 155 = .ok (.iload 8, 2) := dk_21 8 (dk_at dksX5_bring_6 14 rfl rfl)
theorem dX5_bring_157 : decode cX5_bring 157 = .ok (.ifCond .eq 56, 3) := dk_153 0 56 (dk_at dksX5_bring_6 16 rfl rfl)
theorem dX5_bring_160 : decode cX5_bring 160 = .ok (.iload 9, 2) := dk_21 9 (dk_at dksX5_bring_6 19 rfl rfl)
theorem dX5_bring_162 : decode cX5_bring 162 = .ok (.iload 5, 2) := dk_21 5 (dk_at dksX5_bring_6 21 rfl rfl)
theorem dX5_bring_164 : decode cX5_bring 164 = .ok (.if_icmp .ge 49, 3) := dk_162 0 49 (dk_at dksX5_bring_7 0 rfl rfl)
theorem dX5_bring_167 : decode cX5_bring 167 = .ok (.aload_n 0, 1) := dk_42 (dk_at dksX5_bring_7 3 rfl rfl)
theorem dX5_bring_168 : decode cX5_bring 168 = .ok (.iload 6, 2) := dk_21 6 (dk_at dksX5_bring_7 4 rfl rfl)
theorem dX5_bring_170 : decode cX5_bring 170 = .ok (.aload_n 0, 1) := dk_42 (dk_at dksX5_bring_7 6 rfl rfl)
theorem dX5_bring_171 : decode cX5_bring 171 = .ok (.getfield 7, 3) := dk_180 0 7 (dk_at dksX5_bring_7 7 rfl rfl)
theorem dX5_bring_174 : decode cX5_bring 174 = .ok (.iconst 2, 1) := dk_5 (dk_at dksX5_bring_7 10 rfl rfl)
theorem dX5_bring_175 : decode cX5_bring 175 = .ok (.iaload, 1) := dk_46 (dk_at dksX5_bring_7 11 rfl rfl)
theorem dX5_bring_176 : decode cX5_bring 176 = .ok (.invokevirtual 142, 3) := dk_182 0 142 (dk_at dksX5_bring_7 12 rfl rfl)
theorem dX5_bring_179 : decode cX5_bring 179 = .ok (.aload_n 0, 1) := dk_42 (dk_at dksX5_bring_7 15 rfl rfl)
theorem dX5_bring_180 : decode cX5_bring 180 = .ok (.iload 7, 2) := dk_21 7 (dk_at dksX5_bring_7 16 rfl rfl)
theorem dX5_bring_182 : decode cX5_bring 182 = .ok (.aload_n 0, 1) := dk_42 (dk_at dksX5_bring_7 18 rfl rfl)
theorem dX5_bring_183 : decode cX5_bring 183 = .ok (.getfield 7, 3) := dk_180 0 7 (dk_at dksX5_bring_7 19 rfl rfl)
theorem dX5_bring_186 : decode cX5_bring 186 = .ok (.iconst 2, 1) := dk_5 (dk_at dksX5_bring_7 22 rfl rfl)
theorem dX5_bring_187 : decode cX5_bring 187 = .ok (.iaload, 1) := dk_46 (dk_at dksX5_bring_7 23 rfl rfl)
theorem dX5_bring_188 : decode cX5_bring 188 = .ok (.invokevirtual 142, 3) := dk_182 0 142 (dk_at dksX5_bring_8 0 rfl rfl)
theorem dX5_bring_191 : decode cX5_bring 191 = .ok (.iadd, 1) := dk_96 (dk_at dksX5_bring_8 3 rfl rfl)
theorem dX5_bring_192 : decode cX5_bring 192 = .ok (.bipush 6, 2) := dk_16 6 (dk_at dksX5_bring_8 4 rfl rfl)
theorem dX5_bring_194 : decode cX5_bring 194 = .ok (.irem, 1) := dk_112 (dk_at dksX5_bring_8 6 rfl rfl)
theorem dX5_bring_195 : decode cX5_bring 195 = .ok (.iload_n 2, 1) := dk_28 (dk_at dksX5_bring_8 7 rfl rfl)
theorem dX5_bring_196 : decode cX5_bring 196 = .ok (.if_icmp .ne 17, 3) := dk_160 0 17 (dk_at dksX5_bring_8 8 rfl rfl)
theorem dX5_bring_199 : decode cX5_bring 199 = .ok (.bipush 10, 2) := dk_16 10 (dk_at dksX5_bring_8 11 rfl rfl)
theorem dX5_bring_201 : decode cX5_bring 201 = .ok (.iload 6, 2) := dk_21 6 (dk_at dksX5_bring_8 13 rfl rfl)
theorem dX5_bring_203 : decode cX5_bring 203 = .ok (.imul, 1) := dk_104 (dk_at dksX5_bring_8 15 rfl rfl)
theorem dX5_bring_204 : decode cX5_bring 204 = .ok (.iload 7, 2) := dk_21 7 (dk_at dksX5_bring_8 16 rfl rfl)
theorem dX5_bring_206 : decode cX5_bring 206 = .ok (.iadd, 1) := dk_96 (dk_at dksX5_bring_8 18 rfl rfl)
theorem dX5_bring_207 : decode cX5_bring 207 = .ok (.istore 4, 2) := dk_54 4 (dk_at dksX5_bring_8 19 rfl rfl)
theorem dX5_bring_209 : decode cX5_bring 209 = .ok (.iload 9, 2) := dk_21 9 (dk_at dksX5_bring_8 21 rfl rfl)
theorem dX5_bring_211 : decode cX5_bring 211 = .ok (.istore 5, 2) := dk_54 5 (dk_at dksX5_bring_9 0 rfl rfl)
theorem dX5_bring_213 : decode cX5_bring 213 = .ok (.iinc 7 1, 3) := dk_132 7 1 (dk_at dksX5_bring_9 2 rfl rfl)
theorem dX5_bring_216 : decode cX5_bring 216 = .ok (.goto (-151), 3) := dk_167 255 105 (dk_at dksX5_bring_9 5 rfl rfl)
theorem dX5_bring_219 : decode cX5_bring 219 = .ok (.iinc 6 1, 3) := dk_132 6 1 (dk_at dksX5_bring_9 8 rfl rfl)
theorem dX5_bring_222 : decode cX5_bring 222 = .ok (.goto (-169), 3) := dk_167 255 87 (dk_at dksX5_bring_9 11 rfl rfl)
theorem dX5_bring_225 : decode cX5_bring 225 = .ok (.iload 4, 2) := dk_21 4 (dk_at dksX5_bring_9 14 rfl rfl)
theorem dX5_bring_227 : decode cX5_bring 227 = .ok (.iconst (-1), 1) := dk_2 (dk_at dksX5_bring_9 16 rfl rfl)
theorem dX5_bring_228 : decode cX5_bring 228 = .ok (.if_icmp .ne 7, 3) := dk_160 0 7 (dk_at dksX5_bring_9 17 rfl rfl)
theorem dX5_bring_231 : decode cX5_bring 231 = .ok (.iconst (-1), 1) := dk_2 (dk_at dksX5_bring_9 20 rfl rfl)
theorem dX5_bring_232 : decode cX5_bring 232 = .ok (.goto 14, 3) := dk_167 0 14 (dk_at dksX5_bring_9 21 rfl rfl)
theorem dX5_bring_235 : decode cX5_bring 235 = .ok (.iload_n 3, 1) := dk_29 (dk_at dksX5_bring_10 0 rfl rfl)
theorem dX5_bring_236 : decode cX5_bring 236 = .ok (.ifCond .ne 8, 3) := dk_154 0 8 (dk_at dksX5_bring_10 1 rfl rfl)
theorem dX5_bring_239 : decode cX5_bring 239 = .ok (.iload 5, 2) := dk_21 5 (dk_at dksX5_bring_10 4 rfl rfl)
theorem dX5_bring_241 : decode cX5_bring 241 = .ok (.goto 5, 3) := dk_167 0 5 (dk_at dksX5_bring_10 6 rfl rfl)
theorem dX5_bring_244 : decode cX5_bring 244 = .ok (.iload 4, 2) := dk_21 4 (dk_at dksX5_bring_10 9 rfl rfl)
theorem dX5_bring_246 : decode cX5_bring 246 = .ok (.ireturn, 1) := dk_172 (dk_at dksX5_bring_10 11 rfl rfl)
abbrev cX5_left : ByteArray := prog_14_method_57_code
def yX5_left : MethodName := ⟨RX5, "left", "(III)I"⟩
def dkwX5_left_6 : List UInt8 := [154, 0, 8, 21, 4, 167, 0, 5, 21, 5, 172]
abbrev dktX5_left_6 : List UInt8 := dkwX5_left_6 ++ []
def dkwX5_left_5 : List UInt8 := [16, 61, 6, 21, 6, 104, 96, 5, 96, 46, 167, 0, 5, 21, 5, 54, 5, 132, 6, 1, 167, 255, 178, 29]
abbrev dktX5_left_5 : List UInt8 := dkwX5_left_5 ++ dktX5_left_6
def dkwX5_left_4 : List UInt8 := [16, 61, 6, 21, 6, 104, 96, 4, 96, 46, 120, 128, 54, 4, 21, 5, 2, 160, 0, 20, 42, 180, 0, 7]
abbrev dktX5_left_4 : List UInt8 := dkwX5_left_4 ++ dktX5_left_5
def dkwX5_left_3 : List UInt8 := [42, 180, 0, 7, 16, 61, 6, 21, 6, 104, 96, 46, 27, 160, 0, 51, 21, 4, 4, 42, 180, 0, 7]
abbrev dktX5_left_3 : List UInt8 := dkwX5_left_3 ++ dktX5_left_4
def dkwX5_left_2 : List UInt8 := [182, 0, 89, 172, 3, 54, 4, 2, 54, 5, 3, 54, 6, 21, 6, 42, 180, 0, 7, 7, 46, 162, 0, 73]
abbrev dktX5_left_2 : List UInt8 := dkwX5_left_2 ++ dktX5_left_3
def dkwX5_left_1 : List UInt8 := [182, 0, 117, 28, 122, 4, 126, 153, 0, 13, 29, 133, 9, 10, 184, 0, 64, 154, 0, 10, 42, 16, 246]
abbrev dktX5_left_1 : List UInt8 := dkwX5_left_1 ++ dktX5_left_2
def dkwX5_left_0 : List UInt8 := [42, 27, 182, 0, 112, 153, 0, 38, 28, 133, 9, 20, 0, 167, 184, 0, 64, 153, 0, 26, 42, 27, 8]
abbrev dktX5_left_0 : List UInt8 := dkwX5_left_0 ++ dktX5_left_1
theorem dksX5_left_0 : cX5_left.data.toList.drop 0 = dktX5_left_0 := by decide +kernel
theorem dksX5_left_1 : cX5_left.data.toList.drop 23 = dktX5_left_1 := dk_seg dksX5_left_0 23 rfl rfl
theorem dksX5_left_2 : cX5_left.data.toList.drop 46 = dktX5_left_2 := dk_seg dksX5_left_1 23 rfl rfl
theorem dksX5_left_3 : cX5_left.data.toList.drop 70 = dktX5_left_3 := dk_seg dksX5_left_2 24 rfl rfl
theorem dksX5_left_4 : cX5_left.data.toList.drop 93 = dktX5_left_4 := dk_seg dksX5_left_3 23 rfl rfl
theorem dksX5_left_5 : cX5_left.data.toList.drop 117 = dktX5_left_5 := dk_seg dksX5_left_4 24 rfl rfl
theorem dksX5_left_6 : cX5_left.data.toList.drop 141 = dktX5_left_6 := dk_seg dksX5_left_5 24 rfl rfl
theorem dX5_left_0 : decode cX5_left 0 = .ok (.aload_n 0, 1) := dk_42 (dk_at dksX5_left_0 0 rfl rfl)
theorem dX5_left_1 : decode cX5_left 1 = .ok (.iload_n 1, 1) := dk_27 (dk_at dksX5_left_0 1 rfl rfl)
theorem dX5_left_2 : decode cX5_left 2 = .ok (.invokevirtual 112, 3) := dk_182 0 112 (dk_at dksX5_left_0 2 rfl rfl)
theorem dX5_left_5 : decode cX5_left 5 = .ok (.ifCond .eq 38, 3) := dk_153 0 38 (dk_at dksX5_left_0 5 rfl rfl)
theorem dX5_left_8 : decode cX5_left 8 = .ok (.iload_n 2, 1) := dk_28 (dk_at dksX5_left_0 8 rfl rfl)
theorem dX5_left_9 : decode cX5_left 9 = .ok (.i2l, 1) := dk_133 (dk_at dksX5_left_0 9 rfl rfl)
theorem dX5_left_10 : decode cX5_left 10 = .ok (.lconst 0, 1) := dk_9 (dk_at dksX5_left_0 10 rfl rfl)
theorem dX5_left_11 : decode cX5_left 11 = .ok (.ldc2_w 167, 3) := dk_20 0 167 (dk_at dksX5_left_0 11 rfl rfl)
theorem dX5_left_14 : decode cX5_left 14 = .ok (.invokestatic 64, 3) := dk_184 0 64 (dk_at dksX5_left_0 14 rfl rfl)
theorem dX5_left_17 : decode cX5_left 17 = .ok (.ifCond .eq 26, 3) := dk_153 0 26 (dk_at dksX5_left_0 17 rfl rfl)
theorem dX5_left_20 : decode cX5_left 20 = .ok (.aload_n 0, 1) := dk_42 (dk_at dksX5_left_0 20 rfl rfl)
theorem dX5_left_21 : decode cX5_left 21 = .ok (.iload_n 1, 1) := dk_27 (dk_at dksX5_left_0 21 rfl rfl)
theorem dX5_left_22 : decode cX5_left 22 = .ok (.iconst 5, 1) := dk_8 (dk_at dksX5_left_0 22 rfl rfl)
theorem dX5_left_23 : decode cX5_left 23 = .ok (.invokevirtual 117, 3) := dk_182 0 117 (dk_at dksX5_left_1 0 rfl rfl)
theorem dX5_left_26 : decode cX5_left 26 = .ok (.iload_n 2, 1) := dk_28 (dk_at dksX5_left_1 3 rfl rfl)
theorem dX5_left_27 : decode cX5_left 27 = .ok (.ishr, 1) := dk_122 (dk_at dksX5_left_1 4 rfl rfl)
theorem dX5_left_28 : decode cX5_left 28 = .ok (.iconst 1, 1) := dk_4 (dk_at dksX5_left_1 5 rfl rfl)
theorem dX5_left_29 : decode cX5_left 29 = .ok (.iand, 1) := dk_126 (dk_at dksX5_left_1 6 rfl rfl)
theorem dX5_left_30 : decode cX5_left 30 = .ok (.ifCond .eq 13, 3) := dk_153 0 13 (dk_at dksX5_left_1 7 rfl rfl)
theorem dX5_left_33 : decode cX5_left 33 = .ok (.iload_n 3, 1) := dk_29 (dk_at dksX5_left_1 10 rfl rfl)
theorem dX5_left_34 : decode cX5_left 34 = .ok (.i2l, 1) := dk_133 (dk_at dksX5_left_1 11 rfl rfl)
theorem dX5_left_35 : decode cX5_left 35 = .ok (.lconst 0, 1) := dk_9 (dk_at dksX5_left_1 12 rfl rfl)
theorem dX5_left_36 : decode cX5_left 36 = .ok (.lconst 1, 1) := dk_10 (dk_at dksX5_left_1 13 rfl rfl)
theorem dX5_left_37 : decode cX5_left 37 = .ok (.invokestatic 64, 3) := dk_184 0 64 (dk_at dksX5_left_1 14 rfl rfl)
theorem dX5_left_40 : decode cX5_left 40 = .ok (.ifCond .ne 10, 3) := dk_154 0 10 (dk_at dksX5_left_1 17 rfl rfl)
theorem dX5_left_43 : decode cX5_left 43 = .ok (.aload_n 0, 1) := dk_42 (dk_at dksX5_left_1 20 rfl rfl)
theorem dX5_left_44 : decode cX5_left 44 = .ok (.bipush (-10), 2) := dk_16 246 (dk_at dksX5_left_1 21 rfl rfl)
theorem dX5_left_46 : decode cX5_left 46 = .ok (.invokevirtual 89, 3) := dk_182 0 89 (dk_at dksX5_left_2 0 rfl rfl)
theorem dX5_left_49 : decode cX5_left 49 = .ok (.ireturn, 1) := dk_172 (dk_at dksX5_left_2 3 rfl rfl)
theorem dX5_left_50 : decode cX5_left 50 = .ok (.iconst 0, 1) := dk_3 (dk_at dksX5_left_2 4 rfl rfl)
theorem dX5_left_51 : decode cX5_left 51 = .ok (.istore 4, 2) := dk_54 4 (dk_at dksX5_left_2 5 rfl rfl)
theorem dX5_left_53 : decode cX5_left 53 = .ok (.iconst (-1), 1) := dk_2 (dk_at dksX5_left_2 7 rfl rfl)
theorem dX5_left_54 : decode cX5_left 54 = .ok (.istore 5, 2) := dk_54 5 (dk_at dksX5_left_2 8 rfl rfl)
theorem dX5_left_56 : decode cX5_left 56 = .ok (.iconst 0, 1) := dk_3 (dk_at dksX5_left_2 10 rfl rfl)
theorem dX5_left_57 : decode cX5_left 57 = .ok (.istore 6, 2) := dk_54 6 (dk_at dksX5_left_2 11 rfl rfl)
theorem dX5_left_59 : decode cX5_left 59 = .ok (.iload 6, 2) := dk_21 6 (dk_at dksX5_left_2 13 rfl rfl)
theorem dX5_left_61 : decode cX5_left 61 = .ok (.aload_n 0, 1) := dk_42 (dk_at dksX5_left_2 15 rfl rfl)
theorem dX5_left_62 : decode cX5_left 62 = .ok (.getfield 7, 3) := dk_180 0 7 (dk_at dksX5_left_2 16 rfl rfl)
theorem dX5_left_65 : decode cX5_left 65 = .ok (.iconst 4, 1) := dk_7 (dk_at dksX5_left_2 19 rfl rfl)
theorem dX5_left_66 : decode cX5_left 66 = .ok (.iaload, 1) := dk_46 (dk_at dksX5_left_2 20 rfl rfl)
theorem dX5_left_67 : decode cX5_left 67 = .ok (.if_icmp .ge 73, 3) := dk_162 0 73 (dk_at dksX5_left_2 21 rfl rfl)
theorem dX5_left_70 : decode cX5_left 70 = .ok (.aload_n 0, 1) := dk_42 (dk_at dksX5_left_3 0 rfl rfl)
theorem dX5_left_71 : decode cX5_left 71 = .ok (.getfield 7, 3) := dk_180 0 7 (dk_at dksX5_left_3 1 rfl rfl)
theorem dX5_left_74 : decode cX5_left 74 = .ok (.bipush 61, 2) := dk_16 61 (dk_at dksX5_left_3 4 rfl rfl)
theorem dX5_left_76 : decode cX5_left 76 = .ok (.iconst 3, 1) := dk_6 (dk_at dksX5_left_3 6 rfl rfl)
theorem dX5_left_77 : decode cX5_left 77 = .ok (.iload 6, 2) := dk_21 6 (dk_at dksX5_left_3 7 rfl rfl)
theorem dX5_left_79 : decode cX5_left 79 = .ok (.imul, 1) := dk_104 (dk_at dksX5_left_3 9 rfl rfl)
theorem dX5_left_80 : decode cX5_left 80 = .ok (.iadd, 1) := dk_96 (dk_at dksX5_left_3 10 rfl rfl)
theorem dX5_left_81 : decode cX5_left 81 = .ok (.iaload, 1) := dk_46 (dk_at dksX5_left_3 11 rfl rfl)
theorem dX5_left_82 : decode cX5_left 82 = .ok (.iload_n 1, 1) := dk_27 (dk_at dksX5_left_3 12 rfl rfl)
theorem dX5_left_83 : decode cX5_left 83 = .ok (.if_icmp .ne 51, 3) := dk_160 0 51 (dk_at dksX5_left_3 13 rfl rfl)
theorem dX5_left_86 : decode cX5_left 86 = .ok (.iload 4, 2) := dk_21 4 (dk_at dksX5_left_3 16 rfl rfl)
theorem dX5_left_88 : decode cX5_left 88 = .ok (.iconst 1, 1) := dk_4 (dk_at dksX5_left_3 18 rfl rfl)
theorem dX5_left_89 : decode cX5_left 89 = .ok (.aload_n 0, 1) := dk_42 (dk_at dksX5_left_3 19 rfl rfl)
theorem dX5_left_90 : decode cX5_left 90 = .ok (.getfield 7, 3) := dk_180 0 7 (dk_at dksX5_left_3 20 rfl rfl)
theorem dX5_left_93 : decode cX5_left 93 = .ok (.bipush 61, 2) := dk_16 61 (dk_at dksX5_left_4 0 rfl rfl)
theorem dX5_left_95 : decode cX5_left 95 = .ok (.iconst 3, 1) := dk_6 (dk_at dksX5_left_4 2 rfl rfl)
theorem dX5_left_96 : decode cX5_left 96 = .ok (.iload 6, 2) := dk_21 6 (dk_at dksX5_left_4 3 rfl rfl)
theorem dX5_left_98 : decode cX5_left 98 = .ok (.imul, 1) := dk_104 (dk_at dksX5_left_4 5 rfl rfl)
theorem dX5_left_99 : decode cX5_left 99 = .ok (.iadd, 1) := dk_96 (dk_at dksX5_left_4 6 rfl rfl)
theorem dX5_left_100 : decode cX5_left 100 = .ok (.iconst 1, 1) := dk_4 (dk_at dksX5_left_4 7 rfl rfl)
theorem dX5_left_101 : decode cX5_left 101 = .ok (.iadd, 1) := dk_96 (dk_at dksX5_left_4 8 rfl rfl)
theorem dX5_left_102 : decode cX5_left 102 = .ok (.iaload, 1) := dk_46 (dk_at dksX5_left_4 9 rfl rfl)
theorem dX5_left_103 : decode cX5_left 103 = .ok (.ishl, 1) := dk_120 (dk_at dksX5_left_4 10 rfl rfl)
theorem dX5_left_104 : decode cX5_left 104 = .ok (.ior, 1) := dk_128 (dk_at dksX5_left_4 11 rfl rfl)
theorem dX5_left_105 : decode cX5_left 105 = .ok (.istore 4, 2) := dk_54 4 (dk_at dksX5_left_4 12 rfl rfl)
theorem dX5_left_107 : decode cX5_left 107 = .ok (.iload 5, 2) := dk_21 5 (dk_at dksX5_left_4 14 rfl rfl)
theorem dX5_left_109 : decode cX5_left 109 = .ok (.iconst (-1), 1) := dk_2 (dk_at dksX5_left_4 16 rfl rfl)
theorem dX5_left_110 : decode cX5_left 110 = .ok (.if_icmp .ne 20, 3) := dk_160 0 20 (dk_at dksX5_left_4 17 rfl rfl)
theorem dX5_left_113 : decode cX5_left 113 = .ok (.aload_n 0, 1) := dk_42 (dk_at dksX5_left_4 20 rfl rfl)
theorem dX5_left_114 : decode cX5_left 114 = .ok (.getfield 7, 3) := dk_180 0 7 (dk_at dksX5_left_4 21 rfl rfl)
theorem dX5_left_117 : decode cX5_left 117 = .ok (.bipush 61, 2) := dk_16 61 (dk_at dksX5_left_5 0 rfl rfl)
theorem dX5_left_119 : decode cX5_left 119 = .ok (.iconst 3, 1) := dk_6 (dk_at dksX5_left_5 2 rfl rfl)
theorem dX5_left_120 : decode cX5_left 120 = .ok (.iload 6, 2) := dk_21 6 (dk_at dksX5_left_5 3 rfl rfl)
theorem dX5_left_122 : decode cX5_left 122 = .ok (.imul, 1) := dk_104 (dk_at dksX5_left_5 5 rfl rfl)
theorem dX5_left_123 : decode cX5_left 123 = .ok (.iadd, 1) := dk_96 (dk_at dksX5_left_5 6 rfl rfl)
theorem dX5_left_124 : decode cX5_left 124 = .ok (.iconst 2, 1) := dk_5 (dk_at dksX5_left_5 7 rfl rfl)
theorem dX5_left_125 : decode cX5_left 125 = .ok (.iadd, 1) := dk_96 (dk_at dksX5_left_5 8 rfl rfl)
theorem dX5_left_126 : decode cX5_left 126 = .ok (.iaload, 1) := dk_46 (dk_at dksX5_left_5 9 rfl rfl)
theorem dX5_left_127 : decode cX5_left 127 = .ok (.goto 5, 3) := dk_167 0 5 (dk_at dksX5_left_5 10 rfl rfl)
theorem dX5_left_130 : decode cX5_left 130 = .ok (.iload 5, 2) := dk_21 5 (dk_at dksX5_left_5 13 rfl rfl)
theorem dX5_left_132 : decode cX5_left 132 = .ok (.istore 5, 2) := dk_54 5 (dk_at dksX5_left_5 15 rfl rfl)
theorem dX5_left_134 : decode cX5_left 134 = .ok (.iinc 6 1, 3) := dk_132 6 1 (dk_at dksX5_left_5 17 rfl rfl)
theorem dX5_left_137 : decode cX5_left 137 = .ok (.goto (-78), 3) := dk_167 255 178 (dk_at dksX5_left_5 20 rfl rfl)
theorem dX5_left_140 : decode cX5_left 140 = .ok (.iload_n 3, 1) := dk_29 (dk_at dksX5_left_5 23 rfl rfl)
theorem dX5_left_141 : decode cX5_left 141 = .ok (.ifCond .ne 8, 3) := dk_154 0 8 (dk_at dksX5_left_6 0 rfl rfl)
theorem dX5_left_144 : decode cX5_left 144 = .ok (.iload 4, 2) := dk_21 4 (dk_at dksX5_left_6 3 rfl rfl)
theorem dX5_left_146 : decode cX5_left 146 = .ok (.goto 5, 3) := dk_167 0 5 (dk_at dksX5_left_6 5 rfl rfl)
theorem dX5_left_149 : decode cX5_left 149 = .ok (.iload 5, 2) := dk_21 5 (dk_at dksX5_left_6 8 rfl rfl)
theorem dX5_left_151 : decode cX5_left 151 = .ok (.ireturn, 1) := dk_172 (dk_at dksX5_left_6 10 rfl rfl)
abbrev cX5_reading : ByteArray := prog_14_method_58_code
def yX5_reading : MethodName := ⟨RX5, "reading", "(III)I"⟩
def dkwX5_reading_4 : List UInt8 := [96, 79, 42, 180, 0, 7, 8, 46, 172]
abbrev dktX5_reading_4 : List UInt8 := dkwX5_reading_4 ++ []
def dkwX5_reading_3 : List UInt8 := [21, 4, 4, 96, 28, 79, 42, 180, 0, 7, 21, 4, 5, 96, 29, 79, 42, 180, 0, 7, 8, 92, 46, 4]
abbrev dktX5_reading_3 : List UInt8 := dkwX5_reading_3 ++ dktX5_reading_4
def dkwX5_reading_2 : List UInt8 := [6, 42, 180, 0, 7, 8, 46, 104, 96, 54, 4, 42, 180, 0, 7, 21, 4, 27, 79, 42, 180, 0, 7]
abbrev dktX5_reading_2 : List UInt8 := dkwX5_reading_2 ++ dktX5_reading_3
def dkwX5_reading_1 : List UInt8 := [16, 254, 182, 0, 89, 172, 42, 180, 0, 7, 8, 46, 16, 6, 160, 0, 8, 42, 182, 0, 93, 172, 16, 97]
abbrev dktX5_reading_1 : List UInt8 := dkwX5_reading_1 ++ dktX5_reading_2
def dkwX5_reading_0 : List UInt8 := [42, 27, 182, 0, 112, 153, 0, 17, 28, 184, 0, 171, 153, 0, 10, 29, 184, 0, 81, 154, 0, 10, 42]
abbrev dktX5_reading_0 : List UInt8 := dkwX5_reading_0 ++ dktX5_reading_1
theorem dksX5_reading_0 : cX5_reading.data.toList.drop 0 = dktX5_reading_0 := by decide +kernel
theorem dksX5_reading_1 : cX5_reading.data.toList.drop 23 = dktX5_reading_1 := dk_seg dksX5_reading_0 23 rfl rfl
theorem dksX5_reading_2 : cX5_reading.data.toList.drop 47 = dktX5_reading_2 := dk_seg dksX5_reading_1 24 rfl rfl
theorem dksX5_reading_3 : cX5_reading.data.toList.drop 70 = dktX5_reading_3 := dk_seg dksX5_reading_2 23 rfl rfl
theorem dksX5_reading_4 : cX5_reading.data.toList.drop 94 = dktX5_reading_4 := dk_seg dksX5_reading_3 24 rfl rfl
theorem dX5_reading_0 : decode cX5_reading 0 = .ok (.aload_n 0, 1) := dk_42 (dk_at dksX5_reading_0 0 rfl rfl)
theorem dX5_reading_1 : decode cX5_reading 1 = .ok (.iload_n 1, 1) := dk_27 (dk_at dksX5_reading_0 1 rfl rfl)
theorem dX5_reading_2 : decode cX5_reading 2 = .ok (.invokevirtual 112, 3) := dk_182 0 112 (dk_at dksX5_reading_0 2 rfl rfl)
theorem dX5_reading_5 : decode cX5_reading 5 = .ok (.ifCond .eq 17, 3) := dk_153 0 17 (dk_at dksX5_reading_0 5 rfl rfl)
theorem dX5_reading_8 : decode cX5_reading 8 = .ok (.iload_n 2, 1) := dk_28 (dk_at dksX5_reading_0 8 rfl rfl)
theorem dX5_reading_9 : decode cX5_reading 9 = .ok (.invokestatic 171, 3) := dk_184 0 171 (dk_at dksX5_reading_0 9 rfl rfl)
theorem dX5_reading_12 : decode cX5_reading 12 = .ok (.ifCond .eq 10, 3) := dk_153 0 10 (dk_at dksX5_reading_0 12 rfl rfl)
theorem dX5_reading_15 : decode cX5_reading 15 = .ok (.iload_n 3, 1) := dk_29 (dk_at dksX5_reading_0 15 rfl rfl)
theorem dX5_reading_16 : decode cX5_reading 16 = .ok (.invokestatic 81, 3) := dk_184 0 81 (dk_at dksX5_reading_0 16 rfl rfl)
theorem dX5_reading_19 : decode cX5_reading 19 = .ok (.ifCond .ne 10, 3) := dk_154 0 10 (dk_at dksX5_reading_0 19 rfl rfl)
theorem dX5_reading_22 : decode cX5_reading 22 = .ok (.aload_n 0, 1) := dk_42 (dk_at dksX5_reading_0 22 rfl rfl)
theorem dX5_reading_23 : decode cX5_reading 23 = .ok (.bipush (-2), 2) := dk_16 254 (dk_at dksX5_reading_1 0 rfl rfl)
theorem dX5_reading_25 : decode cX5_reading 25 = .ok (.invokevirtual 89, 3) := dk_182 0 89 (dk_at dksX5_reading_1 2 rfl rfl)
theorem dX5_reading_28 : decode cX5_reading 28 = .ok (.ireturn, 1) := dk_172 (dk_at dksX5_reading_1 5 rfl rfl)
theorem dX5_reading_29 : decode cX5_reading 29 = .ok (.aload_n 0, 1) := dk_42 (dk_at dksX5_reading_1 6 rfl rfl)
theorem dX5_reading_30 : decode cX5_reading 30 = .ok (.getfield 7, 3) := dk_180 0 7 (dk_at dksX5_reading_1 7 rfl rfl)
theorem dX5_reading_33 : decode cX5_reading 33 = .ok (.iconst 5, 1) := dk_8 (dk_at dksX5_reading_1 10 rfl rfl)
theorem dX5_reading_34 : decode cX5_reading 34 = .ok (.iaload, 1) := dk_46 (dk_at dksX5_reading_1 11 rfl rfl)
theorem dX5_reading_35 : decode cX5_reading 35 = .ok (.bipush 6, 2) := dk_16 6 (dk_at dksX5_reading_1 12 rfl rfl)
theorem dX5_reading_37 : decode cX5_reading 37 = .ok (.if_icmp .ne 8, 3) := dk_160 0 8 (dk_at dksX5_reading_1 14 rfl rfl)
theorem dX5_reading_40 : decode cX5_reading 40 = .ok (.aload_n 0, 1) := dk_42 (dk_at dksX5_reading_1 17 rfl rfl)
theorem dX5_reading_41 : decode cX5_reading 41 = .ok (.invokevirtual 93, 3) := dk_182 0 93 (dk_at dksX5_reading_1 18 rfl rfl)
theorem dX5_reading_44 : decode cX5_reading 44 = .ok (.ireturn, 1) := dk_172 (dk_at dksX5_reading_1 21 rfl rfl)
theorem dX5_reading_45 : decode cX5_reading 45 = .ok (.bipush 97, 2) := dk_16 97 (dk_at dksX5_reading_1 22 rfl rfl)
theorem dX5_reading_47 : decode cX5_reading 47 = .ok (.iconst 3, 1) := dk_6 (dk_at dksX5_reading_2 0 rfl rfl)
theorem dX5_reading_48 : decode cX5_reading 48 = .ok (.aload_n 0, 1) := dk_42 (dk_at dksX5_reading_2 1 rfl rfl)
theorem dX5_reading_49 : decode cX5_reading 49 = .ok (.getfield 7, 3) := dk_180 0 7 (dk_at dksX5_reading_2 2 rfl rfl)
theorem dX5_reading_52 : decode cX5_reading 52 = .ok (.iconst 5, 1) := dk_8 (dk_at dksX5_reading_2 5 rfl rfl)
theorem dX5_reading_53 : decode cX5_reading 53 = .ok (.iaload, 1) := dk_46 (dk_at dksX5_reading_2 6 rfl rfl)
theorem dX5_reading_54 : decode cX5_reading 54 = .ok (.imul, 1) := dk_104 (dk_at dksX5_reading_2 7 rfl rfl)
theorem dX5_reading_55 : decode cX5_reading 55 = .ok (.iadd, 1) := dk_96 (dk_at dksX5_reading_2 8 rfl rfl)
theorem dX5_reading_56 : decode cX5_reading 56 = .ok (.istore 4, 2) := dk_54 4 (dk_at dksX5_reading_2 9 rfl rfl)
theorem dX5_reading_58 : decode cX5_reading 58 = .ok (.aload_n 0, 1) := dk_42 (dk_at dksX5_reading_2 11 rfl rfl)
theorem dX5_reading_59 : decode cX5_reading 59 = .ok (.getfield 7, 3) := dk_180 0 7 (dk_at dksX5_reading_2 12 rfl rfl)
theorem dX5_reading_62 : decode cX5_reading 62 = .ok (.iload 4, 2) := dk_21 4 (dk_at dksX5_reading_2 15 rfl rfl)
theorem dX5_reading_64 : decode cX5_reading 64 = .ok (.iload_n 1, 1) := dk_27 (dk_at dksX5_reading_2 17 rfl rfl)
theorem dX5_reading_65 : decode cX5_reading 65 = .ok (.iastore, 1) := dk_79 (dk_at dksX5_reading_2 18 rfl rfl)
theorem dX5_reading_66 : decode cX5_reading 66 = .ok (.aload_n 0, 1) := dk_42 (dk_at dksX5_reading_2 19 rfl rfl)
theorem dX5_reading_67 : decode cX5_reading 67 = .ok (.getfield 7, 3) := dk_180 0 7 (dk_at dksX5_reading_2 20 rfl rfl)
theorem dX5_reading_70 : decode cX5_reading 70 = .ok (.iload 4, 2) := dk_21 4 (dk_at dksX5_reading_3 0 rfl rfl)
theorem dX5_reading_72 : decode cX5_reading 72 = .ok (.iconst 1, 1) := dk_4 (dk_at dksX5_reading_3 2 rfl rfl)
theorem dX5_reading_73 : decode cX5_reading 73 = .ok (.iadd, 1) := dk_96 (dk_at dksX5_reading_3 3 rfl rfl)
theorem dX5_reading_74 : decode cX5_reading 74 = .ok (.iload_n 2, 1) := dk_28 (dk_at dksX5_reading_3 4 rfl rfl)
theorem dX5_reading_75 : decode cX5_reading 75 = .ok (.iastore, 1) := dk_79 (dk_at dksX5_reading_3 5 rfl rfl)
theorem dX5_reading_76 : decode cX5_reading 76 = .ok (.aload_n 0, 1) := dk_42 (dk_at dksX5_reading_3 6 rfl rfl)
theorem dX5_reading_77 : decode cX5_reading 77 = .ok (.getfield 7, 3) := dk_180 0 7 (dk_at dksX5_reading_3 7 rfl rfl)
theorem dX5_reading_80 : decode cX5_reading 80 = .ok (.iload 4, 2) := dk_21 4 (dk_at dksX5_reading_3 10 rfl rfl)
theorem dX5_reading_82 : decode cX5_reading 82 = .ok (.iconst 2, 1) := dk_5 (dk_at dksX5_reading_3 12 rfl rfl)
theorem dX5_reading_83 : decode cX5_reading 83 = .ok (.iadd, 1) := dk_96 (dk_at dksX5_reading_3 13 rfl rfl)
theorem dX5_reading_84 : decode cX5_reading 84 = .ok (.iload_n 3, 1) := dk_29 (dk_at dksX5_reading_3 14 rfl rfl)
theorem dX5_reading_85 : decode cX5_reading 85 = .ok (.iastore, 1) := dk_79 (dk_at dksX5_reading_3 15 rfl rfl)
theorem dX5_reading_86 : decode cX5_reading 86 = .ok (.aload_n 0, 1) := dk_42 (dk_at dksX5_reading_3 16 rfl rfl)
theorem dX5_reading_87 : decode cX5_reading 87 = .ok (.getfield 7, 3) := dk_180 0 7 (dk_at dksX5_reading_3 17 rfl rfl)
theorem dX5_reading_90 : decode cX5_reading 90 = .ok (.iconst 5, 1) := dk_8 (dk_at dksX5_reading_3 20 rfl rfl)
theorem dX5_reading_91 : decode cX5_reading 91 = .ok (.dup2, 1) := dk_92 (dk_at dksX5_reading_3 21 rfl rfl)
theorem dX5_reading_92 : decode cX5_reading 92 = .ok (.iaload, 1) := dk_46 (dk_at dksX5_reading_3 22 rfl rfl)
theorem dX5_reading_93 : decode cX5_reading 93 = .ok (.iconst 1, 1) := dk_4 (dk_at dksX5_reading_3 23 rfl rfl)
theorem dX5_reading_94 : decode cX5_reading 94 = .ok (.iadd, 1) := dk_96 (dk_at dksX5_reading_4 0 rfl rfl)
theorem dX5_reading_95 : decode cX5_reading 95 = .ok (.iastore, 1) := dk_79 (dk_at dksX5_reading_4 1 rfl rfl)
theorem dX5_reading_96 : decode cX5_reading 96 = .ok (.aload_n 0, 1) := dk_42 (dk_at dksX5_reading_4 2 rfl rfl)
theorem dX5_reading_97 : decode cX5_reading 97 = .ok (.getfield 7, 3) := dk_180 0 7 (dk_at dksX5_reading_4 3 rfl rfl)
theorem dX5_reading_100 : decode cX5_reading 100 = .ok (.iconst 5, 1) := dk_8 (dk_at dksX5_reading_4 6 rfl rfl)
theorem dX5_reading_101 : decode cX5_reading 101 = .ok (.iaload, 1) := dk_46 (dk_at dksX5_reading_4 7 rfl rfl)
theorem dX5_reading_102 : decode cX5_reading 102 = .ok (.ireturn, 1) := dk_172 (dk_at dksX5_reading_4 8 rfl rfl)
abbrev cX5_forget : ByteArray := prog_14_method_59_code
def yX5_forget : MethodName := ⟨RX5, "forget", "()I"⟩
def dkwX5_forget_0 : List UInt8 := [42, 180, 0, 7, 8, 46, 60, 42, 180, 0, 7, 8, 3, 79, 27, 172]
abbrev dktX5_forget_0 : List UInt8 := dkwX5_forget_0 ++ []
theorem dksX5_forget_0 : cX5_forget.data.toList.drop 0 = dktX5_forget_0 := by decide +kernel
theorem dX5_forget_0 : decode cX5_forget 0 = .ok (.aload_n 0, 1) := dk_42 (dk_at dksX5_forget_0 0 rfl rfl)
theorem dX5_forget_1 : decode cX5_forget 1 = .ok (.getfield 7, 3) := dk_180 0 7 (dk_at dksX5_forget_0 1 rfl rfl)
theorem dX5_forget_4 : decode cX5_forget 4 = .ok (.iconst 5, 1) := dk_8 (dk_at dksX5_forget_0 4 rfl rfl)
theorem dX5_forget_5 : decode cX5_forget 5 = .ok (.iaload, 1) := dk_46 (dk_at dksX5_forget_0 5 rfl rfl)
theorem dX5_forget_6 : decode cX5_forget 6 = .ok (.istore_n 1, 1) := dk_60 (dk_at dksX5_forget_0 6 rfl rfl)
theorem dX5_forget_7 : decode cX5_forget 7 = .ok (.aload_n 0, 1) := dk_42 (dk_at dksX5_forget_0 7 rfl rfl)
theorem dX5_forget_8 : decode cX5_forget 8 = .ok (.getfield 7, 3) := dk_180 0 7 (dk_at dksX5_forget_0 8 rfl rfl)
theorem dX5_forget_11 : decode cX5_forget 11 = .ok (.iconst 5, 1) := dk_8 (dk_at dksX5_forget_0 11 rfl rfl)
theorem dX5_forget_12 : decode cX5_forget 12 = .ok (.iconst 0, 1) := dk_3 (dk_at dksX5_forget_0 12 rfl rfl)
theorem dX5_forget_13 : decode cX5_forget 13 = .ok (.iastore, 1) := dk_79 (dk_at dksX5_forget_0 13 rfl rfl)
theorem dX5_forget_14 : decode cX5_forget 14 = .ok (.iload_n 1, 1) := dk_27 (dk_at dksX5_forget_0 14 rfl rfl)
theorem dX5_forget_15 : decode cX5_forget 15 = .ok (.ireturn, 1) := dk_172 (dk_at dksX5_forget_0 15 rfl rfl)
abbrev cX5_is : ByteArray := prog_14_method_61_code
def yX5_is : MethodName := ⟨RX5, "is", "(II)I"⟩
def dkwX5_is_4 : List UInt8 := [167, 255, 195, 28, 154, 0, 7, 29, 167, 0, 5, 21, 4, 172]
abbrev dktX5_is_4 : List UInt8 := dkwX5_is_4 ++ []
def dkwX5_is_3 : List UInt8 := [167, 0, 4, 3, 128, 62, 21, 4, 21, 6, 153, 0, 7, 4, 167, 0, 4, 3, 96, 54, 4, 132, 5, 1]
abbrev dktX5_is_3 : List UInt8 := dkwX5_is_3 ++ dktX5_is_4
def dkwX5_is_2 : List UInt8 := [21, 5, 16, 6, 112, 182, 0, 216, 54, 6, 29, 21, 6, 153, 0, 13, 4, 21, 5, 16, 6, 108, 120]
abbrev dktX5_is_2 : List UInt8 := dkwX5_is_2 ++ dktX5_is_3
def dkwX5_is_1 : List UInt8 := [172, 3, 62, 3, 54, 4, 3, 54, 5, 21, 5, 16, 36, 162, 0, 60, 42, 27, 21, 5, 16, 6, 108]
abbrev dktX5_is_1 : List UInt8 := dkwX5_is_1 ++ dktX5_is_2
def dkwX5_is_0 : List UInt8 := [42, 27, 182, 0, 112, 153, 0, 13, 28, 133, 9, 10, 184, 0, 64, 154, 0, 10, 42, 16, 254, 182, 0, 89]
abbrev dktX5_is_0 : List UInt8 := dkwX5_is_0 ++ dktX5_is_1
theorem dksX5_is_0 : cX5_is.data.toList.drop 0 = dktX5_is_0 := by decide +kernel
theorem dksX5_is_1 : cX5_is.data.toList.drop 24 = dktX5_is_1 := dk_seg dksX5_is_0 24 rfl rfl
theorem dksX5_is_2 : cX5_is.data.toList.drop 47 = dktX5_is_2 := dk_seg dksX5_is_1 23 rfl rfl
theorem dksX5_is_3 : cX5_is.data.toList.drop 70 = dktX5_is_3 := dk_seg dksX5_is_2 23 rfl rfl
theorem dksX5_is_4 : cX5_is.data.toList.drop 94 = dktX5_is_4 := dk_seg dksX5_is_3 24 rfl rfl
theorem dX5_is_0 : decode cX5_is 0 = .ok (.aload_n 0, 1) := dk_42 (dk_at dksX5_is_0 0 rfl rfl)
theorem dX5_is_1 : decode cX5_is 1 = .ok (.iload_n 1, 1) := dk_27 (dk_at dksX5_is_0 1 rfl rfl)
theorem dX5_is_2 : decode cX5_is 2 = .ok (.invokevirtual 112, 3) := dk_182 0 112 (dk_at dksX5_is_0 2 rfl rfl)
theorem dX5_is_5 : decode cX5_is 5 = .ok (.ifCond .eq 13, 3) := dk_153 0 13 (dk_at dksX5_is_0 5 rfl rfl)
theorem dX5_is_8 : decode cX5_is 8 = .ok (.iload_n 2, 1) := dk_28 (dk_at dksX5_is_0 8 rfl rfl)
theorem dX5_is_9 : decode cX5_is 9 = .ok (.i2l, 1) := dk_133 (dk_at dksX5_is_0 9 rfl rfl)
theorem dX5_is_10 : decode cX5_is 10 = .ok (.lconst 0, 1) := dk_9 (dk_at dksX5_is_0 10 rfl rfl)
theorem dX5_is_11 : decode cX5_is 11 = .ok (.lconst 1, 1) := dk_10 (dk_at dksX5_is_0 11 rfl rfl)
theorem dX5_is_12 : decode cX5_is 12 = .ok (.invokestatic 64, 3) := dk_184 0 64 (dk_at dksX5_is_0 12 rfl rfl)
theorem dX5_is_15 : decode cX5_is 15 = .ok (.ifCond .ne 10, 3) := dk_154 0 10 (dk_at dksX5_is_0 15 rfl rfl)
theorem dX5_is_18 : decode cX5_is 18 = .ok (.aload_n 0, 1) := dk_42 (dk_at dksX5_is_0 18 rfl rfl)
theorem dX5_is_19 : decode cX5_is 19 = .ok (.bipush (-2), 2) := dk_16 254 (dk_at dksX5_is_0 19 rfl rfl)
theorem dX5_is_21 : decode cX5_is 21 = .ok (.invokevirtual 89, 3) := dk_182 0 89 (dk_at dksX5_is_0 21 rfl rfl)
theorem dX5_is_24 : decode cX5_is 24 = .ok (.ireturn, 1) := dk_172 (dk_at dksX5_is_1 0 rfl rfl)
theorem dX5_is_25 : decode cX5_is 25 = .ok (.iconst 0, 1) := dk_3 (dk_at dksX5_is_1 1 rfl rfl)
theorem dX5_is_26 : decode cX5_is 26 = .ok (.istore_n 3, 1) := dk_62 (dk_at dksX5_is_1 2 rfl rfl)
theorem dX5_is_27 : decode cX5_is 27 = .ok (.iconst 0, 1) := dk_3 (dk_at dksX5_is_1 3 rfl rfl)
theorem dX5_is_28 : decode cX5_is 28 = .ok (.istore 4, 2) := dk_54 4 (dk_at dksX5_is_1 4 rfl rfl)
theorem dX5_is_30 : decode cX5_is 30 = .ok (.iconst 0, 1) := dk_3 (dk_at dksX5_is_1 6 rfl rfl)
theorem dX5_is_31 : decode cX5_is 31 = .ok (.istore 5, 2) := dk_54 5 (dk_at dksX5_is_1 7 rfl rfl)
theorem dX5_is_33 : decode cX5_is 33 = .ok (.iload 5, 2) := dk_21 5 (dk_at dksX5_is_1 9 rfl rfl)
theorem dX5_is_35 : decode cX5_is 35 = .ok (.bipush 36, 2) := dk_16 36 (dk_at dksX5_is_1 11 rfl rfl)
theorem dX5_is_37 : decode cX5_is 37 = .ok (.if_icmp .ge 60, 3) := dk_162 0 60 (dk_at dksX5_is_1 13 rfl rfl)
theorem dX5_is_40 : decode cX5_is 40 = .ok (.aload_n 0, 1) := dk_42 (dk_at dksX5_is_1 16 rfl rfl)
theorem dX5_is_41 : decode cX5_is 41 = .ok (.iload_n 1, 1) := dk_27 (dk_at dksX5_is_1 17 rfl rfl)
theorem dX5_is_42 : decode cX5_is 42 = .ok (.iload 5, 2) := dk_21 5 (dk_at dksX5_is_1 18 rfl rfl)
theorem dX5_is_44 : decode cX5_is 44 = .ok (.bipush 6, 2) := dk_16 6 (dk_at dksX5_is_1 20 rfl rfl)
theorem dX5_is_46 : decode cX5_is 46 = .ok (.idiv, 1) := dk_108 (dk_at dksX5_is_1 22 rfl rfl)
theorem dX5_is_47 : decode cX5_is 47 = .ok (.iload 5, 2) := dk_21 5 (dk_at dksX5_is_2 0 rfl rfl)
theorem dX5_is_49 : decode cX5_is 49 = .ok (.bipush 6, 2) := dk_16 6 (dk_at dksX5_is_2 2 rfl rfl)
theorem dX5_is_51 : decode cX5_is 51 = .ok (.irem, 1) := dk_112 (dk_at dksX5_is_2 4 rfl rfl)
theorem dX5_is_52 : decode cX5_is 52 = .ok (.invokevirtual 216, 3) := dk_182 0 216 (dk_at dksX5_is_2 5 rfl rfl)
theorem dX5_is_55 : decode cX5_is 55 = .ok (.istore 6, 2) := dk_54 6 (dk_at dksX5_is_2 8 rfl rfl)
theorem dX5_is_57 : decode cX5_is 57 = .ok (.iload_n 3, 1) := dk_29 (dk_at dksX5_is_2 10 rfl rfl)
theorem dX5_is_58 : decode cX5_is 58 = .ok (.iload 6, 2) := dk_21 6 (dk_at dksX5_is_2 11 rfl rfl)
theorem dX5_is_60 : decode cX5_is 60 = .ok (.ifCond .eq 13, 3) := dk_153 0 13 (dk_at dksX5_is_2 13 rfl rfl)
theorem dX5_is_63 : decode cX5_is 63 = .ok (.iconst 1, 1) := dk_4 (dk_at dksX5_is_2 16 rfl rfl)
theorem dX5_is_64 : decode cX5_is 64 = .ok (.iload 5, 2) := dk_21 5 (dk_at dksX5_is_2 17 rfl rfl)
theorem dX5_is_66 : decode cX5_is 66 = .ok (.bipush 6, 2) := dk_16 6 (dk_at dksX5_is_2 19 rfl rfl)
theorem dX5_is_68 : decode cX5_is 68 = .ok (.idiv, 1) := dk_108 (dk_at dksX5_is_2 21 rfl rfl)
theorem dX5_is_69 : decode cX5_is 69 = .ok (.ishl, 1) := dk_120 (dk_at dksX5_is_2 22 rfl rfl)
theorem dX5_is_70 : decode cX5_is 70 = .ok (.goto 4, 3) := dk_167 0 4 (dk_at dksX5_is_3 0 rfl rfl)
theorem dX5_is_73 : decode cX5_is 73 = .ok (.iconst 0, 1) := dk_3 (dk_at dksX5_is_3 3 rfl rfl)
theorem dX5_is_74 : decode cX5_is 74 = .ok (.ior, 1) := dk_128 (dk_at dksX5_is_3 4 rfl rfl)
theorem dX5_is_75 : decode cX5_is 75 = .ok (.istore_n 3, 1) := dk_62 (dk_at dksX5_is_3 5 rfl rfl)
theorem dX5_is_76 : decode cX5_is 76 = .ok (.iload 4, 2) := dk_21 4 (dk_at dksX5_is_3 6 rfl rfl)
theorem dX5_is_78 : decode cX5_is 78 = .ok (.iload 6, 2) := dk_21 6 (dk_at dksX5_is_3 8 rfl rfl)
theorem dX5_is_80 : decode cX5_is 80 = .ok (.ifCond .eq 7, 3) := dk_153 0 7 (dk_at dksX5_is_3 10 rfl rfl)
theorem dX5_is_83 : decode cX5_is 83 = .ok (.iconst 1, 1) := dk_4 (dk_at dksX5_is_3 13 rfl rfl)
theorem dX5_is_84 : decode cX5_is 84 = .ok (.goto 4, 3) := dk_167 0 4 (dk_at dksX5_is_3 14 rfl rfl)
theorem dX5_is_87 : decode cX5_is 87 = .ok (.iconst 0, 1) := dk_3 (dk_at dksX5_is_3 17 rfl rfl)
theorem dX5_is_88 : decode cX5_is 88 = .ok (.iadd, 1) := dk_96 (dk_at dksX5_is_3 18 rfl rfl)
theorem dX5_is_89 : decode cX5_is 89 = .ok (.istore 4, 2) := dk_54 4 (dk_at dksX5_is_3 19 rfl rfl)
theorem dX5_is_91 : decode cX5_is 91 = .ok (.iinc 5 1, 3) := dk_132 5 1 (dk_at dksX5_is_3 21 rfl rfl)
theorem dX5_is_94 : decode cX5_is 94 = .ok (.goto (-61), 3) := dk_167 255 195 (dk_at dksX5_is_4 0 rfl rfl)
theorem dX5_is_97 : decode cX5_is 97 = .ok (.iload_n 2, 1) := dk_28 (dk_at dksX5_is_4 3 rfl rfl)
theorem dX5_is_98 : decode cX5_is 98 = .ok (.ifCond .ne 7, 3) := dk_154 0 7 (dk_at dksX5_is_4 4 rfl rfl)
theorem dX5_is_101 : decode cX5_is 101 = .ok (.iload_n 3, 1) := dk_29 (dk_at dksX5_is_4 7 rfl rfl)
theorem dX5_is_102 : decode cX5_is 102 = .ok (.goto 5, 3) := dk_167 0 5 (dk_at dksX5_is_4 8 rfl rfl)
theorem dX5_is_105 : decode cX5_is 105 = .ok (.iload 4, 2) := dk_21 4 (dk_at dksX5_is_4 11 rfl rfl)
theorem dX5_is_107 : decode cX5_is 107 = .ok (.ireturn, 1) := dk_172 (dk_at dksX5_is_4 13 rfl rfl)
abbrev cX5_mayBe : ByteArray := prog_14_method_60_code
def yX5_mayBe : MethodName := ⟨RX5, "mayBe", "(III)Z"⟩
def dkwX5_mayBe_3 : List UInt8 := [3, 54, 4, 132, 5, 1, 167, 255, 184, 21, 4, 172]
abbrev dktX5_mayBe_3 : List UInt8 := dkwX5_mayBe_3 ++ []
def dkwX5_mayBe_2 : List UInt8 := [21, 6, 4, 96, 46, 184, 0, 124, 42, 180, 0, 7, 21, 6, 5, 96, 46, 160, 0, 7, 4, 167, 0, 4]
abbrev dktX5_mayBe_2 : List UInt8 := dkwX5_mayBe_2 ++ dktX5_mayBe_3
def dkwX5_mayBe_1 : List UInt8 := [54, 6, 21, 4, 153, 0, 44, 42, 180, 0, 7, 21, 6, 46, 27, 160, 0, 29, 28, 29, 42, 180, 0, 7]
abbrev dktX5_mayBe_1 : List UInt8 := dkwX5_mayBe_1 ++ dktX5_mayBe_2
def dkwX5_mayBe_0 : List UInt8 := [4, 54, 4, 3, 54, 5, 21, 5, 42, 180, 0, 7, 8, 46, 162, 0, 67, 16, 97, 6, 21, 5, 104, 96]
abbrev dktX5_mayBe_0 : List UInt8 := dkwX5_mayBe_0 ++ dktX5_mayBe_1
theorem dksX5_mayBe_0 : cX5_mayBe.data.toList.drop 0 = dktX5_mayBe_0 := by decide +kernel
theorem dksX5_mayBe_1 : cX5_mayBe.data.toList.drop 24 = dktX5_mayBe_1 := dk_seg dksX5_mayBe_0 24 rfl rfl
theorem dksX5_mayBe_2 : cX5_mayBe.data.toList.drop 48 = dktX5_mayBe_2 := dk_seg dksX5_mayBe_1 24 rfl rfl
theorem dksX5_mayBe_3 : cX5_mayBe.data.toList.drop 72 = dktX5_mayBe_3 := dk_seg dksX5_mayBe_2 24 rfl rfl
theorem dX5_mayBe_0 : decode cX5_mayBe 0 = .ok (.iconst 1, 1) := dk_4 (dk_at dksX5_mayBe_0 0 rfl rfl)
theorem dX5_mayBe_1 : decode cX5_mayBe 1 = .ok (.istore 4, 2) := dk_54 4 (dk_at dksX5_mayBe_0 1 rfl rfl)
theorem dX5_mayBe_3 : decode cX5_mayBe 3 = .ok (.iconst 0, 1) := dk_3 (dk_at dksX5_mayBe_0 3 rfl rfl)
theorem dX5_mayBe_4 : decode cX5_mayBe 4 = .ok (.istore 5, 2) := dk_54 5 (dk_at dksX5_mayBe_0 4 rfl rfl)
theorem dX5_mayBe_6 : decode cX5_mayBe 6 = .ok (.iload 5, 2) := dk_21 5 (dk_at dksX5_mayBe_0 6 rfl rfl)
theorem dX5_mayBe_8 : decode cX5_mayBe 8 = .ok (.aload_n 0, 1) := dk_42 (dk_at dksX5_mayBe_0 8 rfl rfl)
theorem dX5_mayBe_9 : decode cX5_mayBe 9 = .ok (.getfield 7, 3) := dk_180 0 7 (dk_at dksX5_mayBe_0 9 rfl rfl)
theorem dX5_mayBe_12 : decode cX5_mayBe 12 = .ok (.iconst 5, 1) := dk_8 (dk_at dksX5_mayBe_0 12 rfl rfl)
theorem dX5_mayBe_13 : decode cX5_mayBe 13 = .ok (.iaload, 1) := dk_46 (dk_at dksX5_mayBe_0 13 rfl rfl)
theorem dX5_mayBe_14 : decode cX5_mayBe 14 = .ok (.if_icmp .ge 67, 3) := dk_162 0 67 (dk_at dksX5_mayBe_0 14 rfl rfl)
theorem dX5_mayBe_17 : decode cX5_mayBe 17 = .ok (.bipush 97, 2) := dk_16 97 (dk_at dksX5_mayBe_0 17 rfl rfl)
theorem dX5_mayBe_19 : decode cX5_mayBe 19 = .ok (.iconst 3, 1) := dk_6 (dk_at dksX5_mayBe_0 19 rfl rfl)
theorem dX5_mayBe_20 : decode cX5_mayBe 20 = .ok (.iload 5, 2) := dk_21 5 (dk_at dksX5_mayBe_0 20 rfl rfl)
theorem dX5_mayBe_22 : decode cX5_mayBe 22 = .ok (.imul, 1) := dk_104 (dk_at dksX5_mayBe_0 22 rfl rfl)
theorem dX5_mayBe_23 : decode cX5_mayBe 23 = .ok (.iadd, 1) := dk_96 (dk_at dksX5_mayBe_0 23 rfl rfl)
theorem dX5_mayBe_24 : decode cX5_mayBe 24 = .ok (.istore 6, 2) := dk_54 6 (dk_at dksX5_mayBe_1 0 rfl rfl)
theorem dX5_mayBe_26 : decode cX5_mayBe 26 = .ok (.iload 4, 2) := dk_21 4 (dk_at dksX5_mayBe_1 2 rfl rfl)
theorem dX5_mayBe_28 : decode cX5_mayBe 28 = .ok (.ifCond .eq 44, 3) := dk_153 0 44 (dk_at dksX5_mayBe_1 4 rfl rfl)
theorem dX5_mayBe_31 : decode cX5_mayBe 31 = .ok (.aload_n 0, 1) := dk_42 (dk_at dksX5_mayBe_1 7 rfl rfl)
theorem dX5_mayBe_32 : decode cX5_mayBe 32 = .ok (.getfield 7, 3) := dk_180 0 7 (dk_at dksX5_mayBe_1 8 rfl rfl)
theorem dX5_mayBe_35 : decode cX5_mayBe 35 = .ok (.iload 6, 2) := dk_21 6 (dk_at dksX5_mayBe_1 11 rfl rfl)
theorem dX5_mayBe_37 : decode cX5_mayBe 37 = .ok (.iaload, 1) := dk_46 (dk_at dksX5_mayBe_1 13 rfl rfl)
theorem dX5_mayBe_38 : decode cX5_mayBe 38 = .ok (.iload_n 1, 1) := dk_27 (dk_at dksX5_mayBe_1 14 rfl rfl)
theorem dX5_mayBe_39 : decode cX5_mayBe 39 = .ok (.if_icmp .ne 29, 3) := dk_160 0 29 (dk_at dksX5_mayBe_1 15 rfl rfl)
theorem dX5_mayBe_42 : decode cX5_mayBe 42 = .ok (.iload_n 2, 1) := dk_28 (dk_at dksX5_mayBe_1 18 rfl rfl)
theorem dX5_mayBe_43 : decode cX5_mayBe 43 = .ok (.iload_n 3, 1) := dk_29 (dk_at dksX5_mayBe_1 19 rfl rfl)
theorem dX5_mayBe_44 : decode cX5_mayBe 44 = .ok (.aload_n 0, 1) := dk_42 (dk_at dksX5_mayBe_1 20 rfl rfl)
theorem dX5_mayBe_45 : decode cX5_mayBe 45 = .ok (.getfield 7, 3) := dk_180 0 7 (dk_at dksX5_mayBe_1 21 rfl rfl)
theorem dX5_mayBe_48 : decode cX5_mayBe 48 = .ok (.iload 6, 2) := dk_21 6 (dk_at dksX5_mayBe_2 0 rfl rfl)
theorem dX5_mayBe_50 : decode cX5_mayBe 50 = .ok (.iconst 1, 1) := dk_4 (dk_at dksX5_mayBe_2 2 rfl rfl)
theorem dX5_mayBe_51 : decode cX5_mayBe 51 = .ok (.iadd, 1) := dk_96 (dk_at dksX5_mayBe_2 3 rfl rfl)
theorem dX5_mayBe_52 : decode cX5_mayBe 52 = .ok (.iaload, 1) := dk_46 (dk_at dksX5_mayBe_2 4 rfl rfl)
theorem dX5_mayBe_53 : decode cX5_mayBe 53 = .ok (.invokestatic 124, 3) := dk_184 0 124 (dk_at dksX5_mayBe_2 5 rfl rfl)
theorem dX5_mayBe_56 : decode cX5_mayBe 56 = .ok (.aload_n 0, 1) := dk_42 (dk_at dksX5_mayBe_2 8 rfl rfl)
theorem dX5_mayBe_57 : decode cX5_mayBe 57 = .ok (.getfield 7, 3) := dk_180 0 7 (dk_at dksX5_mayBe_2 9 rfl rfl)
theorem dX5_mayBe_60 : decode cX5_mayBe 60 = .ok (.iload 6, 2) := dk_21 6 (dk_at dksX5_mayBe_2 12 rfl rfl)
theorem dX5_mayBe_62 : decode cX5_mayBe 62 = .ok (.iconst 2, 1) := dk_5 (dk_at dksX5_mayBe_2 14 rfl rfl)
theorem dX5_mayBe_63 : decode cX5_mayBe 63 = .ok (.iadd, 1) := dk_96 (dk_at dksX5_mayBe_2 15 rfl rfl)
theorem dX5_mayBe_64 : decode cX5_mayBe 64 = .ok (.iaload, 1) := dk_46 (dk_at dksX5_mayBe_2 16 rfl rfl)
theorem dX5_mayBe_65 : decode cX5_mayBe 65 = .ok (.if_icmp .ne 7, 3) := dk_160 0 7 (dk_at dksX5_mayBe_2 17 rfl rfl)
theorem dX5_mayBe_68 : decode cX5_mayBe 68 = .ok (.iconst 1, 1) := dk_4 (dk_at dksX5_mayBe_2 20 rfl rfl)
theorem dX5_mayBe_69 : decode cX5_mayBe 69 = .ok (.goto 4, 3) := dk_167 0 4 (dk_at dksX5_mayBe_2 21 rfl rfl)
theorem dX5_mayBe_72 : decode cX5_mayBe 72 = .ok (.iconst 0, 1) := dk_3 (dk_at dksX5_mayBe_3 0 rfl rfl)
theorem dX5_mayBe_73 : decode cX5_mayBe 73 = .ok (.istore 4, 2) := dk_54 4 (dk_at dksX5_mayBe_3 1 rfl rfl)
theorem dX5_mayBe_75 : decode cX5_mayBe 75 = .ok (.iinc 5 1, 3) := dk_132 5 1 (dk_at dksX5_mayBe_3 3 rfl rfl)
theorem dX5_mayBe_78 : decode cX5_mayBe 78 = .ok (.goto (-72), 3) := dk_167 255 184 (dk_at dksX5_mayBe_3 6 rfl rfl)
theorem dX5_mayBe_81 : decode cX5_mayBe 81 = .ok (.iload 4, 2) := dk_21 4 (dk_at dksX5_mayBe_3 9 rfl rfl)
theorem dX5_mayBe_83 : decode cX5_mayBe 83 = .ok (.ireturn, 1) := dk_172 (dk_at dksX5_mayBe_3 11 rfl rfl)
abbrev cX5_look : ByteArray := prog_14_method_63_code
def yX5_look : MethodName := ⟨RX5, "look", "(I)I"⟩
def dkwX5_look_4 : List UInt8 := [28, 172]
abbrev dktX5_look_4 : List UInt8 := dkwX5_look_4 ++ []
def dkwX5_look_3 : List UInt8 := [21, 5, 158, 0, 14, 21, 5, 29, 162, 0, 8, 21, 5, 167, 0, 4, 29, 62, 132, 4, 1, 167, 255, 194]
abbrev dktX5_look_3 : List UInt8 := dkwX5_look_3 ++ dktX5_look_4
def dkwX5_look_2 : List UInt8 := [182, 0, 219, 54, 5, 21, 5, 158, 0, 14, 21, 5, 29, 162, 0, 8, 21, 4, 167, 0, 4, 28, 61]
abbrev dktX5_look_2 : List UInt8 := dkwX5_look_2 ++ dktX5_look_3
def dkwX5_look_1 : List UInt8 := [5, 46, 54, 4, 21, 4, 42, 180, 0, 7, 5, 46, 16, 12, 96, 162, 0, 54, 42, 27, 21, 4]
abbrev dktX5_look_1 : List UInt8 := dkwX5_look_1 ++ dktX5_look_2
def dkwX5_look_0 : List UInt8 := [42, 27, 182, 0, 112, 154, 0, 10, 42, 16, 254, 182, 0, 89, 172, 2, 61, 18, 215, 62, 42, 180, 0, 7]
abbrev dktX5_look_0 : List UInt8 := dkwX5_look_0 ++ dktX5_look_1
theorem dksX5_look_0 : cX5_look.data.toList.drop 0 = dktX5_look_0 := by decide +kernel
theorem dksX5_look_1 : cX5_look.data.toList.drop 24 = dktX5_look_1 := dk_seg dksX5_look_0 24 rfl rfl
theorem dksX5_look_2 : cX5_look.data.toList.drop 46 = dktX5_look_2 := dk_seg dksX5_look_1 22 rfl rfl
theorem dksX5_look_3 : cX5_look.data.toList.drop 69 = dktX5_look_3 := dk_seg dksX5_look_2 23 rfl rfl
theorem dksX5_look_4 : cX5_look.data.toList.drop 93 = dktX5_look_4 := dk_seg dksX5_look_3 24 rfl rfl
theorem dX5_look_0 : decode cX5_look 0 = .ok (.aload_n 0, 1) := dk_42 (dk_at dksX5_look_0 0 rfl rfl)
theorem dX5_look_1 : decode cX5_look 1 = .ok (.iload_n 1, 1) := dk_27 (dk_at dksX5_look_0 1 rfl rfl)
theorem dX5_look_2 : decode cX5_look 2 = .ok (.invokevirtual 112, 3) := dk_182 0 112 (dk_at dksX5_look_0 2 rfl rfl)
theorem dX5_look_5 : decode cX5_look 5 = .ok (.ifCond .ne 10, 3) := dk_154 0 10 (dk_at dksX5_look_0 5 rfl rfl)
theorem dX5_look_8 : decode cX5_look 8 = .ok (.aload_n 0, 1) := dk_42 (dk_at dksX5_look_0 8 rfl rfl)
theorem dX5_look_9 : decode cX5_look 9 = .ok (.bipush (-2), 2) := dk_16 254 (dk_at dksX5_look_0 9 rfl rfl)
theorem dX5_look_11 : decode cX5_look 11 = .ok (.invokevirtual 89, 3) := dk_182 0 89 (dk_at dksX5_look_0 11 rfl rfl)
theorem dX5_look_14 : decode cX5_look 14 = .ok (.ireturn, 1) := dk_172 (dk_at dksX5_look_0 14 rfl rfl)
theorem dX5_look_15 : decode cX5_look 15 = .ok (.iconst (-1), 1) := dk_2 (dk_at dksX5_look_0 15 rfl rfl)
theorem dX5_look_16 : decode cX5_look 16 = .ok (.istore_n 2, 1) := dk_61 (dk_at dksX5_look_0 16 rfl rfl)
theorem dX5_look_17 : decode cX5_look 17 = .ok (.ldc 215, 2) := dk_18 215 (dk_at dksX5_look_0 17 rfl rfl)
theorem dX5_look_19 : decode cX5_look 19 = .ok (.istore_n 3, 1) := dk_62 (dk_at dksX5_look_0 19 rfl rfl)
theorem dX5_look_20 : decode cX5_look 20 = .ok (.aload_n 0, 1) := dk_42 (dk_at dksX5_look_0 20 rfl rfl)
theorem dX5_look_21 : decode cX5_look 21 = .ok (.getfield 7, 3) := dk_180 0 7 (dk_at dksX5_look_0 21 rfl rfl)
theorem dX5_look_24 : decode cX5_look 24 = .ok (.iconst 2, 1) := dk_5 (dk_at dksX5_look_1 0 rfl rfl)
theorem dX5_look_25 : decode cX5_look 25 = .ok (.iaload, 1) := dk_46 (dk_at dksX5_look_1 1 rfl rfl)
theorem dX5_look_26 : decode cX5_look 26 = .ok (.istore 4, 2) := dk_54 4 (dk_at dksX5_look_1 2 rfl rfl)
theorem dX5_look_28 : decode cX5_look 28 = .ok (.iload 4, 2) := dk_21 4 (dk_at dksX5_look_1 4 rfl rfl)
theorem dX5_look_30 : decode cX5_look 30 = .ok (.aload_n 0, 1) := dk_42 (dk_at dksX5_look_1 6 rfl rfl)
theorem dX5_look_31 : decode cX5_look 31 = .ok (.getfield 7, 3) := dk_180 0 7 (dk_at dksX5_look_1 7 rfl rfl)
theorem dX5_look_34 : decode cX5_look 34 = .ok (.iconst 2, 1) := dk_5 (dk_at dksX5_look_1 10 rfl rfl)
theorem dX5_look_35 : decode cX5_look 35 = .ok (.iaload, 1) := dk_46 (dk_at dksX5_look_1 11 rfl rfl)
theorem dX5_look_36 : decode cX5_look 36 = .ok (.bipush 12, 2) := dk_16 12 (dk_at dksX5_look_1 12 rfl rfl)
theorem dX5_look_38 : decode cX5_look 38 = .ok (.iadd, 1) := dk_96 (dk_at dksX5_look_1 14 rfl rfl)
theorem dX5_look_39 : decode cX5_look 39 = .ok (.if_icmp .ge 54, 3) := dk_162 0 54 (dk_at dksX5_look_1 15 rfl rfl)
theorem dX5_look_42 : decode cX5_look 42 = .ok (.aload_n 0, 1) := dk_42 (dk_at dksX5_look_1 18 rfl rfl)
theorem dX5_look_43 : decode cX5_look 43 = .ok (.iload_n 1, 1) := dk_27 (dk_at dksX5_look_1 19 rfl rfl)
theorem dX5_look_44 : decode cX5_look 44 = .ok (.iload 4, 2) := dk_21 4 (dk_at dksX5_look_1 20 rfl rfl)
theorem dX5_look_46 : decode cX5_look 46 = .ok (.invokevirtual 219, 3) := dk_182 0 219 (dk_at dksX5_look_2 0 rfl rfl)
theorem dX5_look_49 : decode cX5_look 49 = .ok (.istore 5, 2) := dk_54 5 (dk_at dksX5_look_2 3 rfl rfl)
theorem dX5_look_51 : decode cX5_look 51 = .ok (.iload 5, 2) := dk_21 5 (dk_at dksX5_look_2 5 rfl rfl)
theorem dX5_look_53 : decode cX5_look 53 = .ok (.ifCond .le 14, 3) := dk_158 0 14 (dk_at dksX5_look_2 7 rfl rfl)
theorem dX5_look_56 : decode cX5_look 56 = .ok (.iload 5, 2) := dk_21 5 (dk_at dksX5_look_2 10 rfl rfl)
theorem dX5_look_58 : decode cX5_look 58 = .ok (.iload_n 3, 1) := dk_29 (dk_at dksX5_look_2 12 rfl rfl)
theorem dX5_look_59 : decode cX5_look 59 = .ok (.if_icmp .ge 8, 3) := dk_162 0 8 (dk_at dksX5_look_2 13 rfl rfl)
theorem dX5_look_62 : decode cX5_look 62 = .ok (.iload 4, 2) := dk_21 4 (dk_at dksX5_look_2 16 rfl rfl)
theorem dX5_look_64 : decode cX5_look 64 = .ok (.goto 4, 3) := dk_167 0 4 (dk_at dksX5_look_2 18 rfl rfl)
theorem dX5_look_67 : decode cX5_look 67 = .ok (.iload_n 2, 1) := dk_28 (dk_at dksX5_look_2 21 rfl rfl)
theorem dX5_look_68 : decode cX5_look 68 = .ok (.istore_n 2, 1) := dk_61 (dk_at dksX5_look_2 22 rfl rfl)
theorem dX5_look_69 : decode cX5_look 69 = .ok (.iload 5, 2) := dk_21 5 (dk_at dksX5_look_3 0 rfl rfl)
theorem dX5_look_71 : decode cX5_look 71 = .ok (.ifCond .le 14, 3) := dk_158 0 14 (dk_at dksX5_look_3 2 rfl rfl)
theorem dX5_look_74 : decode cX5_look 74 = .ok (.iload 5, 2) := dk_21 5 (dk_at dksX5_look_3 5 rfl rfl)
theorem dX5_look_76 : decode cX5_look 76 = .ok (.iload_n 3, 1) := dk_29 (dk_at dksX5_look_3 7 rfl rfl)
theorem dX5_look_77 : decode cX5_look 77 = .ok (.if_icmp .ge 8, 3) := dk_162 0 8 (dk_at dksX5_look_3 8 rfl rfl)
theorem dX5_look_80 : decode cX5_look 80 = .ok (.iload 5, 2) := dk_21 5 (dk_at dksX5_look_3 11 rfl rfl)
theorem dX5_look_82 : decode cX5_look 82 = .ok (.goto 4, 3) := dk_167 0 4 (dk_at dksX5_look_3 13 rfl rfl)
theorem dX5_look_85 : decode cX5_look 85 = .ok (.iload_n 3, 1) := dk_29 (dk_at dksX5_look_3 16 rfl rfl)
theorem dX5_look_86 : decode cX5_look 86 = .ok (.istore_n 3, 1) := dk_62 (dk_at dksX5_look_3 17 rfl rfl)
theorem dX5_look_87 : decode cX5_look 87 = .ok (.iinc 4 1, 3) := dk_132 4 1 (dk_at dksX5_look_3 18 rfl rfl)
theorem dX5_look_90 : decode cX5_look 90 = .ok (.goto (-62), 3) := dk_167 255 194 (dk_at dksX5_look_3 21 rfl rfl)
theorem dX5_look_93 : decode cX5_look 93 = .ok (.iload_n 2, 1) := dk_28 (dk_at dksX5_look_4 0 rfl rfl)
theorem dX5_look_94 : decode cX5_look 94 = .ok (.ireturn, 1) := dk_172 (dk_at dksX5_look_4 1 rfl rfl)
abbrev cX5_mostLike : ByteArray := prog_14_method_62_code
def yX5_mostLike : MethodName := ⟨RX5, "mostLike", "(II)I"⟩
def dkwX5_mostLike_4 : List UInt8 := [180, 0, 48, 21, 5, 46, 167, 0, 4, 29, 62, 132, 4, 1, 167, 255, 178, 29, 172]
abbrev dktX5_mostLike_4 : List UInt8 := dkwX5_mostLike_4 ++ []
def dkwX5_mostLike_3 : List UInt8 := [180, 0, 48, 21, 5, 92, 46, 4, 96, 79, 42, 180, 0, 48, 21, 5, 46, 29, 164, 0, 13, 42]
abbrev dktX5_mostLike_3 : List UInt8 := dkwX5_mostLike_3 ++ dktX5_mostLike_4
def dkwX5_mostLike_2 : List UInt8 := [112, 182, 0, 216, 153, 0, 53, 21, 4, 16, 6, 108, 21, 4, 16, 6, 112, 28, 184, 0, 124, 54, 5, 42]
abbrev dktX5_mostLike_2 : List UInt8 := dkwX5_mostLike_2 ++ dktX5_mostLike_3
def dkwX5_mostLike_1 : List UInt8 := [167, 255, 238, 3, 54, 4, 21, 4, 16, 36, 162, 0, 77, 42, 27, 21, 4, 16, 6, 108, 21, 4, 16, 6]
abbrev dktX5_mostLike_1 : List UInt8 := dkwX5_mostLike_1 ++ dktX5_mostLike_2
def dkwX5_mostLike_0 : List UInt8 := [3, 62, 3, 54, 4, 21, 4, 16, 6, 162, 0, 17, 42, 180, 0, 48, 21, 4, 3, 79, 132, 4, 1]
abbrev dktX5_mostLike_0 : List UInt8 := dkwX5_mostLike_0 ++ dktX5_mostLike_1
theorem dksX5_mostLike_0 : cX5_mostLike.data.toList.drop 0 = dktX5_mostLike_0 := by decide +kernel
theorem dksX5_mostLike_1 : cX5_mostLike.data.toList.drop 23 = dktX5_mostLike_1 := dk_seg dksX5_mostLike_0 23 rfl rfl
theorem dksX5_mostLike_2 : cX5_mostLike.data.toList.drop 47 = dktX5_mostLike_2 := dk_seg dksX5_mostLike_1 24 rfl rfl
theorem dksX5_mostLike_3 : cX5_mostLike.data.toList.drop 71 = dktX5_mostLike_3 := dk_seg dksX5_mostLike_2 24 rfl rfl
theorem dksX5_mostLike_4 : cX5_mostLike.data.toList.drop 93 = dktX5_mostLike_4 := dk_seg dksX5_mostLike_3 22 rfl rfl
theorem dX5_mostLike_0 : decode cX5_mostLike 0 = .ok (.iconst 0, 1) := dk_3 (dk_at dksX5_mostLike_0 0 rfl rfl)
theorem dX5_mostLike_1 : decode cX5_mostLike 1 = .ok (.istore_n 3, 1) := dk_62 (dk_at dksX5_mostLike_0 1 rfl rfl)
theorem dX5_mostLike_2 : decode cX5_mostLike 2 = .ok (.iconst 0, 1) := dk_3 (dk_at dksX5_mostLike_0 2 rfl rfl)
theorem dX5_mostLike_3 : decode cX5_mostLike 3 = .ok (.istore 4, 2) := dk_54 4 (dk_at dksX5_mostLike_0 3 rfl rfl)
theorem dX5_mostLike_5 : decode cX5_mostLike 5 = .ok (.iload 4, 2) := dk_21 4 (dk_at dksX5_mostLike_0 5 rfl rfl)
theorem dX5_mostLike_7 : decode cX5_mostLike 7 = .ok (.bipush 6, 2) := dk_16 6 (dk_at dksX5_mostLike_0 7 rfl rfl)
theorem dX5_mostLike_9 : decode cX5_mostLike 9 = .ok (.if_icmp .ge 17, 3) := dk_162 0 17 (dk_at dksX5_mostLike_0 9 rfl rfl)
theorem dX5_mostLike_12 : decode cX5_mostLike 12 = .ok (.aload_n 0, 1) := dk_42 (dk_at dksX5_mostLike_0 12 rfl rfl)
theorem dX5_mostLike_13 : decode cX5_mostLike 13 = .ok (.getfield 48, 3) := dk_180 0 48 (dk_at dksX5_mostLike_0 13 rfl rfl)
theorem dX5_mostLike_16 : decode cX5_mostLike 16 = .ok (.iload 4, 2) := dk_21 4 (dk_at dksX5_mostLike_0 16 rfl rfl)
theorem dX5_mostLike_18 : decode cX5_mostLike 18 = .ok (.iconst 0, 1) := dk_3 (dk_at dksX5_mostLike_0 18 rfl rfl)
theorem dX5_mostLike_19 : decode cX5_mostLike 19 = .ok (.iastore, 1) := dk_79 (dk_at dksX5_mostLike_0 19 rfl rfl)
theorem dX5_mostLike_20 : decode cX5_mostLike 20 = .ok (.iinc 4 1, 3) := dk_132 4 1 (dk_at dksX5_mostLike_0 20 rfl rfl)
theorem dX5_mostLike_23 : decode cX5_mostLike 23 = .ok (.goto (-18), 3) := dk_167 255 238 (dk_at dksX5_mostLike_1 0 rfl rfl)
theorem dX5_mostLike_26 : decode cX5_mostLike 26 = .ok (.iconst 0, 1) := dk_3 (dk_at dksX5_mostLike_1 3 rfl rfl)
theorem dX5_mostLike_27 : decode cX5_mostLike 27 = .ok (.istore 4, 2) := dk_54 4 (dk_at dksX5_mostLike_1 4 rfl rfl)
theorem dX5_mostLike_29 : decode cX5_mostLike 29 = .ok (.iload 4, 2) := dk_21 4 (dk_at dksX5_mostLike_1 6 rfl rfl)
theorem dX5_mostLike_31 : decode cX5_mostLike 31 = .ok (.bipush 36, 2) := dk_16 36 (dk_at dksX5_mostLike_1 8 rfl rfl)
theorem dX5_mostLike_33 : decode cX5_mostLike 33 = .ok (.if_icmp .ge 77, 3) := dk_162 0 77 (dk_at dksX5_mostLike_1 10 rfl rfl)
theorem dX5_mostLike_36 : decode cX5_mostLike 36 = .ok (.aload_n 0, 1) := dk_42 (dk_at dksX5_mostLike_1 13 rfl rfl)
theorem dX5_mostLike_37 : decode cX5_mostLike 37 = .ok (.iload_n 1, 1) := dk_27 (dk_at dksX5_mostLike_1 14 rfl rfl)
theorem dX5_mostLike_38 : decode cX5_mostLike 38 = .ok (.iload 4, 2) := dk_21 4 (dk_at dksX5_mostLike_1 15 rfl rfl)
theorem dX5_mostLike_40 : decode cX5_mostLike 40 = .ok (.bipush 6, 2) := dk_16 6 (dk_at dksX5_mostLike_1 17 rfl rfl)
theorem dX5_mostLike_42 : decode cX5_mostLike 42 = .ok (.idiv, 1) := dk_108 (dk_at dksX5_mostLike_1 19 rfl rfl)
theorem dX5_mostLike_43 : decode cX5_mostLike 43 = .ok (.iload 4, 2) := dk_21 4 (dk_at dksX5_mostLike_1 20 rfl rfl)
theorem dX5_mostLike_45 : decode cX5_mostLike 45 = .ok (.bipush 6, 2) := dk_16 6 (dk_at dksX5_mostLike_1 22 rfl rfl)
theorem dX5_mostLike_47 : decode cX5_mostLike 47 = .ok (.irem, 1) := dk_112 (dk_at dksX5_mostLike_2 0 rfl rfl)
theorem dX5_mostLike_48 : decode cX5_mostLike 48 = .ok (.invokevirtual 216, 3) := dk_182 0 216 (dk_at dksX5_mostLike_2 1 rfl rfl)
theorem dX5_mostLike_51 : decode cX5_mostLike 51 = .ok (.ifCond .eq 53, 3) := dk_153 0 53 (dk_at dksX5_mostLike_2 4 rfl rfl)
theorem dX5_mostLike_54 : decode cX5_mostLike 54 = .ok (.iload 4, 2) := dk_21 4 (dk_at dksX5_mostLike_2 7 rfl rfl)
theorem dX5_mostLike_56 : decode cX5_mostLike 56 = .ok (.bipush 6, 2) := dk_16 6 (dk_at dksX5_mostLike_2 9 rfl rfl)
theorem dX5_mostLike_58 : decode cX5_mostLike 58 = .ok (.idiv, 1) := dk_108 (dk_at dksX5_mostLike_2 11 rfl rfl)
theorem dX5_mostLike_59 : decode cX5_mostLike 59 = .ok (.iload 4, 2) := dk_21 4 (dk_at dksX5_mostLike_2 12 rfl rfl)
theorem dX5_mostLike_61 : decode cX5_mostLike 61 = .ok (.bipush 6, 2) := dk_16 6 (dk_at dksX5_mostLike_2 14 rfl rfl)
theorem dX5_mostLike_63 : decode cX5_mostLike 63 = .ok (.irem, 1) := dk_112 (dk_at dksX5_mostLike_2 16 rfl rfl)
theorem dX5_mostLike_64 : decode cX5_mostLike 64 = .ok (.iload_n 2, 1) := dk_28 (dk_at dksX5_mostLike_2 17 rfl rfl)
theorem dX5_mostLike_65 : decode cX5_mostLike 65 = .ok (.invokestatic 124, 3) := dk_184 0 124 (dk_at dksX5_mostLike_2 18 rfl rfl)
theorem dX5_mostLike_68 : decode cX5_mostLike 68 = .ok (.istore 5, 2) := dk_54 5 (dk_at dksX5_mostLike_2 21 rfl rfl)
theorem dX5_mostLike_70 : decode cX5_mostLike 70 = .ok (.aload_n 0, 1) := dk_42 (dk_at dksX5_mostLike_2 23 rfl rfl)
theorem dX5_mostLike_71 : decode cX5_mostLike 71 = .ok (.getfield 48, 3) := dk_180 0 48 (dk_at dksX5_mostLike_3 0 rfl rfl)
theorem dX5_mostLike_74 : decode cX5_mostLike 74 = .ok (.iload 5, 2) := dk_21 5 (dk_at dksX5_mostLike_3 3 rfl rfl)
theorem dX5_mostLike_76 : decode cX5_mostLike 76 = .ok (.dup2, 1) := dk_92 (dk_at dksX5_mostLike_3 5 rfl rfl)
theorem dX5_mostLike_77 : decode cX5_mostLike 77 = .ok (.iaload, 1) := dk_46 (dk_at dksX5_mostLike_3 6 rfl rfl)
theorem dX5_mostLike_78 : decode cX5_mostLike 78 = .ok (.iconst 1, 1) := dk_4 (dk_at dksX5_mostLike_3 7 rfl rfl)
theorem dX5_mostLike_79 : decode cX5_mostLike 79 = .ok (.iadd, 1) := dk_96 (dk_at dksX5_mostLike_3 8 rfl rfl)
theorem dX5_mostLike_80 : decode cX5_mostLike 80 = .ok (.iastore, 1) := dk_79 (dk_at dksX5_mostLike_3 9 rfl rfl)
theorem dX5_mostLike_81 : decode cX5_mostLike 81 = .ok (.aload_n 0, 1) := dk_42 (dk_at dksX5_mostLike_3 10 rfl rfl)
theorem dX5_mostLike_82 : decode cX5_mostLike 82 = .ok (.getfield 48, 3) := dk_180 0 48 (dk_at dksX5_mostLike_3 11 rfl rfl)
theorem dX5_mostLike_85 : decode cX5_mostLike 85 = .ok (.iload 5, 2) := dk_21 5 (dk_at dksX5_mostLike_3 14 rfl rfl)
theorem dX5_mostLike_87 : decode cX5_mostLike 87 = .ok (.iaload, 1) := dk_46 (dk_at dksX5_mostLike_3 16 rfl rfl)
theorem dX5_mostLike_88 : decode cX5_mostLike 88 = .ok (.iload_n 3, 1) := dk_29 (dk_at dksX5_mostLike_3 17 rfl rfl)
theorem dX5_mostLike_89 : decode cX5_mostLike 89 = .ok (.if_icmp .le 13, 3) := dk_164 0 13 (dk_at dksX5_mostLike_3 18 rfl rfl)
theorem dX5_mostLike_92 : decode cX5_mostLike 92 = .ok (.aload_n 0, 1) := dk_42 (dk_at dksX5_mostLike_3 21 rfl rfl)
theorem dX5_mostLike_93 : decode cX5_mostLike 93 = .ok (.getfield 48, 3) := dk_180 0 48 (dk_at dksX5_mostLike_4 0 rfl rfl)
theorem dX5_mostLike_96 : decode cX5_mostLike 96 = .ok (.iload 5, 2) := dk_21 5 (dk_at dksX5_mostLike_4 3 rfl rfl)
theorem dX5_mostLike_98 : decode cX5_mostLike 98 = .ok (.iaload, 1) := dk_46 (dk_at dksX5_mostLike_4 5 rfl rfl)
theorem dX5_mostLike_99 : decode cX5_mostLike 99 = .ok (.goto 4, 3) := dk_167 0 4 (dk_at dksX5_mostLike_4 6 rfl rfl)
theorem dX5_mostLike_102 : decode cX5_mostLike 102 = .ok (.iload_n 3, 1) := dk_29 (dk_at dksX5_mostLike_4 9 rfl rfl)
theorem dX5_mostLike_103 : decode cX5_mostLike 103 = .ok (.istore_n 3, 1) := dk_62 (dk_at dksX5_mostLike_4 10 rfl rfl)
theorem dX5_mostLike_104 : decode cX5_mostLike 104 = .ok (.iinc 4 1, 3) := dk_132 4 1 (dk_at dksX5_mostLike_4 11 rfl rfl)
theorem dX5_mostLike_107 : decode cX5_mostLike 107 = .ok (.goto (-78), 3) := dk_167 255 178 (dk_at dksX5_mostLike_4 14 rfl rfl)
theorem dX5_mostLike_110 : decode cX5_mostLike 110 = .ok (.iload_n 3, 1) := dk_29 (dk_at dksX5_mostLike_4 17 rfl rfl)
theorem dX5_mostLike_111 : decode cX5_mostLike 111 = .ok (.ireturn, 1) := dk_172 (dk_at dksX5_mostLike_4 18 rfl rfl)
abbrev cX5_odds : ByteArray := prog_14_method_65_code
def yX5_odds : MethodName := ⟨RX5, "odds", "(I)I"⟩
def dkwX5_odds_6 : List UInt8 := [22, 4, 182, 0, 227, 4, 172]
abbrev dktX5_odds_6 : List UInt8 := dkwX5_odds_6 ++ []
def dkwX5_odds_5 : List UInt8 := [21, 6, 182, 0, 209, 32, 22, 7, 42, 180, 0, 201, 133, 105, 97, 65, 132, 6, 1, 167, 255, 174, 42, 32]
abbrev dktX5_odds_5 : List UInt8 := dkwX5_odds_5 ++ dktX5_odds_6
def dkwX5_odds_4 : List UInt8 := [167, 0, 8, 16, 10, 27, 100, 133, 105, 55, 7, 132, 9, 1, 167, 255, 218, 42, 42, 180, 0, 7, 5, 46]
abbrev dktX5_odds_4 : List UInt8 := dkwX5_odds_4 ++ dktX5_odds_5
def dkwX5_odds_3 : List UInt8 := [21, 9, 42, 182, 0, 68, 162, 0, 35, 22, 7, 21, 6, 21, 9, 122, 4, 126, 4, 160, 0, 8, 27, 133]
abbrev dktX5_odds_3 : List UInt8 := dkwX5_odds_3 ++ dktX5_odds_4
def dkwX5_odds_2 : List UInt8 := [132, 6, 1, 167, 255, 236, 3, 54, 6, 21, 6, 42, 182, 0, 206, 163, 0, 79, 10, 55, 7, 3, 54, 9]
abbrev dktX5_odds_2 : List UInt8 := dkwX5_odds_2 ++ dktX5_odds_3
def dkwX5_odds_1 : List UInt8 := [42, 182, 0, 151, 3, 54, 6, 21, 6, 42, 182, 0, 68, 162, 0, 17, 22, 4, 20, 0, 225, 105, 55, 4]
abbrev dktX5_odds_1 : List UInt8 := dkwX5_odds_1 ++ dktX5_odds_2
def dkwX5_odds_0 : List UInt8 := [27, 133, 9, 20, 0, 225, 184, 0, 64, 154, 0, 10, 42, 16, 254, 182, 0, 89, 172, 9, 65, 10, 55, 4]
abbrev dktX5_odds_0 : List UInt8 := dkwX5_odds_0 ++ dktX5_odds_1
theorem dksX5_odds_0 : cX5_odds.data.toList.drop 0 = dktX5_odds_0 := by decide +kernel
theorem dksX5_odds_1 : cX5_odds.data.toList.drop 24 = dktX5_odds_1 := dk_seg dksX5_odds_0 24 rfl rfl
theorem dksX5_odds_2 : cX5_odds.data.toList.drop 48 = dktX5_odds_2 := dk_seg dksX5_odds_1 24 rfl rfl
theorem dksX5_odds_3 : cX5_odds.data.toList.drop 72 = dktX5_odds_3 := dk_seg dksX5_odds_2 24 rfl rfl
theorem dksX5_odds_4 : cX5_odds.data.toList.drop 96 = dktX5_odds_4 := dk_seg dksX5_odds_3 24 rfl rfl
theorem dksX5_odds_5 : cX5_odds.data.toList.drop 120 = dktX5_odds_5 := dk_seg dksX5_odds_4 24 rfl rfl
theorem dksX5_odds_6 : cX5_odds.data.toList.drop 144 = dktX5_odds_6 := dk_seg dksX5_odds_5 24 rfl rfl
theorem dX5_odds_0 : decode cX5_odds 0 = .ok (.iload_n 1, 1) := dk_27 (dk_at dksX5_odds_0 0 rfl rfl)
theorem dX5_odds_1 : decode cX5_odds 1 = .ok (.i2l, 1) := dk_133 (dk_at dksX5_odds_0 1 rfl rfl)
theorem dX5_odds_2 : decode cX5_odds 2 = .ok (.lconst 0, 1) := dk_9 (dk_at dksX5_odds_0 2 rfl rfl)
theorem dX5_odds_3 : decode cX5_odds 3 = .ok (.ldc2_w 225, 3) := dk_20 0 225 (dk_at dksX5_odds_0 3 rfl rfl)
theorem dX5_odds_6 : decode cX5_odds 6 = .ok (.invokestatic 64, 3) := dk_184 0 64 (dk_at dksX5_odds_0 6 rfl rfl)
theorem dX5_odds_9 : decode cX5_odds 9 = .ok (.ifCond .ne 10, 3) := dk_154 0 10 (dk_at dksX5_odds_0 9 rfl rfl)
theorem dX5_odds_12 : decode cX5_odds 12 = .ok (.aload_n 0, 1) := dk_42 (dk_at dksX5_odds_0 12 rfl rfl)
theorem dX5_odds_13 : decode cX5_odds 13 = .ok (.bipush (-2), 2) := dk_16 254 (dk_at dksX5_odds_0 13 rfl rfl)
theorem dX5_odds_15 : decode cX5_odds 15 = .ok (.invokevirtual 89, 3) := dk_182 0 89 (dk_at dksX5_odds_0 15 rfl rfl)
theorem dX5_odds_18 : decode cX5_odds 18 = .ok (.ireturn, 1) := dk_172 (dk_at dksX5_odds_0 18 rfl rfl)
theorem dX5_odds_19 : decode cX5_odds 19 = .ok (.lconst 0, 1) := dk_9 (dk_at dksX5_odds_0 19 rfl rfl)
theorem dX5_odds_20 : decode cX5_odds 20 = .ok (.lstore_n 2, 1) := dk_65 (dk_at dksX5_odds_0 20 rfl rfl)
theorem dX5_odds_21 : decode cX5_odds 21 = .ok (.lconst 1, 1) := dk_10 (dk_at dksX5_odds_0 21 rfl rfl)
theorem dX5_odds_22 : decode cX5_odds 22 = .ok (.lstore 4, 2) := dk_55 4 (dk_at dksX5_odds_0 22 rfl rfl)
theorem dX5_odds_24 : decode cX5_odds 24 = .ok (.aload_n 0, 1) := dk_42 (dk_at dksX5_odds_1 0 rfl rfl)
theorem dX5_odds_25 : decode cX5_odds 25 = .ok (.invokevirtual 151, 3) := dk_182 0 151 (dk_at dksX5_odds_1 1 rfl rfl)
theorem dX5_odds_28 : decode cX5_odds 28 = .ok (.iconst 0, 1) := dk_3 (dk_at dksX5_odds_1 4 rfl rfl)
theorem dX5_odds_29 : decode cX5_odds 29 = .ok (.istore 6, 2) := dk_54 6 (dk_at dksX5_odds_1 5 rfl rfl)
theorem dX5_odds_31 : decode cX5_odds 31 = .ok (.iload 6, 2) := dk_21 6 (dk_at dksX5_odds_1 7 rfl rfl)
theorem dX5_odds_33 : decode cX5_odds 33 = .ok (.aload_n 0, 1) := dk_42 (dk_at dksX5_odds_1 9 rfl rfl)
theorem dX5_odds_34 : decode cX5_odds 34 = .ok (.invokevirtual 68, 3) := dk_182 0 68 (dk_at dksX5_odds_1 10 rfl rfl)
theorem dX5_odds_37 : decode cX5_odds 37 = .ok (.if_icmp .ge 17, 3) := dk_162 0 17 (dk_at dksX5_odds_1 13 rfl rfl)
theorem dX5_odds_40 : decode cX5_odds 40 = .ok (.lload 4, 2) := dk_22 4 (dk_at dksX5_odds_1 16 rfl rfl)
theorem dX5_odds_42 : decode cX5_odds 42 = .ok (.ldc2_w 225, 3) := dk_20 0 225 (dk_at dksX5_odds_1 18 rfl rfl)
theorem dX5_odds_45 : decode cX5_odds 45 = .ok (.lmul, 1) := dk_105 (dk_at dksX5_odds_1 21 rfl rfl)
theorem dX5_odds_46 : decode cX5_odds 46 = .ok (.lstore 4, 2) := dk_55 4 (dk_at dksX5_odds_1 22 rfl rfl)
theorem dX5_odds_48 : decode cX5_odds 48 = .ok (.iinc 6 1, 3) := dk_132 6 1 (dk_at dksX5_odds_2 0 rfl rfl)
theorem dX5_odds_51 : decode cX5_odds 51 = .ok (.goto (-20), 3) := dk_167 255 236 (dk_at dksX5_odds_2 3 rfl rfl)
theorem dX5_odds_54 : decode cX5_odds 54 = .ok (.iconst 0, 1) := dk_3 (dk_at dksX5_odds_2 6 rfl rfl)
theorem dX5_odds_55 : decode cX5_odds 55 = .ok (.istore 6, 2) := dk_54 6 (dk_at dksX5_odds_2 7 rfl rfl)
theorem dX5_odds_57 : decode cX5_odds 57 = .ok (.iload 6, 2) := dk_21 6 (dk_at dksX5_odds_2 9 rfl rfl)
theorem dX5_odds_59 : decode cX5_odds 59 = .ok (.aload_n 0, 1) := dk_42 (dk_at dksX5_odds_2 11 rfl rfl)
theorem dX5_odds_60 : decode cX5_odds 60 = .ok (.invokevirtual 206, 3) := dk_182 0 206 (dk_at dksX5_odds_2 12 rfl rfl)
theorem dX5_odds_63 : decode cX5_odds 63 = .ok (.if_icmp .gt 79, 3) := dk_163 0 79 (dk_at dksX5_odds_2 15 rfl rfl)
theorem dX5_odds_66 : decode cX5_odds 66 = .ok (.lconst 1, 1) := dk_10 (dk_at dksX5_odds_2 18 rfl rfl)
theorem dX5_odds_67 : decode cX5_odds 67 = .ok (.lstore 7, 2) := dk_55 7 (dk_at dksX5_odds_2 19 rfl rfl)
theorem dX5_odds_69 : decode cX5_odds 69 = .ok (.iconst 0, 1) := dk_3 (dk_at dksX5_odds_2 21 rfl rfl)
theorem dX5_odds_70 : decode cX5_odds 70 = .ok (.istore 9, 2) := dk_54 9 (dk_at dksX5_odds_2 22 rfl rfl)
theorem dX5_odds_72 : decode cX5_odds 72 = .ok (.iload 9, 2) := dk_21 9 (dk_at dksX5_odds_3 0 rfl rfl)
theorem dX5_odds_74 : decode cX5_odds 74 = .ok (.aload_n 0, 1) := dk_42 (dk_at dksX5_odds_3 2 rfl rfl)
theorem dX5_odds_75 : decode cX5_odds 75 = .ok (.invokevirtual 68, 3) := dk_182 0 68 (dk_at dksX5_odds_3 3 rfl rfl)
theorem dX5_odds_78 : decode cX5_odds 78 = .ok (.if_icmp .ge 35, 3) := dk_162 0 35 (dk_at dksX5_odds_3 6 rfl rfl)
theorem dX5_odds_81 : decode cX5_odds 81 = .ok (.lload 7, 2) := dk_22 7 (dk_at dksX5_odds_3 9 rfl rfl)
theorem dX5_odds_83 : decode cX5_odds 83 = .ok (.iload 6, 2) := dk_21 6 (dk_at dksX5_odds_3 11 rfl rfl)
theorem dX5_odds_85 : decode cX5_odds 85 = .ok (.iload 9, 2) := dk_21 9 (dk_at dksX5_odds_3 13 rfl rfl)
theorem dX5_odds_87 : decode cX5_odds 87 = .ok (.ishr, 1) := dk_122 (dk_at dksX5_odds_3 15 rfl rfl)
theorem dX5_odds_88 : decode cX5_odds 88 = .ok (.iconst 1, 1) := dk_4 (dk_at dksX5_odds_3 16 rfl rfl)
theorem dX5_odds_89 : decode cX5_odds 89 = .ok (.iand, 1) := dk_126 (dk_at dksX5_odds_3 17 rfl rfl)
theorem dX5_odds_90 : decode cX5_odds 90 = .ok (.iconst 1, 1) := dk_4 (dk_at dksX5_odds_3 18 rfl rfl)
theorem dX5_odds_91 : decode cX5_odds 91 = .ok (.if_icmp .ne 8, 3) := dk_160 0 8 (dk_at dksX5_odds_3 19 rfl rfl)
theorem dX5_odds_94 : decode cX5_odds 94 = .ok (.iload_n 1, 1) := dk_27 (dk_at dksX5_odds_3 22 rfl rfl)
theorem dX5_odds_95 : decode cX5_odds 95 = .ok (.i2l, 1) := dk_133 (dk_at dksX5_odds_3 23 rfl rfl)
theorem dX5_odds_96 : decode cX5_odds 96 = .ok (.goto 8, 3) := dk_167 0 8 (dk_at dksX5_odds_4 0 rfl rfl)
theorem dX5_odds_99 : decode cX5_odds 99 = .ok (.bipush 10, 2) := dk_16 10 (dk_at dksX5_odds_4 3 rfl rfl)
theorem dX5_odds_101 : decode cX5_odds 101 = .ok (.iload_n 1, 1) := dk_27 (dk_at dksX5_odds_4 5 rfl rfl)
theorem dX5_odds_102 : decode cX5_odds 102 = .ok (.isub, 1) := dk_100 (dk_at dksX5_odds_4 6 rfl rfl)
theorem dX5_odds_103 : decode cX5_odds 103 = .ok (.i2l, 1) := dk_133 (dk_at dksX5_odds_4 7 rfl rfl)
theorem dX5_odds_104 : decode cX5_odds 104 = .ok (.lmul, 1) := dk_105 (dk_at dksX5_odds_4 8 rfl rfl)
theorem dX5_odds_105 : decode cX5_odds 105 = .ok (.lstore 7, 2) := dk_55 7 (dk_at dksX5_odds_4 9 rfl rfl)
theorem dX5_odds_107 : decode cX5_odds 107 = .ok (.iinc 9 1, 3) := dk_132 9 1 (dk_at dksX5_odds_4 11 rfl rfl)
theorem dX5_odds_110 : decode cX5_odds 110 = .ok (.goto (-38), 3) := dk_167 255 218 (dk_at dksX5_odds_4 14 rfl rfl)
theorem dX5_odds_113 : decode cX5_odds 113 = .ok (.aload_n 0, 1) := dk_42 (dk_at dksX5_odds_4 17 rfl rfl)
theorem dX5_odds_114 : decode cX5_odds 114 = .ok (.aload_n 0, 1) := dk_42 (dk_at dksX5_odds_4 18 rfl rfl)
theorem dX5_odds_115 : decode cX5_odds 115 = .ok (.getfield 7, 3) := dk_180 0 7 (dk_at dksX5_odds_4 19 rfl rfl)
theorem dX5_odds_118 : decode cX5_odds 118 = .ok (.iconst 2, 1) := dk_5 (dk_at dksX5_odds_4 22 rfl rfl)
theorem dX5_odds_119 : decode cX5_odds 119 = .ok (.iaload, 1) := dk_46 (dk_at dksX5_odds_4 23 rfl rfl)
theorem dX5_odds_120 : decode cX5_odds 120 = .ok (.iload 6, 2) := dk_21 6 (dk_at dksX5_odds_5 0 rfl rfl)
theorem dX5_odds_122 : decode cX5_odds 122 = .ok (.invokevirtual 209, 3) := dk_182 0 209 (dk_at dksX5_odds_5 2 rfl rfl)
theorem dX5_odds_125 : decode cX5_odds 125 = .ok (.lload_n 2, 1) := dk_32 (dk_at dksX5_odds_5 5 rfl rfl)
theorem dX5_odds_126 : decode cX5_odds 126 = .ok (.lload 7, 2) := dk_22 7 (dk_at dksX5_odds_5 6 rfl rfl)
theorem dX5_odds_128 : decode cX5_odds 128 = .ok (.aload_n 0, 1) := dk_42 (dk_at dksX5_odds_5 8 rfl rfl)
theorem dX5_odds_129 : decode cX5_odds 129 = .ok (.getfield 201, 3) := dk_180 0 201 (dk_at dksX5_odds_5 9 rfl rfl)
theorem dX5_odds_132 : decode cX5_odds 132 = .ok (.i2l, 1) := dk_133 (dk_at dksX5_odds_5 12 rfl rfl)
theorem dX5_odds_133 : decode cX5_odds 133 = .ok (.lmul, 1) := dk_105 (dk_at dksX5_odds_5 13 rfl rfl)
theorem dX5_odds_134 : decode cX5_odds 134 = .ok (.ladd, 1) := dk_97 (dk_at dksX5_odds_5 14 rfl rfl)
theorem dX5_odds_135 : decode cX5_odds 135 = .ok (.lstore_n 2, 1) := dk_65 (dk_at dksX5_odds_5 15 rfl rfl)
theorem dX5_odds_136 : decode cX5_odds 136 = .ok (.iinc 6 1, 3) := dk_132 6 1 (dk_at dksX5_odds_5 16 rfl rfl)
theorem dX5_odds_139 : decode cX5_odds 139 = .ok (.goto (-82), 3) := dk_167 255 174 (dk_at dksX5_odds_5 19 rfl rfl)
theorem dX5_odds_142 : decode cX5_odds 142 = .ok (.aload_n 0, 1) := dk_42 (dk_at dksX5_odds_5 22 rfl rfl)
theorem dX5_odds_143 : decode cX5_odds 143 = .ok (.lload_n 2, 1) := dk_32 (dk_at dksX5_odds_5 23 rfl rfl)
theorem dX5_odds_144 : decode cX5_odds 144 = .ok (.lload 4, 2) := dk_22 4 (dk_at dksX5_odds_6 0 rfl rfl)
theorem dX5_odds_146 : decode cX5_odds 146 = .ok (.invokevirtual 227, 3) := dk_182 0 227 (dk_at dksX5_odds_6 2 rfl rfl)
theorem dX5_odds_149 : decode cX5_odds 149 = .ok (.iconst 1, 1) := dk_4 (dk_at dksX5_odds_6 5 rfl rfl)
theorem dX5_odds_150 : decode cX5_odds 150 = .ok (.ireturn, 1) := dk_172 (dk_at dksX5_odds_6 6 rfl rfl)
abbrev cX5_fraction : ByteArray := prog_14_method_64_code
def yX5_fraction : MethodName := ⟨RX5, "fraction", "(JJ)V"⟩
def dkwX5_fraction_1 : List UInt8 := [22, 9, 55, 7, 167, 255, 234, 42, 31, 22, 5, 109, 181, 0, 222, 42, 33, 22, 5, 109, 181, 0, 23, 177]
abbrev dktX5_fraction_1 : List UInt8 := dkwX5_fraction_1 ++ []
def dkwX5_fraction_0 : List UInt8 := [31, 55, 5, 33, 55, 7, 22, 7, 9, 148, 153, 0, 21, 22, 5, 22, 7, 113, 55, 9, 22, 7, 55, 5]
abbrev dktX5_fraction_0 : List UInt8 := dkwX5_fraction_0 ++ dktX5_fraction_1
theorem dksX5_fraction_0 : cX5_fraction.data.toList.drop 0 = dktX5_fraction_0 := by decide +kernel
theorem dksX5_fraction_1 : cX5_fraction.data.toList.drop 24 = dktX5_fraction_1 := dk_seg dksX5_fraction_0 24 rfl rfl
theorem dX5_fraction_0 : decode cX5_fraction 0 = .ok (.lload_n 1, 1) := dk_31 (dk_at dksX5_fraction_0 0 rfl rfl)
theorem dX5_fraction_1 : decode cX5_fraction 1 = .ok (.lstore 5, 2) := dk_55 5 (dk_at dksX5_fraction_0 1 rfl rfl)
theorem dX5_fraction_3 : decode cX5_fraction 3 = .ok (.lload_n 3, 1) := dk_33 (dk_at dksX5_fraction_0 3 rfl rfl)
theorem dX5_fraction_4 : decode cX5_fraction 4 = .ok (.lstore 7, 2) := dk_55 7 (dk_at dksX5_fraction_0 4 rfl rfl)
theorem dX5_fraction_6 : decode cX5_fraction 6 = .ok (.lload 7, 2) := dk_22 7 (dk_at dksX5_fraction_0 6 rfl rfl)
theorem dX5_fraction_8 : decode cX5_fraction 8 = .ok (.lconst 0, 1) := dk_9 (dk_at dksX5_fraction_0 8 rfl rfl)
theorem dX5_fraction_9 : decode cX5_fraction 9 = .ok (.lcmp, 1) := dk_148 (dk_at dksX5_fraction_0 9 rfl rfl)
theorem dX5_fraction_10 : decode cX5_fraction 10 = .ok (.ifCond .eq 21, 3) := dk_153 0 21 (dk_at dksX5_fraction_0 10 rfl rfl)
theorem dX5_fraction_13 : decode cX5_fraction 13 = .ok (.lload 5, 2) := dk_22 5 (dk_at dksX5_fraction_0 13 rfl rfl)
theorem dX5_fraction_15 : decode cX5_fraction 15 = .ok (.lload 7, 2) := dk_22 7 (dk_at dksX5_fraction_0 15 rfl rfl)
theorem dX5_fraction_17 : decode cX5_fraction 17 = .ok (.lrem, 1) := dk_113 (dk_at dksX5_fraction_0 17 rfl rfl)
theorem dX5_fraction_18 : decode cX5_fraction 18 = .ok (.lstore 9, 2) := dk_55 9 (dk_at dksX5_fraction_0 18 rfl rfl)
theorem dX5_fraction_20 : decode cX5_fraction 20 = .ok (.lload 7, 2) := dk_22 7 (dk_at dksX5_fraction_0 20 rfl rfl)
theorem dX5_fraction_22 : decode cX5_fraction 22 = .ok (.lstore 5, 2) := dk_55 5 (dk_at dksX5_fraction_0 22 rfl rfl)
theorem dX5_fraction_24 : decode cX5_fraction 24 = .ok (.lload 9, 2) := dk_22 9 (dk_at dksX5_fraction_1 0 rfl rfl)
theorem dX5_fraction_26 : decode cX5_fraction 26 = .ok (.lstore 7, 2) := dk_55 7 (dk_at dksX5_fraction_1 2 rfl rfl)
theorem dX5_fraction_28 : decode cX5_fraction 28 = .ok (.goto (-22), 3) := dk_167 255 234 (dk_at dksX5_fraction_1 4 rfl rfl)
theorem dX5_fraction_31 : decode cX5_fraction 31 = .ok (.aload_n 0, 1) := dk_42 (dk_at dksX5_fraction_1 7 rfl rfl)
theorem dX5_fraction_32 : decode cX5_fraction 32 = .ok (.lload_n 1, 1) := dk_31 (dk_at dksX5_fraction_1 8 rfl rfl)
theorem dX5_fraction_33 : decode cX5_fraction 33 = .ok (.lload 5, 2) := dk_22 5 (dk_at dksX5_fraction_1 9 rfl rfl)
theorem dX5_fraction_35 : decode cX5_fraction 35 = .ok (.ldiv, 1) := dk_109 (dk_at dksX5_fraction_1 11 rfl rfl)
theorem dX5_fraction_36 : decode cX5_fraction 36 = .ok (.putfield 222, 3) := dk_181 0 222 (dk_at dksX5_fraction_1 12 rfl rfl)
theorem dX5_fraction_39 : decode cX5_fraction 39 = .ok (.aload_n 0, 1) := dk_42 (dk_at dksX5_fraction_1 15 rfl rfl)
theorem dX5_fraction_40 : decode cX5_fraction 40 = .ok (.lload_n 3, 1) := dk_33 (dk_at dksX5_fraction_1 16 rfl rfl)
theorem dX5_fraction_41 : decode cX5_fraction 41 = .ok (.lload 5, 2) := dk_22 5 (dk_at dksX5_fraction_1 17 rfl rfl)
theorem dX5_fraction_43 : decode cX5_fraction 43 = .ok (.ldiv, 1) := dk_109 (dk_at dksX5_fraction_1 19 rfl rfl)
theorem dX5_fraction_44 : decode cX5_fraction 44 = .ok (.putfield 23, 3) := dk_181 0 23 (dk_at dksX5_fraction_1 20 rfl rfl)
theorem dX5_fraction_47 : decode cX5_fraction 47 = .ok (.return_, 1) := dk_177 (dk_at dksX5_fraction_1 23 rfl rfl)
abbrev cX5_drawn : ByteArray := prog_14_method_66_code
def yX5_drawn : MethodName := ⟨RX5, "drawn", "(III)I"⟩
def dkwX5_drawn_6 : List UInt8 := [21, 6, 42, 180, 0, 198, 96, 54, 6, 132, 7, 1, 167, 255, 157, 21, 6, 172]
abbrev dktX5_drawn_6 : List UInt8 := dkwX5_drawn_6 ++ []
def dkwX5_drawn_5 : List UInt8 := [128, 54, 8, 132, 9, 1, 167, 255, 199, 42, 42, 180, 0, 7, 5, 46, 21, 7, 96, 21, 8, 182, 0, 209]
abbrev dktX5_drawn_5 : List UInt8 := dkwX5_drawn_5 ++ dktX5_drawn_6
def dkwX5_drawn_4 : List UInt8 := [22, 4, 20, 0, 243, 109, 20, 0, 235, 113, 29, 133, 148, 156, 0, 10, 4, 21, 9, 120, 167, 0, 4, 3]
abbrev dktX5_drawn_4 : List UInt8 := dkwX5_drawn_4 ++ dktX5_drawn_5
def dkwX5_drawn_3 : List UInt8 := [182, 0, 68, 162, 0, 54, 22, 4, 20, 0, 237, 105, 20, 0, 239, 97, 20, 0, 241, 113, 55, 4, 21, 8]
abbrev dktX5_drawn_3 : List UInt8 := dkwX5_drawn_3 ++ dktX5_drawn_4
def dkwX5_drawn_2 : List UInt8 := [54, 6, 42, 182, 0, 151, 3, 54, 7, 21, 7, 28, 162, 0, 99, 3, 54, 8, 3, 54, 9, 21, 9, 42]
abbrev dktX5_drawn_2 : List UInt8 := dkwX5_drawn_2 ++ dktX5_drawn_3
def dkwX5_drawn_1 : List UInt8 := [29, 133, 9, 20, 0, 235, 184, 0, 64, 154, 0, 10, 42, 16, 254, 182, 0, 89, 172, 27, 133, 55, 4, 3]
abbrev dktX5_drawn_1 : List UInt8 := dkwX5_drawn_1 ++ dktX5_drawn_2
def dkwX5_drawn_0 : List UInt8 := [27, 133, 9, 20, 0, 231, 184, 0, 64, 153, 0, 27, 28, 133, 9, 20, 0, 233, 184, 0, 64, 153, 0, 15]
abbrev dktX5_drawn_0 : List UInt8 := dkwX5_drawn_0 ++ dktX5_drawn_1
theorem dksX5_drawn_0 : cX5_drawn.data.toList.drop 0 = dktX5_drawn_0 := by decide +kernel
theorem dksX5_drawn_1 : cX5_drawn.data.toList.drop 24 = dktX5_drawn_1 := dk_seg dksX5_drawn_0 24 rfl rfl
theorem dksX5_drawn_2 : cX5_drawn.data.toList.drop 48 = dktX5_drawn_2 := dk_seg dksX5_drawn_1 24 rfl rfl
theorem dksX5_drawn_3 : cX5_drawn.data.toList.drop 72 = dktX5_drawn_3 := dk_seg dksX5_drawn_2 24 rfl rfl
theorem dksX5_drawn_4 : cX5_drawn.data.toList.drop 96 = dktX5_drawn_4 := dk_seg dksX5_drawn_3 24 rfl rfl
theorem dksX5_drawn_5 : cX5_drawn.data.toList.drop 120 = dktX5_drawn_5 := dk_seg dksX5_drawn_4 24 rfl rfl
theorem dksX5_drawn_6 : cX5_drawn.data.toList.drop 144 = dktX5_drawn_6 := dk_seg dksX5_drawn_5 24 rfl rfl
theorem dX5_drawn_0 : decode cX5_drawn 0 = .ok (.iload_n 1, 1) := dk_27 (dk_at dksX5_drawn_0 0 rfl rfl)
theorem dX5_drawn_1 : decode cX5_drawn 1 = .ok (.i2l, 1) := dk_133 (dk_at dksX5_drawn_0 1 rfl rfl)
theorem dX5_drawn_2 : decode cX5_drawn 2 = .ok (.lconst 0, 1) := dk_9 (dk_at dksX5_drawn_0 2 rfl rfl)
theorem dX5_drawn_3 : decode cX5_drawn 3 = .ok (.ldc2_w 231, 3) := dk_20 0 231 (dk_at dksX5_drawn_0 3 rfl rfl)
theorem dX5_drawn_6 : decode cX5_drawn 6 = .ok (.invokestatic 64, 3) := dk_184 0 64 (dk_at dksX5_drawn_0 6 rfl rfl)
theorem dX5_drawn_9 : decode cX5_drawn 9 = .ok (.ifCond .eq 27, 3) := dk_153 0 27 (dk_at dksX5_drawn_0 9 rfl rfl)
theorem dX5_drawn_12 : decode cX5_drawn 12 = .ok (.iload_n 2, 1) := dk_28 (dk_at dksX5_drawn_0 12 rfl rfl)
theorem dX5_drawn_13 : decode cX5_drawn 13 = .ok (.i2l, 1) := dk_133 (dk_at dksX5_drawn_0 13 rfl rfl)
theorem dX5_drawn_14 : decode cX5_drawn 14 = .ok (.lconst 0, 1) := dk_9 (dk_at dksX5_drawn_0 14 rfl rfl)
theorem dX5_drawn_15 : decode cX5_drawn 15 = .ok (.ldc2_w 233, 3) := dk_20 0 233 (dk_at dksX5_drawn_0 15 rfl rfl)
theorem dX5_drawn_18 : decode cX5_drawn 18 = .ok (.invokestatic 64, 3) := dk_184 0 64 (dk_at dksX5_drawn_0 18 rfl rfl)
theorem dX5_drawn_21 : decode cX5_drawn 21 = .ok (.ifCond .eq 15, 3) := dk_153 0 15 (dk_at dksX5_drawn_0 21 rfl rfl)
theorem dX5_drawn_24 : decode cX5_drawn 24 = .ok (.iload_n 3, 1) := dk_29 (dk_at dksX5_drawn_1 0 rfl rfl)
theorem dX5_drawn_25 : decode cX5_drawn 25 = .ok (.i2l, 1) := dk_133 (dk_at dksX5_drawn_1 1 rfl rfl)
theorem dX5_drawn_26 : decode cX5_drawn 26 = .ok (.lconst 0, 1) := dk_9 (dk_at dksX5_drawn_1 2 rfl rfl)
theorem dX5_drawn_27 : decode cX5_drawn 27 = .ok (.ldc2_w 235, 3) := dk_20 0 235 (dk_at dksX5_drawn_1 3 rfl rfl)
theorem dX5_drawn_30 : decode cX5_drawn 30 = .ok (.invokestatic 64, 3) := dk_184 0 64 (dk_at dksX5_drawn_1 6 rfl rfl)
theorem dX5_drawn_33 : decode cX5_drawn 33 = .ok (.ifCond .ne 10, 3) := dk_154 0 10 (dk_at dksX5_drawn_1 9 rfl rfl)
theorem dX5_drawn_36 : decode cX5_drawn 36 = .ok (.aload_n 0, 1) := dk_42 (dk_at dksX5_drawn_1 12 rfl rfl)
theorem dX5_drawn_37 : decode cX5_drawn 37 = .ok (.bipush (-2), 2) := dk_16 254 (dk_at dksX5_drawn_1 13 rfl rfl)
theorem dX5_drawn_39 : decode cX5_drawn 39 = .ok (.invokevirtual 89, 3) := dk_182 0 89 (dk_at dksX5_drawn_1 15 rfl rfl)
theorem dX5_drawn_42 : decode cX5_drawn 42 = .ok (.ireturn, 1) := dk_172 (dk_at dksX5_drawn_1 18 rfl rfl)
theorem dX5_drawn_43 : decode cX5_drawn 43 = .ok (.iload_n 1, 1) := dk_27 (dk_at dksX5_drawn_1 19 rfl rfl)
theorem dX5_drawn_44 : decode cX5_drawn 44 = .ok (.i2l, 1) := dk_133 (dk_at dksX5_drawn_1 20 rfl rfl)
theorem dX5_drawn_45 : decode cX5_drawn 45 = .ok (.lstore 4, 2) := dk_55 4 (dk_at dksX5_drawn_1 21 rfl rfl)
theorem dX5_drawn_47 : decode cX5_drawn 47 = .ok (.iconst 0, 1) := dk_3 (dk_at dksX5_drawn_1 23 rfl rfl)
theorem dX5_drawn_48 : decode cX5_drawn 48 = .ok (.istore 6, 2) := dk_54 6 (dk_at dksX5_drawn_2 0 rfl rfl)
theorem dX5_drawn_50 : decode cX5_drawn 50 = .ok (.aload_n 0, 1) := dk_42 (dk_at dksX5_drawn_2 2 rfl rfl)
theorem dX5_drawn_51 : decode cX5_drawn 51 = .ok (.invokevirtual 151, 3) := dk_182 0 151 (dk_at dksX5_drawn_2 3 rfl rfl)
theorem dX5_drawn_54 : decode cX5_drawn 54 = .ok (.iconst 0, 1) := dk_3 (dk_at dksX5_drawn_2 6 rfl rfl)
theorem dX5_drawn_55 : decode cX5_drawn 55 = .ok (.istore 7, 2) := dk_54 7 (dk_at dksX5_drawn_2 7 rfl rfl)
theorem dX5_drawn_57 : decode cX5_drawn 57 = .ok (.iload 7, 2) := dk_21 7 (dk_at dksX5_drawn_2 9 rfl rfl)
theorem dX5_drawn_59 : decode cX5_drawn 59 = .ok (.iload_n 2, 1) := dk_28 (dk_at dksX5_drawn_2 11 rfl rfl)
theorem dX5_drawn_60 : decode cX5_drawn 60 = .ok (.if_icmp .ge 99, 3) := dk_162 0 99 (dk_at dksX5_drawn_2 12 rfl rfl)
theorem dX5_drawn_63 : decode cX5_drawn 63 = .ok (.iconst 0, 1) := dk_3 (dk_at dksX5_drawn_2 15 rfl rfl)
theorem dX5_drawn_64 : decode cX5_drawn 64 = .ok (.istore 8, 2) := dk_54 8 (dk_at dksX5_drawn_2 16 rfl rfl)
theorem dX5_drawn_66 : decode cX5_drawn 66 = .ok (.iconst 0, 1) := dk_3 (dk_at dksX5_drawn_2 18 rfl rfl)
theorem dX5_drawn_67 : decode cX5_drawn 67 = .ok (.istore 9, 2) := dk_54 9 (dk_at dksX5_drawn_2 19 rfl rfl)
theorem dX5_drawn_69 : decode cX5_drawn 69 = .ok (.iload 9, 2) := dk_21 9 (dk_at dksX5_drawn_2 21 rfl rfl)
theorem dX5_drawn_71 : decode cX5_drawn 71 = .ok (.aload_n 0, 1) := dk_42 (dk_at dksX5_drawn_2 23 rfl rfl)
theorem dX5_drawn_72 : decode cX5_drawn 72 = .ok (.invokevirtual 68, 3) := dk_182 0 68 (dk_at dksX5_drawn_3 0 rfl rfl)
theorem dX5_drawn_75 : decode cX5_drawn 75 = .ok (.if_icmp .ge 54, 3) := dk_162 0 54 (dk_at dksX5_drawn_3 3 rfl rfl)
theorem dX5_drawn_78 : decode cX5_drawn 78 = .ok (.lload 4, 2) := dk_22 4 (dk_at dksX5_drawn_3 6 rfl rfl)
theorem dX5_drawn_80 : decode cX5_drawn 80 = .ok (.ldc2_w 237, 3) := dk_20 0 237 (dk_at dksX5_drawn_3 8 rfl rfl)
theorem dX5_drawn_83 : decode cX5_drawn 83 = .ok (.lmul, 1) := dk_105 (dk_at dksX5_drawn_3 11 rfl rfl)
theorem dX5_drawn_84 : decode cX5_drawn 84 = .ok (.ldc2_w 239, 3) := dk_20 0 239 (dk_at dksX5_drawn_3 12 rfl rfl)
theorem dX5_drawn_87 : decode cX5_drawn 87 = .ok (.ladd, 1) := dk_97 (dk_at dksX5_drawn_3 15 rfl rfl)
theorem dX5_drawn_88 : decode cX5_drawn 88 = .ok (.ldc2_w 241, 3) := dk_20 0 241 (dk_at dksX5_drawn_3 16 rfl rfl)
theorem dX5_drawn_91 : decode cX5_drawn 91 = .ok (.lrem, 1) := dk_113 (dk_at dksX5_drawn_3 19 rfl rfl)
theorem dX5_drawn_92 : decode cX5_drawn 92 = .ok (.lstore 4, 2) := dk_55 4 (dk_at dksX5_drawn_3 20 rfl rfl)
theorem dX5_drawn_94 : decode cX5_drawn 94 = .ok (.iload 8, 2) := dk_21 8 (dk_at dksX5_drawn_3 22 rfl rfl)
theorem dX5_drawn_96 : decode cX5_drawn 96 = .ok (.lload 4, 2) := dk_22 4 (dk_at dksX5_drawn_4 0 rfl rfl)
theorem dX5_drawn_98 : decode cX5_drawn 98 = .ok (.ldc2_w 243, 3) := dk_20 0 243 (dk_at dksX5_drawn_4 2 rfl rfl)
theorem dX5_drawn_101 : decode cX5_drawn 101 = .ok (.ldiv, 1) := dk_109 (dk_at dksX5_drawn_4 5 rfl rfl)
theorem dX5_drawn_102 : decode cX5_drawn 102 = .ok (.ldc2_w 235, 3) := dk_20 0 235 (dk_at dksX5_drawn_4 6 rfl rfl)
theorem dX5_drawn_105 : decode cX5_drawn 105 = .ok (.lrem, 1) := dk_113 (dk_at dksX5_drawn_4 9 rfl rfl)
theorem dX5_drawn_106 : decode cX5_drawn 106 = .ok (.iload_n 3, 1) := dk_29 (dk_at dksX5_drawn_4 10 rfl rfl)
theorem dX5_drawn_107 : decode cX5_drawn 107 = .ok (.i2l, 1) := dk_133 (dk_at dksX5_drawn_4 11 rfl rfl)
theorem dX5_drawn_108 : decode cX5_drawn 108 = .ok (.lcmp, 1) := dk_148 (dk_at dksX5_drawn_4 12 rfl rfl)
theorem dX5_drawn_109 : decode cX5_drawn 109 = .ok (.ifCond .ge 10, 3) := dk_156 0 10 (dk_at dksX5_drawn_4 13 rfl rfl)
theorem dX5_drawn_112 : decode cX5_drawn 112 = .ok (.iconst 1, 1) := dk_4 (dk_at dksX5_drawn_4 16 rfl rfl)
theorem dX5_drawn_113 : decode cX5_drawn 113 = .ok (.iload 9, 2) := dk_21 9 (dk_at dksX5_drawn_4 17 rfl rfl)
theorem dX5_drawn_115 : decode cX5_drawn 115 = .ok (.ishl, 1) := dk_120 (dk_at dksX5_drawn_4 19 rfl rfl)
theorem dX5_drawn_116 : decode cX5_drawn 116 = .ok (.goto 4, 3) := dk_167 0 4 (dk_at dksX5_drawn_4 20 rfl rfl)
theorem dX5_drawn_119 : decode cX5_drawn 119 = .ok (.iconst 0, 1) := dk_3 (dk_at dksX5_drawn_4 23 rfl rfl)
theorem dX5_drawn_120 : decode cX5_drawn 120 = .ok (.ior, 1) := dk_128 (dk_at dksX5_drawn_5 0 rfl rfl)
theorem dX5_drawn_121 : decode cX5_drawn 121 = .ok (.istore 8, 2) := dk_54 8 (dk_at dksX5_drawn_5 1 rfl rfl)
theorem dX5_drawn_123 : decode cX5_drawn 123 = .ok (.iinc 9 1, 3) := dk_132 9 1 (dk_at dksX5_drawn_5 3 rfl rfl)
theorem dX5_drawn_126 : decode cX5_drawn 126 = .ok (.goto (-57), 3) := dk_167 255 199 (dk_at dksX5_drawn_5 6 rfl rfl)
theorem dX5_drawn_129 : decode cX5_drawn 129 = .ok (.aload_n 0, 1) := dk_42 (dk_at dksX5_drawn_5 9 rfl rfl)
theorem dX5_drawn_130 : decode cX5_drawn 130 = .ok (.aload_n 0, 1) := dk_42 (dk_at dksX5_drawn_5 10 rfl rfl)
theorem dX5_drawn_131 : decode cX5_drawn 131 = .ok (.getfield 7, 3) := dk_180 0 7 (dk_at dksX5_drawn_5 11 rfl rfl)
theorem dX5_drawn_134 : decode cX5_drawn 134 = .ok (.iconst 2, 1) := dk_5 (dk_at dksX5_drawn_5 14 rfl rfl)
theorem dX5_drawn_135 : decode cX5_drawn 135 = .ok (.iaload, 1) := dk_46 (dk_at dksX5_drawn_5 15 rfl rfl)
theorem dX5_drawn_136 : decode cX5_drawn 136 = .ok (.iload 7, 2) := dk_21 7 (dk_at dksX5_drawn_5 16 rfl rfl)
theorem dX5_drawn_138 : decode cX5_drawn 138 = .ok (.iadd, 1) := dk_96 (dk_at dksX5_drawn_5 18 rfl rfl)
theorem dX5_drawn_139 : decode cX5_drawn 139 = .ok (.iload 8, 2) := dk_21 8 (dk_at dksX5_drawn_5 19 rfl rfl)
theorem dX5_drawn_141 : decode cX5_drawn 141 = .ok (.invokevirtual 209, 3) := dk_182 0 209 (dk_at dksX5_drawn_5 21 rfl rfl)
theorem dX5_drawn_144 : decode cX5_drawn 144 = .ok (.iload 6, 2) := dk_21 6 (dk_at dksX5_drawn_6 0 rfl rfl)
theorem dX5_drawn_146 : decode cX5_drawn 146 = .ok (.aload_n 0, 1) := dk_42 (dk_at dksX5_drawn_6 2 rfl rfl)
theorem dX5_drawn_147 : decode cX5_drawn 147 = .ok (.getfield 198, 3) := dk_180 0 198 (dk_at dksX5_drawn_6 3 rfl rfl)
theorem dX5_drawn_150 : decode cX5_drawn 150 = .ok (.iadd, 1) := dk_96 (dk_at dksX5_drawn_6 6 rfl rfl)
theorem dX5_drawn_151 : decode cX5_drawn 151 = .ok (.istore 6, 2) := dk_54 6 (dk_at dksX5_drawn_6 7 rfl rfl)
theorem dX5_drawn_153 : decode cX5_drawn 153 = .ok (.iinc 7 1, 3) := dk_132 7 1 (dk_at dksX5_drawn_6 9 rfl rfl)
theorem dX5_drawn_156 : decode cX5_drawn 156 = .ok (.goto (-99), 3) := dk_167 255 157 (dk_at dksX5_drawn_6 12 rfl rfl)
theorem dX5_drawn_159 : decode cX5_drawn 159 = .ok (.iload 6, 2) := dk_21 6 (dk_at dksX5_drawn_6 15 rfl rfl)
theorem dX5_drawn_161 : decode cX5_drawn 161 = .ok (.ireturn, 1) := dk_172 (dk_at dksX5_drawn_6 17 rfl rfl)
abbrev cX5_type : ByteArray := prog_14_method_67_code
def yX5_type : MethodName := ⟨RX5, "type", "(I)I"⟩
def dkwX5_type_2 : List UInt8 := [180, 0, 247, 4, 96, 181, 0, 247, 42, 180, 0, 247, 172]
abbrev dktX5_type_2 : List UInt8 := dkwX5_type_2 ++ []
def dkwX5_type_1 : List UInt8 := [17, 0, 150, 160, 0, 8, 42, 182, 0, 93, 172, 42, 180, 0, 51, 42, 180, 0, 247, 27, 79, 42, 89]
abbrev dktX5_type_1 : List UInt8 := dkwX5_type_1 ++ dktX5_type_2
def dkwX5_type_0 : List UInt8 := [27, 133, 9, 20, 0, 245, 184, 0, 64, 154, 0, 10, 42, 16, 254, 182, 0, 89, 172, 42, 180, 0, 247]
abbrev dktX5_type_0 : List UInt8 := dkwX5_type_0 ++ dktX5_type_1
theorem dksX5_type_0 : cX5_type.data.toList.drop 0 = dktX5_type_0 := by decide +kernel
theorem dksX5_type_1 : cX5_type.data.toList.drop 23 = dktX5_type_1 := dk_seg dksX5_type_0 23 rfl rfl
theorem dksX5_type_2 : cX5_type.data.toList.drop 46 = dktX5_type_2 := dk_seg dksX5_type_1 23 rfl rfl
theorem dX5_type_0 : decode cX5_type 0 = .ok (.iload_n 1, 1) := dk_27 (dk_at dksX5_type_0 0 rfl rfl)
theorem dX5_type_1 : decode cX5_type 1 = .ok (.i2l, 1) := dk_133 (dk_at dksX5_type_0 1 rfl rfl)
theorem dX5_type_2 : decode cX5_type 2 = .ok (.lconst 0, 1) := dk_9 (dk_at dksX5_type_0 2 rfl rfl)
theorem dX5_type_3 : decode cX5_type 3 = .ok (.ldc2_w 245, 3) := dk_20 0 245 (dk_at dksX5_type_0 3 rfl rfl)
theorem dX5_type_6 : decode cX5_type 6 = .ok (.invokestatic 64, 3) := dk_184 0 64 (dk_at dksX5_type_0 6 rfl rfl)
theorem dX5_type_9 : decode cX5_type 9 = .ok (.ifCond .ne 10, 3) := dk_154 0 10 (dk_at dksX5_type_0 9 rfl rfl)
theorem dX5_type_12 : decode cX5_type 12 = .ok (.aload_n 0, 1) := dk_42 (dk_at dksX5_type_0 12 rfl rfl)
theorem dX5_type_13 : decode cX5_type 13 = .ok (.bipush (-2), 2) := dk_16 254 (dk_at dksX5_type_0 13 rfl rfl)
theorem dX5_type_15 : decode cX5_type 15 = .ok (.invokevirtual 89, 3) := dk_182 0 89 (dk_at dksX5_type_0 15 rfl rfl)
theorem dX5_type_18 : decode cX5_type 18 = .ok (.ireturn, 1) := dk_172 (dk_at dksX5_type_0 18 rfl rfl)
theorem dX5_type_19 : decode cX5_type 19 = .ok (.aload_n 0, 1) := dk_42 (dk_at dksX5_type_0 19 rfl rfl)
theorem dX5_type_20 : decode cX5_type 20 = .ok (.getfield 247, 3) := dk_180 0 247 (dk_at dksX5_type_0 20 rfl rfl)
theorem dX5_type_23 : decode cX5_type 23 = .ok (.sipush 150, 3) := dk_17 0 150 (dk_at dksX5_type_1 0 rfl rfl)
theorem dX5_type_26 : decode cX5_type 26 = .ok (.if_icmp .ne 8, 3) := dk_160 0 8 (dk_at dksX5_type_1 3 rfl rfl)
theorem dX5_type_29 : decode cX5_type 29 = .ok (.aload_n 0, 1) := dk_42 (dk_at dksX5_type_1 6 rfl rfl)
theorem dX5_type_30 : decode cX5_type 30 = .ok (.invokevirtual 93, 3) := dk_182 0 93 (dk_at dksX5_type_1 7 rfl rfl)
theorem dX5_type_33 : decode cX5_type 33 = .ok (.ireturn, 1) := dk_172 (dk_at dksX5_type_1 10 rfl rfl)
theorem dX5_type_34 : decode cX5_type 34 = .ok (.aload_n 0, 1) := dk_42 (dk_at dksX5_type_1 11 rfl rfl)
theorem dX5_type_35 : decode cX5_type 35 = .ok (.getfield 51, 3) := dk_180 0 51 (dk_at dksX5_type_1 12 rfl rfl)
theorem dX5_type_38 : decode cX5_type 38 = .ok (.aload_n 0, 1) := dk_42 (dk_at dksX5_type_1 15 rfl rfl)
theorem dX5_type_39 : decode cX5_type 39 = .ok (.getfield 247, 3) := dk_180 0 247 (dk_at dksX5_type_1 16 rfl rfl)
theorem dX5_type_42 : decode cX5_type 42 = .ok (.iload_n 1, 1) := dk_27 (dk_at dksX5_type_1 19 rfl rfl)
theorem dX5_type_43 : decode cX5_type 43 = .ok (.iastore, 1) := dk_79 (dk_at dksX5_type_1 20 rfl rfl)
theorem dX5_type_44 : decode cX5_type 44 = .ok (.aload_n 0, 1) := dk_42 (dk_at dksX5_type_1 21 rfl rfl)
theorem dX5_type_45 : decode cX5_type 45 = .ok (.dup, 1) := dk_89 (dk_at dksX5_type_1 22 rfl rfl)
theorem dX5_type_46 : decode cX5_type 46 = .ok (.getfield 247, 3) := dk_180 0 247 (dk_at dksX5_type_2 0 rfl rfl)
theorem dX5_type_49 : decode cX5_type 49 = .ok (.iconst 1, 1) := dk_4 (dk_at dksX5_type_2 3 rfl rfl)
theorem dX5_type_50 : decode cX5_type 50 = .ok (.iadd, 1) := dk_96 (dk_at dksX5_type_2 4 rfl rfl)
theorem dX5_type_51 : decode cX5_type 51 = .ok (.putfield 247, 3) := dk_181 0 247 (dk_at dksX5_type_2 5 rfl rfl)
theorem dX5_type_54 : decode cX5_type 54 = .ok (.aload_n 0, 1) := dk_42 (dk_at dksX5_type_2 8 rfl rfl)
theorem dX5_type_55 : decode cX5_type 55 = .ok (.getfield 247, 3) := dk_180 0 247 (dk_at dksX5_type_2 9 rfl rfl)
theorem dX5_type_58 : decode cX5_type 58 = .ok (.ireturn, 1) := dk_172 (dk_at dksX5_type_2 12 rfl rfl)
abbrev cX5_clear : ByteArray := prog_14_method_68_code
def yX5_clear : MethodName := ⟨RX5, "clear", "()I"⟩
def dkwX5_clear_0 : List UInt8 := [42, 180, 0, 247, 60, 42, 3, 181, 0, 247, 27, 172]
abbrev dktX5_clear_0 : List UInt8 := dkwX5_clear_0 ++ []
theorem dksX5_clear_0 : cX5_clear.data.toList.drop 0 = dktX5_clear_0 := by decide +kernel
theorem dX5_clear_0 : decode cX5_clear 0 = .ok (.aload_n 0, 1) := dk_42 (dk_at dksX5_clear_0 0 rfl rfl)
theorem dX5_clear_1 : decode cX5_clear 1 = .ok (.getfield 247, 3) := dk_180 0 247 (dk_at dksX5_clear_0 1 rfl rfl)
theorem dX5_clear_4 : decode cX5_clear 4 = .ok (.istore_n 1, 1) := dk_60 (dk_at dksX5_clear_0 4 rfl rfl)
theorem dX5_clear_5 : decode cX5_clear 5 = .ok (.aload_n 0, 1) := dk_42 (dk_at dksX5_clear_0 5 rfl rfl)
theorem dX5_clear_6 : decode cX5_clear 6 = .ok (.iconst 0, 1) := dk_3 (dk_at dksX5_clear_0 6 rfl rfl)
theorem dX5_clear_7 : decode cX5_clear 7 = .ok (.putfield 247, 3) := dk_181 0 247 (dk_at dksX5_clear_0 7 rfl rfl)
theorem dX5_clear_10 : decode cX5_clear 10 = .ok (.iload_n 1, 1) := dk_27 (dk_at dksX5_clear_0 10 rfl rfl)
theorem dX5_clear_11 : decode cX5_clear 11 = .ok (.ireturn, 1) := dk_172 (dk_at dksX5_clear_0 11 rfl rfl)
abbrev cX5_read : ByteArray := prog_14_method_79_code
def yX5_read : MethodName := ⟨RX5, "read", "()I"⟩
def dkwX5_read_5 : List UInt8 := [28, 42, 180, 0, 54, 28, 46, 79, 132, 2, 1, 167, 255, 235, 27, 172]
abbrev dktX5_read_5 : List UInt8 := dkwX5_read_5 ++ []
def dkwX5_read_4 : List UInt8 := [100, 172, 42, 182, 1, 23, 132, 1, 1, 167, 255, 219, 3, 61, 28, 16, 115, 162, 0, 21, 42, 180, 0, 7]
abbrev dktX5_read_4 : List UInt8 := dkwX5_read_4 ++ dktX5_read_5
def dkwX5_read_3 : List UInt8 := [153, 0, 36, 42, 182, 1, 43, 153, 0, 11, 42, 180, 1, 8, 6, 159, 0, 11, 16, 246, 42, 180, 1, 2]
abbrev dktX5_read_3 : List UInt8 := dkwX5_read_3 ++ dktX5_read_4
def dkwX5_read_2 : List UInt8 := [180, 1, 2, 100, 172, 42, 182, 1, 23, 42, 180, 0, 54, 184, 0, 75, 4, 60, 42, 180, 1, 8]
abbrev dktX5_read_2 : List UInt8 := dkwX5_read_2 ++ dktX5_read_3
def dkwX5_read_1 : List UInt8 := [16, 246, 42, 180, 1, 2, 100, 172, 42, 182, 1, 23, 42, 180, 1, 8, 6, 159, 0, 11, 16, 246, 42]
abbrev dktX5_read_1 : List UInt8 := dkwX5_read_1 ++ dktX5_read_2
def dkwX5_read_0 : List UInt8 := [42, 3, 182, 1, 20, 42, 7, 16, 115, 16, 104, 16, 111, 16, 112, 3, 3, 182, 1, 29, 154, 0, 11]
abbrev dktX5_read_0 : List UInt8 := dkwX5_read_0 ++ dktX5_read_1
theorem dksX5_read_0 : cX5_read.data.toList.drop 0 = dktX5_read_0 := by decide +kernel
theorem dksX5_read_1 : cX5_read.data.toList.drop 23 = dktX5_read_1 := dk_seg dksX5_read_0 23 rfl rfl
theorem dksX5_read_2 : cX5_read.data.toList.drop 46 = dktX5_read_2 := dk_seg dksX5_read_1 23 rfl rfl
theorem dksX5_read_3 : cX5_read.data.toList.drop 68 = dktX5_read_3 := dk_seg dksX5_read_2 22 rfl rfl
theorem dksX5_read_4 : cX5_read.data.toList.drop 92 = dktX5_read_4 := dk_seg dksX5_read_3 24 rfl rfl
theorem dksX5_read_5 : cX5_read.data.toList.drop 116 = dktX5_read_5 := dk_seg dksX5_read_4 24 rfl rfl
theorem dX5_read_0 : decode cX5_read 0 = .ok (.aload_n 0, 1) := dk_42 (dk_at dksX5_read_0 0 rfl rfl)
theorem dX5_read_1 : decode cX5_read 1 = .ok (.iconst 0, 1) := dk_3 (dk_at dksX5_read_0 1 rfl rfl)
theorem dX5_read_2 : decode cX5_read 2 = .ok (.invokevirtual 276, 3) := dk_182 1 20 (dk_at dksX5_read_0 2 rfl rfl)
theorem dX5_read_5 : decode cX5_read 5 = .ok (.aload_n 0, 1) := dk_42 (dk_at dksX5_read_0 5 rfl rfl)
theorem dX5_read_6 : decode cX5_read 6 = .ok (.iconst 4, 1) := dk_7 (dk_at dksX5_read_0 6 rfl rfl)
theorem dX5_read_7 : decode cX5_read 7 = .ok (.bipush 115, 2) := dk_16 115 (dk_at dksX5_read_0 7 rfl rfl)
theorem dX5_read_9 : decode cX5_read 9 = .ok (.bipush 104, 2) := dk_16 104 (dk_at dksX5_read_0 9 rfl rfl)
theorem dX5_read_11 : decode cX5_read 11 = .ok (.bipush 111, 2) := dk_16 111 (dk_at dksX5_read_0 11 rfl rfl)
theorem dX5_read_13 : decode cX5_read 13 = .ok (.bipush 112, 2) := dk_16 112 (dk_at dksX5_read_0 13 rfl rfl)
theorem dX5_read_15 : decode cX5_read 15 = .ok (.iconst 0, 1) := dk_3 (dk_at dksX5_read_0 15 rfl rfl)
theorem dX5_read_16 : decode cX5_read 16 = .ok (.iconst 0, 1) := dk_3 (dk_at dksX5_read_0 16 rfl rfl)
theorem dX5_read_17 : decode cX5_read 17 = .ok (.invokevirtual 285, 3) := dk_182 1 29 (dk_at dksX5_read_0 17 rfl rfl)
theorem dX5_read_20 : decode cX5_read 20 = .ok (.ifCond .ne 11, 3) := dk_154 0 11 (dk_at dksX5_read_0 20 rfl rfl)
theorem dX5_read_23 : decode cX5_read 23 = .ok (.bipush (-10), 2) := dk_16 246 (dk_at dksX5_read_1 0 rfl rfl)
theorem dX5_read_25 : decode cX5_read 25 = .ok (.aload_n 0, 1) := dk_42 (dk_at dksX5_read_1 2 rfl rfl)
theorem dX5_read_26 : decode cX5_read 26 = .ok (.getfield 258, 3) := dk_180 1 2 (dk_at dksX5_read_1 3 rfl rfl)
theorem dX5_read_29 : decode cX5_read 29 = .ok (.isub, 1) := dk_100 (dk_at dksX5_read_1 6 rfl rfl)
theorem dX5_read_30 : decode cX5_read 30 = .ok (.ireturn, 1) := dk_172 (dk_at dksX5_read_1 7 rfl rfl)
theorem dX5_read_31 : decode cX5_read 31 = .ok (.aload_n 0, 1) := dk_42 (dk_at dksX5_read_1 8 rfl rfl)
theorem dX5_read_32 : decode cX5_read 32 = .ok (.invokevirtual 279, 3) := dk_182 1 23 (dk_at dksX5_read_1 9 rfl rfl)
theorem dX5_read_35 : decode cX5_read 35 = .ok (.aload_n 0, 1) := dk_42 (dk_at dksX5_read_1 12 rfl rfl)
theorem dX5_read_36 : decode cX5_read 36 = .ok (.getfield 264, 3) := dk_180 1 8 (dk_at dksX5_read_1 13 rfl rfl)
theorem dX5_read_39 : decode cX5_read 39 = .ok (.iconst 3, 1) := dk_6 (dk_at dksX5_read_1 16 rfl rfl)
theorem dX5_read_40 : decode cX5_read 40 = .ok (.if_icmp .eq 11, 3) := dk_159 0 11 (dk_at dksX5_read_1 17 rfl rfl)
theorem dX5_read_43 : decode cX5_read 43 = .ok (.bipush (-10), 2) := dk_16 246 (dk_at dksX5_read_1 20 rfl rfl)
theorem dX5_read_45 : decode cX5_read 45 = .ok (.aload_n 0, 1) := dk_42 (dk_at dksX5_read_1 22 rfl rfl)
theorem dX5_read_46 : decode cX5_read 46 = .ok (.getfield 258, 3) := dk_180 1 2 (dk_at dksX5_read_2 0 rfl rfl)
theorem dX5_read_49 : decode cX5_read 49 = .ok (.isub, 1) := dk_100 (dk_at dksX5_read_2 3 rfl rfl)
theorem dX5_read_50 : decode cX5_read 50 = .ok (.ireturn, 1) := dk_172 (dk_at dksX5_read_2 4 rfl rfl)
theorem dX5_read_51 : decode cX5_read 51 = .ok (.aload_n 0, 1) := dk_42 (dk_at dksX5_read_2 5 rfl rfl)
theorem dX5_read_52 : decode cX5_read 52 = .ok (.invokevirtual 279, 3) := dk_182 1 23 (dk_at dksX5_read_2 6 rfl rfl)
theorem dX5_read_55 : decode cX5_read 55 = .ok (.aload_n 0, 1) := dk_42 (dk_at dksX5_read_2 9 rfl rfl)
theorem dX5_read_56 : decode cX5_read 56 = .ok (.getfield 54, 3) := dk_180 0 54 (dk_at dksX5_read_2 10 rfl rfl)
theorem dX5_read_59 : decode cX5_read 59 = .ok (.invokestatic 75, 3) := dk_184 0 75 (dk_at dksX5_read_2 13 rfl rfl)
theorem dX5_read_62 : decode cX5_read 62 = .ok (.iconst 1, 1) := dk_4 (dk_at dksX5_read_2 16 rfl rfl)
theorem dX5_read_63 : decode cX5_read 63 = .ok (.istore_n 1, 1) := dk_60 (dk_at dksX5_read_2 17 rfl rfl)
theorem dX5_read_64 : decode cX5_read 64 = .ok (.aload_n 0, 1) := dk_42 (dk_at dksX5_read_2 18 rfl rfl)
theorem dX5_read_65 : decode cX5_read 65 = .ok (.getfield 264, 3) := dk_180 1 8 (dk_at dksX5_read_2 19 rfl rfl)
theorem dX5_read_68 : decode cX5_read 68 = .ok (.ifCond .eq 36, 3) := dk_153 0 36 (dk_at dksX5_read_3 0 rfl rfl)
theorem dX5_read_71 : decode cX5_read 71 = .ok (.aload_n 0, 1) := dk_42 (dk_at dksX5_read_3 3 rfl rfl)
theorem dX5_read_72 : decode cX5_read 72 = .ok (.invokevirtual 299, 3) := dk_182 1 43 (dk_at dksX5_read_3 4 rfl rfl)
theorem dX5_read_75 : decode cX5_read 75 = .ok (.ifCond .eq 11, 3) := dk_153 0 11 (dk_at dksX5_read_3 7 rfl rfl)
theorem dX5_read_78 : decode cX5_read 78 = .ok (.aload_n 0, 1) := dk_42 (dk_at dksX5_read_3 10 rfl rfl)
theorem dX5_read_79 : decode cX5_read 79 = .ok (.getfield 264, 3) := dk_180 1 8 (dk_at dksX5_read_3 11 rfl rfl)
theorem dX5_read_82 : decode cX5_read 82 = .ok (.iconst 3, 1) := dk_6 (dk_at dksX5_read_3 14 rfl rfl)
theorem dX5_read_83 : decode cX5_read 83 = .ok (.if_icmp .eq 11, 3) := dk_159 0 11 (dk_at dksX5_read_3 15 rfl rfl)
theorem dX5_read_86 : decode cX5_read 86 = .ok (.bipush (-10), 2) := dk_16 246 (dk_at dksX5_read_3 18 rfl rfl)
theorem dX5_read_88 : decode cX5_read 88 = .ok (.aload_n 0, 1) := dk_42 (dk_at dksX5_read_3 20 rfl rfl)
theorem dX5_read_89 : decode cX5_read 89 = .ok (.getfield 258, 3) := dk_180 1 2 (dk_at dksX5_read_3 21 rfl rfl)
theorem dX5_read_92 : decode cX5_read 92 = .ok (.isub, 1) := dk_100 (dk_at dksX5_read_4 0 rfl rfl)
theorem dX5_read_93 : decode cX5_read 93 = .ok (.ireturn, 1) := dk_172 (dk_at dksX5_read_4 1 rfl rfl)
theorem dX5_read_94 : decode cX5_read 94 = .ok (.aload_n 0, 1) := dk_42 (dk_at dksX5_read_4 2 rfl rfl)
theorem dX5_read_95 : decode cX5_read 95 = .ok (.invokevirtual 279, 3) := dk_182 1 23 (dk_at dksX5_read_4 3 rfl rfl)
theorem dX5_read_98 : decode cX5_read 98 = .ok (.iinc 1 1, 3) := dk_132 1 1 (dk_at dksX5_read_4 6 rfl rfl)
theorem dX5_read_101 : decode cX5_read 101 = .ok (.goto (-37), 3) := dk_167 255 219 (dk_at dksX5_read_4 9 rfl rfl)
theorem dX5_read_104 : decode cX5_read 104 = .ok (.iconst 0, 1) := dk_3 (dk_at dksX5_read_4 12 rfl rfl)
theorem dX5_read_105 : decode cX5_read 105 = .ok (.istore_n 2, 1) := dk_61 (dk_at dksX5_read_4 13 rfl rfl)
theorem dX5_read_106 : decode cX5_read 106 = .ok (.iload_n 2, 1) := dk_28 (dk_at dksX5_read_4 14 rfl rfl)
theorem dX5_read_107 : decode cX5_read 107 = .ok (.bipush 115, 2) := dk_16 115 (dk_at dksX5_read_4 15 rfl rfl)
theorem dX5_read_109 : decode cX5_read 109 = .ok (.if_icmp .ge 21, 3) := dk_162 0 21 (dk_at dksX5_read_4 17 rfl rfl)
theorem dX5_read_112 : decode cX5_read 112 = .ok (.aload_n 0, 1) := dk_42 (dk_at dksX5_read_4 20 rfl rfl)
theorem dX5_read_113 : decode cX5_read 113 = .ok (.getfield 7, 3) := dk_180 0 7 (dk_at dksX5_read_4 21 rfl rfl)
theorem dX5_read_116 : decode cX5_read 116 = .ok (.iload_n 2, 1) := dk_28 (dk_at dksX5_read_5 0 rfl rfl)
theorem dX5_read_117 : decode cX5_read 117 = .ok (.aload_n 0, 1) := dk_42 (dk_at dksX5_read_5 1 rfl rfl)
theorem dX5_read_118 : decode cX5_read 118 = .ok (.getfield 54, 3) := dk_180 0 54 (dk_at dksX5_read_5 2 rfl rfl)
theorem dX5_read_121 : decode cX5_read 121 = .ok (.iload_n 2, 1) := dk_28 (dk_at dksX5_read_5 5 rfl rfl)
theorem dX5_read_122 : decode cX5_read 122 = .ok (.iaload, 1) := dk_46 (dk_at dksX5_read_5 6 rfl rfl)
theorem dX5_read_123 : decode cX5_read 123 = .ok (.iastore, 1) := dk_79 (dk_at dksX5_read_5 7 rfl rfl)
theorem dX5_read_124 : decode cX5_read 124 = .ok (.iinc 2 1, 3) := dk_132 2 1 (dk_at dksX5_read_5 8 rfl rfl)
theorem dX5_read_127 : decode cX5_read 127 = .ok (.goto (-21), 3) := dk_167 255 235 (dk_at dksX5_read_5 11 rfl rfl)
theorem dX5_read_130 : decode cX5_read 130 = .ok (.iload_n 1, 1) := dk_27 (dk_at dksX5_read_5 14 rfl rfl)
theorem dX5_read_131 : decode cX5_read 131 = .ok (.ireturn, 1) := dk_172 (dk_at dksX5_read_5 15 rfl rfl)
abbrev cX5_lookAt : ByteArray := prog_14_method_71_code
def yX5_lookAt : MethodName := ⟨RX5, "lookAt", "(I)V"⟩
def dkwX5_lookAt_12 : List UInt8 := [160, 0, 15, 42, 180, 1, 5, 6, 164, 0, 7, 7, 167, 0, 7, 42, 180, 1, 8, 181, 1, 8, 177]
abbrev dktX5_lookAt_12 : List UInt8 := dkwX5_lookAt_12 ++ []
def dkwX5_lookAt_11 : List UInt8 := [21, 4, 96, 46, 96, 16, 48, 100, 181, 1, 11, 132, 4, 1, 167, 255, 203, 42, 42, 180, 1, 8, 5]
abbrev dktX5_lookAt_11 : List UInt8 := dkwX5_lookAt_11 ++ dktX5_lookAt_12
def dkwX5_lookAt_10 : List UInt8 := [180, 1, 8, 5, 160, 0, 36, 42, 16, 10, 42, 180, 1, 11, 104, 42, 180, 0, 51, 42, 180, 1, 2]
abbrev dktX5_lookAt_10 : List UInt8 := dkwX5_lookAt_10 ++ dktX5_lookAt_11
def dkwX5_lookAt_9 : List UInt8 := [167, 255, 180, 3, 54, 4, 21, 4, 42, 180, 1, 5, 162, 0, 50, 21, 4, 6, 162, 0, 44, 42]
abbrev dktX5_lookAt_9 : List UInt8 := dkwX5_lookAt_9 ++ dktX5_lookAt_10
def dkwX5_lookAt_8 : List UInt8 := [21, 4, 184, 1, 17, 62, 42, 89, 180, 1, 5, 29, 153, 0, 7, 4, 167, 0, 4, 3, 96, 181, 1, 5]
abbrev dktX5_lookAt_8 : List UInt8 := dkwX5_lookAt_8 ++ dktX5_lookAt_9
def dkwX5_lookAt_7 : List UInt8 := [180, 1, 5, 96, 46, 54, 4, 42, 180, 1, 8, 4, 160, 0, 11, 21, 4, 184, 1, 14, 167, 0, 8]
abbrev dktX5_lookAt_7 : List UInt8 := dkwX5_lookAt_7 ++ dktX5_lookAt_8
def dkwX5_lookAt_6 : List UInt8 := [180, 1, 2, 42, 180, 1, 5, 96, 42, 180, 0, 247, 162, 0, 62, 42, 180, 0, 51, 42, 180, 1, 2, 42]
abbrev dktX5_lookAt_6 : List UInt8 := dkwX5_lookAt_6 ++ dktX5_lookAt_7
def dkwX5_lookAt_5 : List UInt8 := [42, 4, 181, 1, 5, 42, 180, 1, 8, 6, 162, 0, 7, 4, 167, 0, 4, 3, 62, 29, 153, 0, 78, 42]
abbrev dktX5_lookAt_5 : List UInt8 := dkwX5_lookAt_5 ++ dktX5_lookAt_6
def dkwX5_lookAt_4 : List UInt8 := [184, 1, 17, 153, 0, 7, 5, 167, 0, 14, 28, 16, 59, 160, 0, 7, 6, 167, 0, 4, 7, 181, 1, 8]
abbrev dktX5_lookAt_4 : List UInt8 := dkwX5_lookAt_4 ++ dktX5_lookAt_5
def dkwX5_lookAt_3 : List UInt8 := [180, 0, 51, 42, 180, 1, 2, 46, 61, 42, 28, 184, 1, 14, 153, 0, 7, 4, 167, 0, 25, 28]
abbrev dktX5_lookAt_3 : List UInt8 := dkwX5_lookAt_3 ++ dktX5_lookAt_4
def dkwX5_lookAt_2 : List UInt8 := [42, 3, 181, 1, 8, 42, 3, 181, 1, 11, 42, 180, 1, 2, 42, 180, 0, 247, 160, 0, 4, 177, 42]
abbrev dktX5_lookAt_2 : List UInt8 := dkwX5_lookAt_2 ++ dktX5_lookAt_3
def dkwX5_lookAt_1 : List UInt8 := [46, 16, 32, 160, 0, 16, 42, 89, 180, 1, 2, 4, 96, 181, 1, 2, 167, 255, 221, 42, 3, 181, 1, 5]
abbrev dktX5_lookAt_1 : List UInt8 := dkwX5_lookAt_1 ++ dktX5_lookAt_2
def dkwX5_lookAt_0 : List UInt8 := [42, 27, 181, 1, 2, 42, 180, 1, 2, 42, 180, 0, 247, 162, 0, 30, 42, 180, 0, 51, 42, 180, 1, 2]
abbrev dktX5_lookAt_0 : List UInt8 := dkwX5_lookAt_0 ++ dktX5_lookAt_1
theorem dksX5_lookAt_0 : cX5_lookAt.data.toList.drop 0 = dktX5_lookAt_0 := by decide +kernel
theorem dksX5_lookAt_1 : cX5_lookAt.data.toList.drop 24 = dktX5_lookAt_1 := dk_seg dksX5_lookAt_0 24 rfl rfl
theorem dksX5_lookAt_2 : cX5_lookAt.data.toList.drop 48 = dktX5_lookAt_2 := dk_seg dksX5_lookAt_1 24 rfl rfl
theorem dksX5_lookAt_3 : cX5_lookAt.data.toList.drop 71 = dktX5_lookAt_3 := dk_seg dksX5_lookAt_2 23 rfl rfl
theorem dksX5_lookAt_4 : cX5_lookAt.data.toList.drop 93 = dktX5_lookAt_4 := dk_seg dksX5_lookAt_3 22 rfl rfl
theorem dksX5_lookAt_5 : cX5_lookAt.data.toList.drop 117 = dktX5_lookAt_5 := dk_seg dksX5_lookAt_4 24 rfl rfl
theorem dksX5_lookAt_6 : cX5_lookAt.data.toList.drop 141 = dktX5_lookAt_6 := dk_seg dksX5_lookAt_5 24 rfl rfl
theorem dksX5_lookAt_7 : cX5_lookAt.data.toList.drop 165 = dktX5_lookAt_7 := dk_seg dksX5_lookAt_6 24 rfl rfl
theorem dksX5_lookAt_8 : cX5_lookAt.data.toList.drop 188 = dktX5_lookAt_8 := dk_seg dksX5_lookAt_7 23 rfl rfl
theorem dksX5_lookAt_9 : cX5_lookAt.data.toList.drop 212 = dktX5_lookAt_9 := dk_seg dksX5_lookAt_8 24 rfl rfl
theorem dksX5_lookAt_10 : cX5_lookAt.data.toList.drop 234 = dktX5_lookAt_10 := dk_seg dksX5_lookAt_9 22 rfl rfl
theorem dksX5_lookAt_11 : cX5_lookAt.data.toList.drop 257 = dktX5_lookAt_11 := dk_seg dksX5_lookAt_10 23 rfl rfl
theorem dksX5_lookAt_12 : cX5_lookAt.data.toList.drop 280 = dktX5_lookAt_12 := dk_seg dksX5_lookAt_11 23 rfl rfl
theorem dX5_lookAt_0 : decode cX5_lookAt 0 = .ok (.aload_n 0, 1) := dk_42 (dk_at dksX5_lookAt_0 0 rfl rfl)
theorem dX5_lookAt_1 : decode cX5_lookAt 1 = .ok (.iload_n 1, 1) := dk_27 (dk_at dksX5_lookAt_0 1 rfl rfl)
theorem dX5_lookAt_2 : decode cX5_lookAt 2 = .ok (.putfield 258, 3) := dk_181 1 2 (dk_at dksX5_lookAt_0 2 rfl rfl)
theorem dX5_lookAt_5 : decode cX5_lookAt 5 = .ok (.aload_n 0, 1) := dk_42 (dk_at dksX5_lookAt_0 5 rfl rfl)
theorem dX5_lookAt_6 : decode cX5_lookAt 6 = .ok (.getfield 258, 3) := dk_180 1 2 (dk_at dksX5_lookAt_0 6 rfl rfl)
theorem dX5_lookAt_9 : decode cX5_lookAt 9 = .ok (.aload_n 0, 1) := dk_42 (dk_at dksX5_lookAt_0 9 rfl rfl)
theorem dX5_lookAt_10 : decode cX5_lookAt 10 = .ok (.getfield 247, 3) := dk_180 0 247 (dk_at dksX5_lookAt_0 10 rfl rfl)
theorem dX5_lookAt_13 : decode cX5_lookAt 13 = .ok (.if_icmp .ge 30, 3) := dk_162 0 30 (dk_at dksX5_lookAt_0 13 rfl rfl)
theorem dX5_lookAt_16 : decode cX5_lookAt 16 = .ok (.aload_n 0, 1) := dk_42 (dk_at dksX5_lookAt_0 16 rfl rfl)
theorem dX5_lookAt_17 : decode cX5_lookAt 17 = .ok (.getfield 51, 3) := dk_180 0 51 (dk_at dksX5_lookAt_0 17 rfl rfl)
theorem dX5_lookAt_20 : decode cX5_lookAt 20 = .ok (.aload_n 0, 1) := dk_42 (dk_at dksX5_lookAt_0 20 rfl rfl)
theorem dX5_lookAt_21 : decode cX5_lookAt 21 = .ok (.getfield 258, 3) := dk_180 1 2 (dk_at dksX5_lookAt_0 21 rfl rfl)
theorem dX5_lookAt_24 : decode cX5_lookAt 24 = .ok (.iaload, 1) := dk_46 (dk_at dksX5_lookAt_1 0 rfl rfl)
theorem dX5_lookAt_25 : decode cX5_lookAt 25 = .ok (.bipush 32, 2) := dk_16 32 (dk_at dksX5_lookAt_1 1 rfl rfl)
theorem dX5_lookAt_27 : decode cX5_lookAt 27 = .ok (.if_icmp .ne 16, 3) := dk_160 0 16 (dk_at dksX5_lookAt_1 3 rfl rfl)
theorem dX5_lookAt_30 : decode cX5_lookAt 30 = .ok (.aload_n 0, 1) := dk_42 (dk_at dksX5_lookAt_1 6 rfl rfl)
theorem dX5_lookAt_31 : decode cX5_lookAt 31 = .ok (.dup, 1) := dk_89 (dk_at dksX5_lookAt_1 7 rfl rfl)
theorem dX5_lookAt_32 : decode cX5_lookAt 32 = .ok (.getfield 258, 3) := dk_180 1 2 (dk_at dksX5_lookAt_1 8 rfl rfl)
theorem dX5_lookAt_35 : decode cX5_lookAt 35 = .ok (.iconst 1, 1) := dk_4 (dk_at dksX5_lookAt_1 11 rfl rfl)
theorem dX5_lookAt_36 : decode cX5_lookAt 36 = .ok (.iadd, 1) := dk_96 (dk_at dksX5_lookAt_1 12 rfl rfl)
theorem dX5_lookAt_37 : decode cX5_lookAt 37 = .ok (.putfield 258, 3) := dk_181 1 2 (dk_at dksX5_lookAt_1 13 rfl rfl)
theorem dX5_lookAt_40 : decode cX5_lookAt 40 = .ok (.goto (-35), 3) := dk_167 255 221 (dk_at dksX5_lookAt_1 16 rfl rfl)
theorem dX5_lookAt_43 : decode cX5_lookAt 43 = .ok (.aload_n 0, 1) := dk_42 (dk_at dksX5_lookAt_1 19 rfl rfl)
theorem dX5_lookAt_44 : decode cX5_lookAt 44 = .ok (.iconst 0, 1) := dk_3 (dk_at dksX5_lookAt_1 20 rfl rfl)
theorem dX5_lookAt_45 : decode cX5_lookAt 45 = .ok (.putfield 261, 3) := dk_181 1 5 (dk_at dksX5_lookAt_1 21 rfl rfl)
theorem dX5_lookAt_48 : decode cX5_lookAt 48 = .ok (.aload_n 0, 1) := dk_42 (dk_at dksX5_lookAt_2 0 rfl rfl)
theorem dX5_lookAt_49 : decode cX5_lookAt 49 = .ok (.iconst 0, 1) := dk_3 (dk_at dksX5_lookAt_2 1 rfl rfl)
theorem dX5_lookAt_50 : decode cX5_lookAt 50 = .ok (.putfield 264, 3) := dk_181 1 8 (dk_at dksX5_lookAt_2 2 rfl rfl)
theorem dX5_lookAt_53 : decode cX5_lookAt 53 = .ok (.aload_n 0, 1) := dk_42 (dk_at dksX5_lookAt_2 5 rfl rfl)
theorem dX5_lookAt_54 : decode cX5_lookAt 54 = .ok (.iconst 0, 1) := dk_3 (dk_at dksX5_lookAt_2 6 rfl rfl)
theorem dX5_lookAt_55 : decode cX5_lookAt 55 = .ok (.putfield 267, 3) := dk_181 1 11 (dk_at dksX5_lookAt_2 7 rfl rfl)
theorem dX5_lookAt_58 : decode cX5_lookAt 58 = .ok (.aload_n 0, 1) := dk_42 (dk_at dksX5_lookAt_2 10 rfl rfl)
theorem dX5_lookAt_59 : decode cX5_lookAt 59 = .ok (.getfield 258, 3) := dk_180 1 2 (dk_at dksX5_lookAt_2 11 rfl rfl)
theorem dX5_lookAt_62 : decode cX5_lookAt 62 = .ok (.aload_n 0, 1) := dk_42 (dk_at dksX5_lookAt_2 14 rfl rfl)
theorem dX5_lookAt_63 : decode cX5_lookAt 63 = .ok (.getfield 247, 3) := dk_180 0 247 (dk_at dksX5_lookAt_2 15 rfl rfl)
theorem dX5_lookAt_66 : decode cX5_lookAt 66 = .ok (.if_icmp .ne 4, 3) := dk_160 0 4 (dk_at dksX5_lookAt_2 18 rfl rfl)
theorem dX5_lookAt_69 : decode cX5_lookAt 69 = .ok (.return_, 1) := dk_177 (dk_at dksX5_lookAt_2 21 rfl rfl)
theorem dX5_lookAt_70 : decode cX5_lookAt 70 = .ok (.aload_n 0, 1) := dk_42 (dk_at dksX5_lookAt_2 22 rfl rfl)
theorem dX5_lookAt_71 : decode cX5_lookAt 71 = .ok (.getfield 51, 3) := dk_180 0 51 (dk_at dksX5_lookAt_3 0 rfl rfl)
theorem dX5_lookAt_74 : decode cX5_lookAt 74 = .ok (.aload_n 0, 1) := dk_42 (dk_at dksX5_lookAt_3 3 rfl rfl)
theorem dX5_lookAt_75 : decode cX5_lookAt 75 = .ok (.getfield 258, 3) := dk_180 1 2 (dk_at dksX5_lookAt_3 4 rfl rfl)
theorem dX5_lookAt_78 : decode cX5_lookAt 78 = .ok (.iaload, 1) := dk_46 (dk_at dksX5_lookAt_3 7 rfl rfl)
theorem dX5_lookAt_79 : decode cX5_lookAt 79 = .ok (.istore_n 2, 1) := dk_61 (dk_at dksX5_lookAt_3 8 rfl rfl)
theorem dX5_lookAt_80 : decode cX5_lookAt 80 = .ok (.aload_n 0, 1) := dk_42 (dk_at dksX5_lookAt_3 9 rfl rfl)
theorem dX5_lookAt_81 : decode cX5_lookAt 81 = .ok (.iload_n 2, 1) := dk_28 (dk_at dksX5_lookAt_3 10 rfl rfl)
theorem dX5_lookAt_82 : decode cX5_lookAt 82 = .ok (.invokestatic 270, 3) := dk_184 1 14 (dk_at dksX5_lookAt_3 11 rfl rfl)
theorem dX5_lookAt_85 : decode cX5_lookAt 85 = .ok (.ifCond .eq 7, 3) := dk_153 0 7 (dk_at dksX5_lookAt_3 14 rfl rfl)
theorem dX5_lookAt_88 : decode cX5_lookAt 88 = .ok (.iconst 1, 1) := dk_4 (dk_at dksX5_lookAt_3 17 rfl rfl)
theorem dX5_lookAt_89 : decode cX5_lookAt 89 = .ok (.goto 25, 3) := dk_167 0 25 (dk_at dksX5_lookAt_3 18 rfl rfl)
theorem dX5_lookAt_92 : decode cX5_lookAt 92 = .ok (.iload_n 2, 1) := dk_28 (dk_at dksX5_lookAt_3 21 rfl rfl)
theorem dX5_lookAt_93 : decode cX5_lookAt 93 = .ok (.invokestatic 273, 3) := dk_184 1 17 (dk_at dksX5_lookAt_4 0 rfl rfl)
theorem dX5_lookAt_96 : decode cX5_lookAt 96 = .ok (.ifCond .eq 7, 3) := dk_153 0 7 (dk_at dksX5_lookAt_4 3 rfl rfl)
theorem dX5_lookAt_99 : decode cX5_lookAt 99 = .ok (.iconst 2, 1) := dk_5 (dk_at dksX5_lookAt_4 6 rfl rfl)
theorem dX5_lookAt_100 : decode cX5_lookAt 100 = .ok (.goto 14, 3) := dk_167 0 14 (dk_at dksX5_lookAt_4 7 rfl rfl)
theorem dX5_lookAt_103 : decode cX5_lookAt 103 = .ok (.iload_n 2, 1) := dk_28 (dk_at dksX5_lookAt_4 10 rfl rfl)
theorem dX5_lookAt_104 : decode cX5_lookAt 104 = .ok (.bipush 59, 2) := dk_16 59 (dk_at dksX5_lookAt_4 11 rfl rfl)
theorem dX5_lookAt_106 : decode cX5_lookAt 106 = .ok (.if_icmp .ne 7, 3) := dk_160 0 7 (dk_at dksX5_lookAt_4 13 rfl rfl)
theorem dX5_lookAt_109 : decode cX5_lookAt 109 = .ok (.iconst 3, 1) := dk_6 (dk_at dksX5_lookAt_4 16 rfl rfl)
theorem dX5_lookAt_110 : decode cX5_lookAt 110 = .ok (.goto 4, 3) := dk_167 0 4 (dk_at dksX5_lookAt_4 17 rfl rfl)
theorem dX5_lookAt_113 : decode cX5_lookAt 113 = .ok (.iconst 4, 1) := dk_7 (dk_at dksX5_lookAt_4 20 rfl rfl)
theorem dX5_lookAt_114 : decode cX5_lookAt 114 = .ok (.putfield 264, 3) := dk_181 1 8 (dk_at dksX5_lookAt_4 21 rfl rfl)
theorem dX5_lookAt_117 : decode cX5_lookAt 117 = .ok (.aload_n 0, 1) := dk_42 (dk_at dksX5_lookAt_5 0 rfl rfl)
theorem dX5_lookAt_118 : decode cX5_lookAt 118 = .ok (.iconst 1, 1) := dk_4 (dk_at dksX5_lookAt_5 1 rfl rfl)
theorem dX5_lookAt_119 : decode cX5_lookAt 119 = .ok (.putfield 261, 3) := dk_181 1 5 (dk_at dksX5_lookAt_5 2 rfl rfl)
theorem dX5_lookAt_122 : decode cX5_lookAt 122 = .ok (.aload_n 0, 1) := dk_42 (dk_at dksX5_lookAt_5 5 rfl rfl)
theorem dX5_lookAt_123 : decode cX5_lookAt 123 = .ok (.getfield 264, 3) := dk_180 1 8 (dk_at dksX5_lookAt_5 6 rfl rfl)
theorem dX5_lookAt_126 : decode cX5_lookAt 126 = .ok (.iconst 3, 1) := dk_6 (dk_at dksX5_lookAt_5 9 rfl rfl)
theorem dX5_lookAt_127 : decode cX5_lookAt 127 = .ok (.if_icmp .ge 7, 3) := dk_162 0 7 (dk_at dksX5_lookAt_5 10 rfl rfl)
theorem dX5_lookAt_130 : decode cX5_lookAt 130 = .ok (.iconst 1, 1) := dk_4 (dk_at dksX5_lookAt_5 13 rfl rfl)
theorem dX5_lookAt_131 : decode cX5_lookAt 131 = .ok (.goto 4, 3) := dk_167 0 4 (dk_at dksX5_lookAt_5 14 rfl rfl)
theorem dX5_lookAt_134 : decode cX5_lookAt 134 = .ok (.iconst 0, 1) := dk_3 (dk_at dksX5_lookAt_5 17 rfl rfl)
theorem dX5_lookAt_135 : decode cX5_lookAt 135 = .ok (.istore_n 3, 1) := dk_62 (dk_at dksX5_lookAt_5 18 rfl rfl)
theorem dX5_lookAt_136 : decode cX5_lookAt 136 = .ok (.iload_n 3, 1) := dk_29 (dk_at dksX5_lookAt_5 19 rfl rfl)
theorem dX5_lookAt_137 : decode cX5_lookAt 137 = .ok (.ifCond .eq 78, 3) := dk_153 0 78 (dk_at dksX5_lookAt_5 20 rfl rfl)
theorem dX5_lookAt_140 : decode cX5_lookAt 140 = .ok (.aload_n 0, 1) := dk_42 (dk_at dksX5_lookAt_5 23 rfl rfl)
theorem dX5_lookAt_141 : decode cX5_lookAt 141 = .ok (.getfield 258, 3) := dk_180 1 2 (dk_at dksX5_lookAt_6 0 rfl rfl)
theorem dX5_lookAt_144 : decode cX5_lookAt 144 = .ok (.aload_n 0, 1) := dk_42 (dk_at dksX5_lookAt_6 3 rfl rfl)
theorem dX5_lookAt_145 : decode cX5_lookAt 145 = .ok (.getfield 261, 3) := dk_180 1 5 (dk_at dksX5_lookAt_6 4 rfl rfl)
theorem dX5_lookAt_148 : decode cX5_lookAt 148 = .ok (.iadd, 1) := dk_96 (dk_at dksX5_lookAt_6 7 rfl rfl)
theorem dX5_lookAt_149 : decode cX5_lookAt 149 = .ok (.aload_n 0, 1) := dk_42 (dk_at dksX5_lookAt_6 8 rfl rfl)
theorem dX5_lookAt_150 : decode cX5_lookAt 150 = .ok (.getfield 247, 3) := dk_180 0 247 (dk_at dksX5_lookAt_6 9 rfl rfl)
theorem dX5_lookAt_153 : decode cX5_lookAt 153 = .ok (.if_icmp .ge 62, 3) := dk_162 0 62 (dk_at dksX5_lookAt_6 12 rfl rfl)
theorem dX5_lookAt_156 : decode cX5_lookAt 156 = .ok (.aload_n 0, 1) := dk_42 (dk_at dksX5_lookAt_6 15 rfl rfl)
theorem dX5_lookAt_157 : decode cX5_lookAt 157 = .ok (.getfield 51, 3) := dk_180 0 51 (dk_at dksX5_lookAt_6 16 rfl rfl)
theorem dX5_lookAt_160 : decode cX5_lookAt 160 = .ok (.aload_n 0, 1) := dk_42 (dk_at dksX5_lookAt_6 19 rfl rfl)
theorem dX5_lookAt_161 : decode cX5_lookAt 161 = .ok (.getfield 258, 3) := dk_180 1 2 (dk_at dksX5_lookAt_6 20 rfl rfl)
theorem dX5_lookAt_164 : decode cX5_lookAt 164 = .ok (.aload_n 0, 1) := dk_42 (dk_at dksX5_lookAt_6 23 rfl rfl)
theorem dX5_lookAt_165 : decode cX5_lookAt 165 = .ok (.getfield 261, 3) := dk_180 1 5 (dk_at dksX5_lookAt_7 0 rfl rfl)
theorem dX5_lookAt_168 : decode cX5_lookAt 168 = .ok (.iadd, 1) := dk_96 (dk_at dksX5_lookAt_7 3 rfl rfl)
theorem dX5_lookAt_169 : decode cX5_lookAt 169 = .ok (.iaload, 1) := dk_46 (dk_at dksX5_lookAt_7 4 rfl rfl)
theorem dX5_lookAt_170 : decode cX5_lookAt 170 = .ok (.istore 4, 2) := dk_54 4 (dk_at dksX5_lookAt_7 5 rfl rfl)
theorem dX5_lookAt_172 : decode cX5_lookAt 172 = .ok (.aload_n 0, 1) := dk_42 (dk_at dksX5_lookAt_7 7 rfl rfl)
theorem dX5_lookAt_173 : decode cX5_lookAt 173 = .ok (.getfield 264, 3) := dk_180 1 8 (dk_at dksX5_lookAt_7 8 rfl rfl)
theorem dX5_lookAt_176 : decode cX5_lookAt 176 = .ok (.iconst 1, 1) := dk_4 (dk_at dksX5_lookAt_7 11 rfl rfl)
theorem dX5_lookAt_177 : decode cX5_lookAt 177 = .ok (.if_icmp .ne 11, 3) := dk_160 0 11 (dk_at dksX5_lookAt_7 12 rfl rfl)
theorem dX5_lookAt_180 : decode cX5_lookAt 180 = .ok (.iload 4, 2) := dk_21 4 (dk_at dksX5_lookAt_7 15 rfl rfl)
theorem dX5_lookAt_182 : decode cX5_lookAt 182 = .ok (.invokestatic 270, 3) := dk_184 1 14 (dk_at dksX5_lookAt_7 17 rfl rfl)
theorem dX5_lookAt_185 : decode cX5_lookAt 185 = .ok (.goto 8, 3) := dk_167 0 8 (dk_at dksX5_lookAt_7 20 rfl rfl)
theorem dX5_lookAt_188 : decode cX5_lookAt 188 = .ok (.iload 4, 2) := dk_21 4 (dk_at dksX5_lookAt_8 0 rfl rfl)
theorem dX5_lookAt_190 : decode cX5_lookAt 190 = .ok (.invokestatic 273, 3) := dk_184 1 17 (dk_at dksX5_lookAt_8 2 rfl rfl)
theorem dX5_lookAt_193 : decode cX5_lookAt 193 = .ok (.istore_n 3, 1) := dk_62 (dk_at dksX5_lookAt_8 5 rfl rfl)
theorem dX5_lookAt_194 : decode cX5_lookAt 194 = .ok (.aload_n 0, 1) := dk_42 (dk_at dksX5_lookAt_8 6 rfl rfl)
theorem dX5_lookAt_195 : decode cX5_lookAt 195 = .ok (.dup, 1) := dk_89 (dk_at dksX5_lookAt_8 7 rfl rfl)
theorem dX5_lookAt_196 : decode cX5_lookAt 196 = .ok (.getfield 261, 3) := dk_180 1 5 (dk_at dksX5_lookAt_8 8 rfl rfl)
theorem dX5_lookAt_199 : decode cX5_lookAt 199 = .ok (.iload_n 3, 1) := dk_29 (dk_at dksX5_lookAt_8 11 rfl rfl)
theorem dX5_lookAt_200 : decode cX5_lookAt 200 = .ok (.ifCond .eq 7, 3) := dk_153 0 7 (dk_at dksX5_lookAt_8 12 rfl rfl)
theorem dX5_lookAt_203 : decode cX5_lookAt 203 = .ok (.iconst 1, 1) := dk_4 (dk_at dksX5_lookAt_8 15 rfl rfl)
theorem dX5_lookAt_204 : decode cX5_lookAt 204 = .ok (.goto 4, 3) := dk_167 0 4 (dk_at dksX5_lookAt_8 16 rfl rfl)
theorem dX5_lookAt_207 : decode cX5_lookAt 207 = .ok (.iconst 0, 1) := dk_3 (dk_at dksX5_lookAt_8 19 rfl rfl)
theorem dX5_lookAt_208 : decode cX5_lookAt 208 = .ok (.iadd, 1) := dk_96 (dk_at dksX5_lookAt_8 20 rfl rfl)
theorem dX5_lookAt_209 : decode cX5_lookAt 209 = .ok (.putfield 261, 3) := dk_181 1 5 (dk_at dksX5_lookAt_8 21 rfl rfl)
theorem dX5_lookAt_212 : decode cX5_lookAt 212 = .ok (.goto (-76), 3) := dk_167 255 180 (dk_at dksX5_lookAt_9 0 rfl rfl)
theorem dX5_lookAt_215 : decode cX5_lookAt 215 = .ok (.iconst 0, 1) := dk_3 (dk_at dksX5_lookAt_9 3 rfl rfl)
theorem dX5_lookAt_216 : decode cX5_lookAt 216 = .ok (.istore 4, 2) := dk_54 4 (dk_at dksX5_lookAt_9 4 rfl rfl)
theorem dX5_lookAt_218 : decode cX5_lookAt 218 = .ok (.iload 4, 2) := dk_21 4 (dk_at dksX5_lookAt_9 6 rfl rfl)
theorem dX5_lookAt_220 : decode cX5_lookAt 220 = .ok (.aload_n 0, 1) := dk_42 (dk_at dksX5_lookAt_9 8 rfl rfl)
theorem dX5_lookAt_221 : decode cX5_lookAt 221 = .ok (.getfield 261, 3) := dk_180 1 5 (dk_at dksX5_lookAt_9 9 rfl rfl)
theorem dX5_lookAt_224 : decode cX5_lookAt 224 = .ok (.if_icmp .ge 50, 3) := dk_162 0 50 (dk_at dksX5_lookAt_9 12 rfl rfl)
theorem dX5_lookAt_227 : decode cX5_lookAt 227 = .ok (.iload 4, 2) := dk_21 4 (dk_at dksX5_lookAt_9 15 rfl rfl)
theorem dX5_lookAt_229 : decode cX5_lookAt 229 = .ok (.iconst 3, 1) := dk_6 (dk_at dksX5_lookAt_9 17 rfl rfl)
theorem dX5_lookAt_230 : decode cX5_lookAt 230 = .ok (.if_icmp .ge 44, 3) := dk_162 0 44 (dk_at dksX5_lookAt_9 18 rfl rfl)
theorem dX5_lookAt_233 : decode cX5_lookAt 233 = .ok (.aload_n 0, 1) := dk_42 (dk_at dksX5_lookAt_9 21 rfl rfl)
theorem dX5_lookAt_234 : decode cX5_lookAt 234 = .ok (.getfield 264, 3) := dk_180 1 8 (dk_at dksX5_lookAt_10 0 rfl rfl)
theorem dX5_lookAt_237 : decode cX5_lookAt 237 = .ok (.iconst 2, 1) := dk_5 (dk_at dksX5_lookAt_10 3 rfl rfl)
theorem dX5_lookAt_238 : decode cX5_lookAt 238 = .ok (.if_icmp .ne 36, 3) := dk_160 0 36 (dk_at dksX5_lookAt_10 4 rfl rfl)
theorem dX5_lookAt_241 : decode cX5_lookAt 241 = .ok (.aload_n 0, 1) := dk_42 (dk_at dksX5_lookAt_10 7 rfl rfl)
theorem dX5_lookAt_242 : decode cX5_lookAt 242 = .ok (.bipush 10, 2) := dk_16 10 (dk_at dksX5_lookAt_10 8 rfl rfl)
theorem dX5_lookAt_244 : decode cX5_lookAt 244 = .ok (.aload_n 0, 1) := dk_42 (dk_at dksX5_lookAt_10 10 rfl rfl)
theorem dX5_lookAt_245 : decode cX5_lookAt 245 = .ok (.getfield 267, 3) := dk_180 1 11 (dk_at dksX5_lookAt_10 11 rfl rfl)
theorem dX5_lookAt_248 : decode cX5_lookAt 248 = .ok (.imul, 1) := dk_104 (dk_at dksX5_lookAt_10 14 rfl rfl)
theorem dX5_lookAt_249 : decode cX5_lookAt 249 = .ok (.aload_n 0, 1) := dk_42 (dk_at dksX5_lookAt_10 15 rfl rfl)
theorem dX5_lookAt_250 : decode cX5_lookAt 250 = .ok (.getfield 51, 3) := dk_180 0 51 (dk_at dksX5_lookAt_10 16 rfl rfl)
theorem dX5_lookAt_253 : decode cX5_lookAt 253 = .ok (.aload_n 0, 1) := dk_42 (dk_at dksX5_lookAt_10 19 rfl rfl)
theorem dX5_lookAt_254 : decode cX5_lookAt 254 = .ok (.getfield 258, 3) := dk_180 1 2 (dk_at dksX5_lookAt_10 20 rfl rfl)
theorem dX5_lookAt_257 : decode cX5_lookAt 257 = .ok (.iload 4, 2) := dk_21 4 (dk_at dksX5_lookAt_11 0 rfl rfl)
theorem dX5_lookAt_259 : decode cX5_lookAt 259 = .ok (.iadd, 1) := dk_96 (dk_at dksX5_lookAt_11 2 rfl rfl)
theorem dX5_lookAt_260 : decode cX5_lookAt 260 = .ok (.iaload, 1) := dk_46 (dk_at dksX5_lookAt_11 3 rfl rfl)
theorem dX5_lookAt_261 : decode cX5_lookAt 261 = .ok (.iadd, 1) := dk_96 (dk_at dksX5_lookAt_11 4 rfl rfl)
theorem dX5_lookAt_262 : decode cX5_lookAt 262 = .ok (.bipush 48, 2) := dk_16 48 (dk_at dksX5_lookAt_11 5 rfl rfl)
theorem dX5_lookAt_264 : decode cX5_lookAt 264 = .ok (.isub, 1) := dk_100 (dk_at dksX5_lookAt_11 7 rfl rfl)
theorem dX5_lookAt_265 : decode cX5_lookAt 265 = .ok (.putfield 267, 3) := dk_181 1 11 (dk_at dksX5_lookAt_11 8 rfl rfl)
theorem dX5_lookAt_268 : decode cX5_lookAt 268 = .ok (.iinc 4 1, 3) := dk_132 4 1 (dk_at dksX5_lookAt_11 11 rfl rfl)
theorem dX5_lookAt_271 : decode cX5_lookAt 271 = .ok (.goto (-53), 3) := dk_167 255 203 (dk_at dksX5_lookAt_11 14 rfl rfl)
theorem dX5_lookAt_274 : decode cX5_lookAt 274 = .ok (.aload_n 0, 1) := dk_42 (dk_at dksX5_lookAt_11 17 rfl rfl)
theorem dX5_lookAt_275 : decode cX5_lookAt 275 = .ok (.aload_n 0, 1) := dk_42 (dk_at dksX5_lookAt_11 18 rfl rfl)
theorem dX5_lookAt_276 : decode cX5_lookAt 276 = .ok (.getfield 264, 3) := dk_180 1 8 (dk_at dksX5_lookAt_11 19 rfl rfl)
theorem dX5_lookAt_279 : decode cX5_lookAt 279 = .ok (.iconst 2, 1) := dk_5 (dk_at dksX5_lookAt_11 22 rfl rfl)
theorem dX5_lookAt_280 : decode cX5_lookAt 280 = .ok (.if_icmp .ne 15, 3) := dk_160 0 15 (dk_at dksX5_lookAt_12 0 rfl rfl)
theorem dX5_lookAt_283 : decode cX5_lookAt 283 = .ok (.aload_n 0, 1) := dk_42 (dk_at dksX5_lookAt_12 3 rfl rfl)
theorem dX5_lookAt_284 : decode cX5_lookAt 284 = .ok (.getfield 261, 3) := dk_180 1 5 (dk_at dksX5_lookAt_12 4 rfl rfl)
theorem dX5_lookAt_287 : decode cX5_lookAt 287 = .ok (.iconst 3, 1) := dk_6 (dk_at dksX5_lookAt_12 7 rfl rfl)
theorem dX5_lookAt_288 : decode cX5_lookAt 288 = .ok (.if_icmp .le 7, 3) := dk_164 0 7 (dk_at dksX5_lookAt_12 8 rfl rfl)
theorem dX5_lookAt_291 : decode cX5_lookAt 291 = .ok (.iconst 4, 1) := dk_7 (dk_at dksX5_lookAt_12 11 rfl rfl)
theorem dX5_lookAt_292 : decode cX5_lookAt 292 = .ok (.goto 7, 3) := dk_167 0 7 (dk_at dksX5_lookAt_12 12 rfl rfl)
theorem dX5_lookAt_295 : decode cX5_lookAt 295 = .ok (.aload_n 0, 1) := dk_42 (dk_at dksX5_lookAt_12 15 rfl rfl)
theorem dX5_lookAt_296 : decode cX5_lookAt 296 = .ok (.getfield 264, 3) := dk_180 1 8 (dk_at dksX5_lookAt_12 16 rfl rfl)
theorem dX5_lookAt_299 : decode cX5_lookAt 299 = .ok (.putfield 264, 3) := dk_181 1 8 (dk_at dksX5_lookAt_12 19 rfl rfl)
theorem dX5_lookAt_302 : decode cX5_lookAt 302 = .ok (.return_, 1) := dk_177 (dk_at dksX5_lookAt_12 22 rfl rfl)
abbrev cX5_isSmall : ByteArray := prog_14_method_69_code
def yX5_isSmall : MethodName := ⟨RX5, "isSmall", "(I)Z"⟩
def dkwX5_isSmall_0 : List UInt8 := [26, 133, 20, 0, 250, 20, 0, 252, 184, 0, 64, 172]
abbrev dktX5_isSmall_0 : List UInt8 := dkwX5_isSmall_0 ++ []
theorem dksX5_isSmall_0 : cX5_isSmall.data.toList.drop 0 = dktX5_isSmall_0 := by decide +kernel
theorem dX5_isSmall_0 : decode cX5_isSmall 0 = .ok (.iload_n 0, 1) := dk_26 (dk_at dksX5_isSmall_0 0 rfl rfl)
theorem dX5_isSmall_1 : decode cX5_isSmall 1 = .ok (.i2l, 1) := dk_133 (dk_at dksX5_isSmall_0 1 rfl rfl)
theorem dX5_isSmall_2 : decode cX5_isSmall 2 = .ok (.ldc2_w 250, 3) := dk_20 0 250 (dk_at dksX5_isSmall_0 2 rfl rfl)
theorem dX5_isSmall_5 : decode cX5_isSmall 5 = .ok (.ldc2_w 252, 3) := dk_20 0 252 (dk_at dksX5_isSmall_0 5 rfl rfl)
theorem dX5_isSmall_8 : decode cX5_isSmall 8 = .ok (.invokestatic 64, 3) := dk_184 0 64 (dk_at dksX5_isSmall_0 8 rfl rfl)
theorem dX5_isSmall_11 : decode cX5_isSmall 11 = .ok (.ireturn, 1) := dk_172 (dk_at dksX5_isSmall_0 11 rfl rfl)
abbrev cX5_isFigure : ByteArray := prog_14_method_70_code
def yX5_isFigure : MethodName := ⟨RX5, "isFigure", "(I)Z"⟩
def dkwX5_isFigure_0 : List UInt8 := [26, 133, 20, 0, 254, 20, 1, 0, 184, 0, 64, 172]
abbrev dktX5_isFigure_0 : List UInt8 := dkwX5_isFigure_0 ++ []
theorem dksX5_isFigure_0 : cX5_isFigure.data.toList.drop 0 = dktX5_isFigure_0 := by decide +kernel
theorem dX5_isFigure_0 : decode cX5_isFigure 0 = .ok (.iload_n 0, 1) := dk_26 (dk_at dksX5_isFigure_0 0 rfl rfl)
theorem dX5_isFigure_1 : decode cX5_isFigure 1 = .ok (.i2l, 1) := dk_133 (dk_at dksX5_isFigure_0 1 rfl rfl)
theorem dX5_isFigure_2 : decode cX5_isFigure 2 = .ok (.ldc2_w 254, 3) := dk_20 0 254 (dk_at dksX5_isFigure_0 2 rfl rfl)
theorem dX5_isFigure_5 : decode cX5_isFigure 5 = .ok (.ldc2_w 256, 3) := dk_20 1 0 (dk_at dksX5_isFigure_0 5 rfl rfl)
theorem dX5_isFigure_8 : decode cX5_isFigure 8 = .ok (.invokestatic 64, 3) := dk_184 0 64 (dk_at dksX5_isFigure_0 8 rfl rfl)
theorem dX5_isFigure_11 : decode cX5_isFigure 11 = .ok (.ireturn, 1) := dk_172 (dk_at dksX5_isFigure_0 11 rfl rfl)
abbrev cX5_isCalled : ByteArray := prog_14_method_73_code
def yX5_isCalled : MethodName := ⟨RX5, "isCalled", "(IIIIIII)Z"⟩
def dkwX5_isCalled_5 : List UInt8 := [167, 255, 166, 21, 8, 172]
abbrev dktX5_isCalled_5 : List UInt8 := dkwX5_isCalled_5 ++ []
def dkwX5_isCalled_4 : List UInt8 := [160, 0, 8, 21, 6, 167, 0, 5, 21, 7, 160, 0, 7, 4, 167, 0, 4, 3, 54, 8, 132, 9, 1]
abbrev dktX5_isCalled_4 : List UInt8 := dkwX5_isCalled_4 ++ dktX5_isCalled_5
def dkwX5_isCalled_3 : List UInt8 := [160, 0, 8, 21, 4, 167, 0, 27, 21, 9, 6, 160, 0, 8, 21, 5, 167, 0, 16, 21, 9, 7]
abbrev dktX5_isCalled_3 : List UInt8 := dkwX5_isCalled_3 ++ dktX5_isCalled_4
def dkwX5_isCalled_2 : List UInt8 := [46, 21, 9, 154, 0, 7, 28, 167, 0, 48, 21, 9, 4, 160, 0, 7, 29, 167, 0, 38, 21, 9, 5]
abbrev dktX5_isCalled_2 : List UInt8 := dkwX5_isCalled_2 ++ dktX5_isCalled_3
def dkwX5_isCalled_1 : List UInt8 := [54, 9, 21, 9, 27, 162, 0, 90, 21, 8, 153, 0, 85, 42, 180, 0, 51, 42, 180, 1, 2, 21, 9, 96]
abbrev dktX5_isCalled_1 : List UInt8 := dkwX5_isCalled_1 ++ dktX5_isCalled_2
def dkwX5_isCalled_0 : List UInt8 := [42, 180, 1, 8, 4, 160, 0, 15, 42, 180, 1, 5, 27, 160, 0, 7, 4, 167, 0, 4, 3, 54, 8, 3]
abbrev dktX5_isCalled_0 : List UInt8 := dkwX5_isCalled_0 ++ dktX5_isCalled_1
theorem dksX5_isCalled_0 : cX5_isCalled.data.toList.drop 0 = dktX5_isCalled_0 := by decide +kernel
theorem dksX5_isCalled_1 : cX5_isCalled.data.toList.drop 24 = dktX5_isCalled_1 := dk_seg dksX5_isCalled_0 24 rfl rfl
theorem dksX5_isCalled_2 : cX5_isCalled.data.toList.drop 48 = dktX5_isCalled_2 := dk_seg dksX5_isCalled_1 24 rfl rfl
theorem dksX5_isCalled_3 : cX5_isCalled.data.toList.drop 71 = dktX5_isCalled_3 := dk_seg dksX5_isCalled_2 23 rfl rfl
theorem dksX5_isCalled_4 : cX5_isCalled.data.toList.drop 93 = dktX5_isCalled_4 := dk_seg dksX5_isCalled_3 22 rfl rfl
theorem dksX5_isCalled_5 : cX5_isCalled.data.toList.drop 116 = dktX5_isCalled_5 := dk_seg dksX5_isCalled_4 23 rfl rfl
theorem dX5_isCalled_0 : decode cX5_isCalled 0 = .ok (.aload_n 0, 1) := dk_42 (dk_at dksX5_isCalled_0 0 rfl rfl)
theorem dX5_isCalled_1 : decode cX5_isCalled 1 = .ok (.getfield 264, 3) := dk_180 1 8 (dk_at dksX5_isCalled_0 1 rfl rfl)
theorem dX5_isCalled_4 : decode cX5_isCalled 4 = .ok (.iconst 1, 1) := dk_4 (dk_at dksX5_isCalled_0 4 rfl rfl)
theorem dX5_isCalled_5 : decode cX5_isCalled 5 = .ok (.if_icmp .ne 15, 3) := dk_160 0 15 (dk_at dksX5_isCalled_0 5 rfl rfl)
theorem dX5_isCalled_8 : decode cX5_isCalled 8 = .ok (.aload_n 0, 1) := dk_42 (dk_at dksX5_isCalled_0 8 rfl rfl)
theorem dX5_isCalled_9 : decode cX5_isCalled 9 = .ok (.getfield 261, 3) := dk_180 1 5 (dk_at dksX5_isCalled_0 9 rfl rfl)
theorem dX5_isCalled_12 : decode cX5_isCalled 12 = .ok (.iload_n 1, 1) := dk_27 (dk_at dksX5_isCalled_0 12 rfl rfl)
theorem dX5_isCalled_13 : decode cX5_isCalled 13 = .ok (.if_icmp .ne 7, 3) := dk_160 0 7 (dk_at dksX5_isCalled_0 13 rfl rfl)
theorem dX5_isCalled_16 : decode cX5_isCalled 16 = .ok (.iconst 1, 1) := dk_4 (dk_at dksX5_isCalled_0 16 rfl rfl)
theorem dX5_isCalled_17 : decode cX5_isCalled 17 = .ok (.goto 4, 3) := dk_167 0 4 (dk_at dksX5_isCalled_0 17 rfl rfl)
theorem dX5_isCalled_20 : decode cX5_isCalled 20 = .ok (.iconst 0, 1) := dk_3 (dk_at dksX5_isCalled_0 20 rfl rfl)
theorem dX5_isCalled_21 : decode cX5_isCalled 21 = .ok (.istore 8, 2) := dk_54 8 (dk_at dksX5_isCalled_0 21 rfl rfl)
theorem dX5_isCalled_23 : decode cX5_isCalled 23 = .ok (.iconst 0, 1) := dk_3 (dk_at dksX5_isCalled_0 23 rfl rfl)
theorem dX5_isCalled_24 : decode cX5_isCalled 24 = .ok (.istore 9, 2) := dk_54 9 (dk_at dksX5_isCalled_1 0 rfl rfl)
theorem dX5_isCalled_26 : decode cX5_isCalled 26 = .ok (.iload 9, 2) := dk_21 9 (dk_at dksX5_isCalled_1 2 rfl rfl)
theorem dX5_isCalled_28 : decode cX5_isCalled 28 = .ok (.iload_n 1, 1) := dk_27 (dk_at dksX5_isCalled_1 4 rfl rfl)
theorem dX5_isCalled_29 : decode cX5_isCalled 29 = .ok (.if_icmp .ge 90, 3) := dk_162 0 90 (dk_at dksX5_isCalled_1 5 rfl rfl)
theorem dX5_isCalled_32 : decode cX5_isCalled 32 = .ok (.iload 8, 2) := dk_21 8 (dk_at dksX5_isCalled_1 8 rfl rfl)
theorem dX5_isCalled_34 : decode cX5_isCalled 34 = .ok (.ifCond .eq 85, 3) := dk_153 0 85 (dk_at dksX5_isCalled_1 10 rfl rfl)
theorem dX5_isCalled_37 : decode cX5_isCalled 37 = .ok (.aload_n 0, 1) := dk_42 (dk_at dksX5_isCalled_1 13 rfl rfl)
theorem dX5_isCalled_38 : decode cX5_isCalled 38 = .ok (.getfield 51, 3) := dk_180 0 51 (dk_at dksX5_isCalled_1 14 rfl rfl)
theorem dX5_isCalled_41 : decode cX5_isCalled 41 = .ok (.aload_n 0, 1) := dk_42 (dk_at dksX5_isCalled_1 17 rfl rfl)
theorem dX5_isCalled_42 : decode cX5_isCalled 42 = .ok (.getfield 258, 3) := dk_180 1 2 (dk_at dksX5_isCalled_1 18 rfl rfl)
theorem dX5_isCalled_45 : decode cX5_isCalled 45 = .ok (.iload 9, 2) := dk_21 9 (dk_at dksX5_isCalled_1 21 rfl rfl)
theorem dX5_isCalled_47 : decode cX5_isCalled 47 = .ok (.iadd, 1) := dk_96 (dk_at dksX5_isCalled_1 23 rfl rfl)
theorem dX5_isCalled_48 : decode cX5_isCalled 48 = .ok (.iaload, 1) := dk_46 (dk_at dksX5_isCalled_2 0 rfl rfl)
theorem dX5_isCalled_49 : decode cX5_isCalled 49 = .ok (.iload 9, 2) := dk_21 9 (dk_at dksX5_isCalled_2 1 rfl rfl)
theorem dX5_isCalled_51 : decode cX5_isCalled 51 = .ok (.ifCond .ne 7, 3) := dk_154 0 7 (dk_at dksX5_isCalled_2 3 rfl rfl)
theorem dX5_isCalled_54 : decode cX5_isCalled 54 = .ok (.iload_n 2, 1) := dk_28 (dk_at dksX5_isCalled_2 6 rfl rfl)
theorem dX5_isCalled_55 : decode cX5_isCalled 55 = .ok (.goto 48, 3) := dk_167 0 48 (dk_at dksX5_isCalled_2 7 rfl rfl)
theorem dX5_isCalled_58 : decode cX5_isCalled 58 = .ok (.iload 9, 2) := dk_21 9 (dk_at dksX5_isCalled_2 10 rfl rfl)
theorem dX5_isCalled_60 : decode cX5_isCalled 60 = .ok (.iconst 1, 1) := dk_4 (dk_at dksX5_isCalled_2 12 rfl rfl)
theorem dX5_isCalled_61 : decode cX5_isCalled 61 = .ok (.if_icmp .ne 7, 3) := dk_160 0 7 (dk_at dksX5_isCalled_2 13 rfl rfl)
theorem dX5_isCalled_64 : decode cX5_isCalled 64 = .ok (.iload_n 3, 1) := dk_29 (dk_at dksX5_isCalled_2 16 rfl rfl)
theorem dX5_isCalled_65 : decode cX5_isCalled 65 = .ok (.goto 38, 3) := dk_167 0 38 (dk_at dksX5_isCalled_2 17 rfl rfl)
theorem dX5_isCalled_68 : decode cX5_isCalled 68 = .ok (.iload 9, 2) := dk_21 9 (dk_at dksX5_isCalled_2 20 rfl rfl)
theorem dX5_isCalled_70 : decode cX5_isCalled 70 = .ok (.iconst 2, 1) := dk_5 (dk_at dksX5_isCalled_2 22 rfl rfl)
theorem dX5_isCalled_71 : decode cX5_isCalled 71 = .ok (.if_icmp .ne 8, 3) := dk_160 0 8 (dk_at dksX5_isCalled_3 0 rfl rfl)
theorem dX5_isCalled_74 : decode cX5_isCalled 74 = .ok (.iload 4, 2) := dk_21 4 (dk_at dksX5_isCalled_3 3 rfl rfl)
theorem dX5_isCalled_76 : decode cX5_isCalled 76 = .ok (.goto 27, 3) := dk_167 0 27 (dk_at dksX5_isCalled_3 5 rfl rfl)
theorem dX5_isCalled_79 : decode cX5_isCalled 79 = .ok (.iload 9, 2) := dk_21 9 (dk_at dksX5_isCalled_3 8 rfl rfl)
theorem dX5_isCalled_81 : decode cX5_isCalled 81 = .ok (.iconst 3, 1) := dk_6 (dk_at dksX5_isCalled_3 10 rfl rfl)
theorem dX5_isCalled_82 : decode cX5_isCalled 82 = .ok (.if_icmp .ne 8, 3) := dk_160 0 8 (dk_at dksX5_isCalled_3 11 rfl rfl)
theorem dX5_isCalled_85 : decode cX5_isCalled 85 = .ok (.iload 5, 2) := dk_21 5 (dk_at dksX5_isCalled_3 14 rfl rfl)
theorem dX5_isCalled_87 : decode cX5_isCalled 87 = .ok (.goto 16, 3) := dk_167 0 16 (dk_at dksX5_isCalled_3 16 rfl rfl)
theorem dX5_isCalled_90 : decode cX5_isCalled 90 = .ok (.iload 9, 2) := dk_21 9 (dk_at dksX5_isCalled_3 19 rfl rfl)
theorem dX5_isCalled_92 : decode cX5_isCalled 92 = .ok (.iconst 4, 1) := dk_7 (dk_at dksX5_isCalled_3 21 rfl rfl)
theorem dX5_isCalled_93 : decode cX5_isCalled 93 = .ok (.if_icmp .ne 8, 3) := dk_160 0 8 (dk_at dksX5_isCalled_4 0 rfl rfl)
theorem dX5_isCalled_96 : decode cX5_isCalled 96 = .ok (.iload 6, 2) := dk_21 6 (dk_at dksX5_isCalled_4 3 rfl rfl)
theorem dX5_isCalled_98 : decode cX5_isCalled 98 = .ok (.goto 5, 3) := dk_167 0 5 (dk_at dksX5_isCalled_4 5 rfl rfl)
theorem dX5_isCalled_101 : decode cX5_isCalled 101 = .ok (.iload 7, 2) := dk_21 7 (dk_at dksX5_isCalled_4 8 rfl rfl)
theorem dX5_isCalled_103 : decode cX5_isCalled 103 = .ok (.if_icmp .ne 7, 3) := dk_160 0 7 (dk_at dksX5_isCalled_4 10 rfl rfl)
theorem dX5_isCalled_106 : decode cX5_isCalled 106 = .ok (.iconst 1, 1) := dk_4 (dk_at dksX5_isCalled_4 13 rfl rfl)
theorem dX5_isCalled_107 : decode cX5_isCalled 107 = .ok (.goto 4, 3) := dk_167 0 4 (dk_at dksX5_isCalled_4 14 rfl rfl)
theorem dX5_isCalled_110 : decode cX5_isCalled 110 = .ok (.iconst 0, 1) := dk_3 (dk_at dksX5_isCalled_4 17 rfl rfl)
theorem dX5_isCalled_111 : decode cX5_isCalled 111 = .ok (.istore 8, 2) := dk_54 8 (dk_at dksX5_isCalled_4 18 rfl rfl)
theorem dX5_isCalled_113 : decode cX5_isCalled 113 = .ok (.iinc 9 1, 3) := dk_132 9 1 (dk_at dksX5_isCalled_4 20 rfl rfl)
theorem dX5_isCalled_116 : decode cX5_isCalled 116 = .ok (.goto (-90), 3) := dk_167 255 166 (dk_at dksX5_isCalled_5 0 rfl rfl)
theorem dX5_isCalled_119 : decode cX5_isCalled 119 = .ok (.iload 8, 2) := dk_21 8 (dk_at dksX5_isCalled_5 3 rfl rfl)
theorem dX5_isCalled_121 : decode cX5_isCalled 121 = .ok (.ireturn, 1) := dk_172 (dk_at dksX5_isCalled_5 5 rfl rfl)
abbrev cX5_goBehind : ByteArray := prog_14_method_72_code
def yX5_goBehind : MethodName := ⟨RX5, "goBehind", "()V"⟩
def dkwX5_goBehind_0 : List UInt8 := [42, 42, 180, 1, 2, 42, 180, 1, 5, 96, 182, 1, 20, 177]
abbrev dktX5_goBehind_0 : List UInt8 := dkwX5_goBehind_0 ++ []
theorem dksX5_goBehind_0 : cX5_goBehind.data.toList.drop 0 = dktX5_goBehind_0 := by decide +kernel
theorem dX5_goBehind_0 : decode cX5_goBehind 0 = .ok (.aload_n 0, 1) := dk_42 (dk_at dksX5_goBehind_0 0 rfl rfl)
theorem dX5_goBehind_1 : decode cX5_goBehind 1 = .ok (.aload_n 0, 1) := dk_42 (dk_at dksX5_goBehind_0 1 rfl rfl)
theorem dX5_goBehind_2 : decode cX5_goBehind 2 = .ok (.getfield 258, 3) := dk_180 1 2 (dk_at dksX5_goBehind_0 2 rfl rfl)
theorem dX5_goBehind_5 : decode cX5_goBehind 5 = .ok (.aload_n 0, 1) := dk_42 (dk_at dksX5_goBehind_0 5 rfl rfl)
theorem dX5_goBehind_6 : decode cX5_goBehind 6 = .ok (.getfield 261, 3) := dk_180 1 5 (dk_at dksX5_goBehind_0 6 rfl rfl)
theorem dX5_goBehind_9 : decode cX5_goBehind 9 = .ok (.iadd, 1) := dk_96 (dk_at dksX5_goBehind_0 9 rfl rfl)
theorem dX5_goBehind_10 : decode cX5_goBehind 10 = .ok (.invokevirtual 276, 3) := dk_182 1 20 (dk_at dksX5_goBehind_0 10 rfl rfl)
theorem dX5_goBehind_13 : decode cX5_goBehind 13 = .ok (.return_, 1) := dk_177 (dk_at dksX5_goBehind_0 13 rfl rfl)
abbrev cX5_takesItem : ByteArray := prog_14_method_78_code
def yX5_takesItem : MethodName := ⟨RX5, "takesItem", "()Z"⟩
def dkwX5_takesItem_3 : List UInt8 := [153, 0, 7, 4, 167, 0, 4, 3, 172]
abbrev dktX5_takesItem_3 : List UInt8 := dkwX5_takesItem_3 ++ []
def dkwX5_takesItem_2 : List UInt8 := [172, 42, 8, 16, 116, 16, 104, 16, 105, 16, 110, 16, 103, 3, 182, 1, 29, 153, 0, 14, 42, 182, 1, 40]
abbrev dktX5_takesItem_2 : List UInt8 := dkwX5_takesItem_2 ++ dktX5_takesItem_3
def dkwX5_takesItem_1 : List UInt8 := [16, 6, 16, 114, 16, 101, 16, 110, 16, 116, 16, 101, 16, 114, 182, 1, 29, 153, 0, 8, 42, 182, 1, 37]
abbrev dktX5_takesItem_1 : List UInt8 := dkwX5_takesItem_1 ++ dktX5_takesItem_2
def dkwX5_takesItem_0 : List UInt8 := [42, 7, 16, 118, 16, 105, 16, 101, 16, 119, 3, 3, 182, 1, 29, 153, 0, 8, 42, 182, 1, 33, 172, 42]
abbrev dktX5_takesItem_0 : List UInt8 := dkwX5_takesItem_0 ++ dktX5_takesItem_1
theorem dksX5_takesItem_0 : cX5_takesItem.data.toList.drop 0 = dktX5_takesItem_0 := by decide +kernel
theorem dksX5_takesItem_1 : cX5_takesItem.data.toList.drop 24 = dktX5_takesItem_1 := dk_seg dksX5_takesItem_0 24 rfl rfl
theorem dksX5_takesItem_2 : cX5_takesItem.data.toList.drop 48 = dktX5_takesItem_2 := dk_seg dksX5_takesItem_1 24 rfl rfl
theorem dksX5_takesItem_3 : cX5_takesItem.data.toList.drop 72 = dktX5_takesItem_3 := dk_seg dksX5_takesItem_2 24 rfl rfl
theorem dX5_takesItem_0 : decode cX5_takesItem 0 = .ok (.aload_n 0, 1) := dk_42 (dk_at dksX5_takesItem_0 0 rfl rfl)
theorem dX5_takesItem_1 : decode cX5_takesItem 1 = .ok (.iconst 4, 1) := dk_7 (dk_at dksX5_takesItem_0 1 rfl rfl)
theorem dX5_takesItem_2 : decode cX5_takesItem 2 = .ok (.bipush 118, 2) := dk_16 118 (dk_at dksX5_takesItem_0 2 rfl rfl)
theorem dX5_takesItem_4 : decode cX5_takesItem 4 = .ok (.bipush 105, 2) := dk_16 105 (dk_at dksX5_takesItem_0 4 rfl rfl)
theorem dX5_takesItem_6 : decode cX5_takesItem 6 = .ok (.bipush 101, 2) := dk_16 101 (dk_at dksX5_takesItem_0 6 rfl rfl)
theorem dX5_takesItem_8 : decode cX5_takesItem 8 = .ok (.bipush 119, 2) := dk_16 119 (dk_at dksX5_takesItem_0 8 rfl rfl)
theorem dX5_takesItem_10 : decode cX5_takesItem 10 = .ok (.iconst 0, 1) := dk_3 (dk_at dksX5_takesItem_0 10 rfl rfl)
theorem dX5_takesItem_11 : decode cX5_takesItem 11 = .ok (.iconst 0, 1) := dk_3 (dk_at dksX5_takesItem_0 11 rfl rfl)
theorem dX5_takesItem_12 : decode cX5_takesItem 12 = .ok (.invokevirtual 285, 3) := dk_182 1 29 (dk_at dksX5_takesItem_0 12 rfl rfl)
theorem dX5_takesItem_15 : decode cX5_takesItem 15 = .ok (.ifCond .eq 8, 3) := dk_153 0 8 (dk_at dksX5_takesItem_0 15 rfl rfl)
theorem dX5_takesItem_18 : decode cX5_takesItem 18 = .ok (.aload_n 0, 1) := dk_42 (dk_at dksX5_takesItem_0 18 rfl rfl)
theorem dX5_takesItem_19 : decode cX5_takesItem 19 = .ok (.invokevirtual 289, 3) := dk_182 1 33 (dk_at dksX5_takesItem_0 19 rfl rfl)
theorem dX5_takesItem_22 : decode cX5_takesItem 22 = .ok (.ireturn, 1) := dk_172 (dk_at dksX5_takesItem_0 22 rfl rfl)
theorem dX5_takesItem_23 : decode cX5_takesItem 23 = .ok (.aload_n 0, 1) := dk_42 (dk_at dksX5_takesItem_0 23 rfl rfl)
theorem dX5_takesItem_24 : decode cX5_takesItem 24 = .ok (.bipush 6, 2) := dk_16 6 (dk_at dksX5_takesItem_1 0 rfl rfl)
theorem dX5_takesItem_26 : decode cX5_takesItem 26 = .ok (.bipush 114, 2) := dk_16 114 (dk_at dksX5_takesItem_1 2 rfl rfl)
theorem dX5_takesItem_28 : decode cX5_takesItem 28 = .ok (.bipush 101, 2) := dk_16 101 (dk_at dksX5_takesItem_1 4 rfl rfl)
theorem dX5_takesItem_30 : decode cX5_takesItem 30 = .ok (.bipush 110, 2) := dk_16 110 (dk_at dksX5_takesItem_1 6 rfl rfl)
theorem dX5_takesItem_32 : decode cX5_takesItem 32 = .ok (.bipush 116, 2) := dk_16 116 (dk_at dksX5_takesItem_1 8 rfl rfl)
theorem dX5_takesItem_34 : decode cX5_takesItem 34 = .ok (.bipush 101, 2) := dk_16 101 (dk_at dksX5_takesItem_1 10 rfl rfl)
theorem dX5_takesItem_36 : decode cX5_takesItem 36 = .ok (.bipush 114, 2) := dk_16 114 (dk_at dksX5_takesItem_1 12 rfl rfl)
theorem dX5_takesItem_38 : decode cX5_takesItem 38 = .ok (.invokevirtual 285, 3) := dk_182 1 29 (dk_at dksX5_takesItem_1 14 rfl rfl)
theorem dX5_takesItem_41 : decode cX5_takesItem 41 = .ok (.ifCond .eq 8, 3) := dk_153 0 8 (dk_at dksX5_takesItem_1 17 rfl rfl)
theorem dX5_takesItem_44 : decode cX5_takesItem 44 = .ok (.aload_n 0, 1) := dk_42 (dk_at dksX5_takesItem_1 20 rfl rfl)
theorem dX5_takesItem_45 : decode cX5_takesItem 45 = .ok (.invokevirtual 293, 3) := dk_182 1 37 (dk_at dksX5_takesItem_1 21 rfl rfl)
theorem dX5_takesItem_48 : decode cX5_takesItem 48 = .ok (.ireturn, 1) := dk_172 (dk_at dksX5_takesItem_2 0 rfl rfl)
theorem dX5_takesItem_49 : decode cX5_takesItem 49 = .ok (.aload_n 0, 1) := dk_42 (dk_at dksX5_takesItem_2 1 rfl rfl)
theorem dX5_takesItem_50 : decode cX5_takesItem 50 = .ok (.iconst 5, 1) := dk_8 (dk_at dksX5_takesItem_2 2 rfl rfl)
theorem dX5_takesItem_51 : decode cX5_takesItem 51 = .ok (.bipush 116, 2) := dk_16 116 (dk_at dksX5_takesItem_2 3 rfl rfl)
theorem dX5_takesItem_53 : decode cX5_takesItem 53 = .ok (.bipush 104, 2) := dk_16 104 (dk_at dksX5_takesItem_2 5 rfl rfl)
theorem dX5_takesItem_55 : decode cX5_takesItem 55 = .ok (.bipush 105, 2) := dk_16 105 (dk_at dksX5_takesItem_2 7 rfl rfl)
theorem dX5_takesItem_57 : decode cX5_takesItem 57 = .ok (.bipush 110, 2) := dk_16 110 (dk_at dksX5_takesItem_2 9 rfl rfl)
theorem dX5_takesItem_59 : decode cX5_takesItem 59 = .ok (.bipush 103, 2) := dk_16 103 (dk_at dksX5_takesItem_2 11 rfl rfl)
theorem dX5_takesItem_61 : decode cX5_takesItem 61 = .ok (.iconst 0, 1) := dk_3 (dk_at dksX5_takesItem_2 13 rfl rfl)
theorem dX5_takesItem_62 : decode cX5_takesItem 62 = .ok (.invokevirtual 285, 3) := dk_182 1 29 (dk_at dksX5_takesItem_2 14 rfl rfl)
theorem dX5_takesItem_65 : decode cX5_takesItem 65 = .ok (.ifCond .eq 14, 3) := dk_153 0 14 (dk_at dksX5_takesItem_2 17 rfl rfl)
theorem dX5_takesItem_68 : decode cX5_takesItem 68 = .ok (.aload_n 0, 1) := dk_42 (dk_at dksX5_takesItem_2 20 rfl rfl)
theorem dX5_takesItem_69 : decode cX5_takesItem 69 = .ok (.invokevirtual 296, 3) := dk_182 1 40 (dk_at dksX5_takesItem_2 21 rfl rfl)
theorem dX5_takesItem_72 : decode cX5_takesItem 72 = .ok (.ifCond .eq 7, 3) := dk_153 0 7 (dk_at dksX5_takesItem_3 0 rfl rfl)
theorem dX5_takesItem_75 : decode cX5_takesItem 75 = .ok (.iconst 1, 1) := dk_4 (dk_at dksX5_takesItem_3 3 rfl rfl)
theorem dX5_takesItem_76 : decode cX5_takesItem 76 = .ok (.goto 4, 3) := dk_167 0 4 (dk_at dksX5_takesItem_3 4 rfl rfl)
theorem dX5_takesItem_79 : decode cX5_takesItem 79 = .ok (.iconst 0, 1) := dk_3 (dk_at dksX5_takesItem_3 7 rfl rfl)
theorem dX5_takesItem_80 : decode cX5_takesItem 80 = .ok (.ireturn, 1) := dk_172 (dk_at dksX5_takesItem_3 8 rfl rfl)
abbrev cX5_takesView : ByteArray := prog_14_method_75_code
def yX5_takesView : MethodName := ⟨RX5, "takesView", "()Z"⟩
def dkwX5_takesView_3 : List UInt8 := [46, 42, 180, 0, 57, 4, 46, 42, 180, 0, 57, 5, 46, 42, 180, 0, 57, 6, 46, 184, 0, 96, 4, 172]
abbrev dktX5_takesView_3 : List UInt8 := dkwX5_takesView_3 ++ []
def dkwX5_takesView_2 : List UInt8 := [153, 0, 13, 42, 6, 3, 8, 182, 1, 26, 154, 0, 5, 3, 172, 42, 180, 0, 54, 42, 180, 0, 57, 3]
abbrev dktX5_takesView_2 : List UInt8 := dkwX5_takesView_2 ++ dktX5_takesView_3
def dkwX5_takesView_1 : List UInt8 := [153, 0, 35, 42, 4, 4, 16, 9, 182, 1, 26, 153, 0, 24, 42, 5, 3, 16, 99, 182, 1, 26]
abbrev dktX5_takesView_1 : List UInt8 := dkwX5_takesView_1 ++ dktX5_takesView_2
def dkwX5_takesView_0 : List UInt8 := [42, 180, 0, 54, 3, 46, 16, 6, 160, 0, 5, 3, 172, 42, 182, 1, 23, 42, 3, 3, 8, 182, 1, 26]
abbrev dktX5_takesView_0 : List UInt8 := dkwX5_takesView_0 ++ dktX5_takesView_1
theorem dksX5_takesView_0 : cX5_takesView.data.toList.drop 0 = dktX5_takesView_0 := by decide +kernel
theorem dksX5_takesView_1 : cX5_takesView.data.toList.drop 24 = dktX5_takesView_1 := dk_seg dksX5_takesView_0 24 rfl rfl
theorem dksX5_takesView_2 : cX5_takesView.data.toList.drop 46 = dktX5_takesView_2 := dk_seg dksX5_takesView_1 22 rfl rfl
theorem dksX5_takesView_3 : cX5_takesView.data.toList.drop 70 = dktX5_takesView_3 := dk_seg dksX5_takesView_2 24 rfl rfl
theorem dX5_takesView_0 : decode cX5_takesView 0 = .ok (.aload_n 0, 1) := dk_42 (dk_at dksX5_takesView_0 0 rfl rfl)
theorem dX5_takesView_1 : decode cX5_takesView 1 = .ok (.getfield 54, 3) := dk_180 0 54 (dk_at dksX5_takesView_0 1 rfl rfl)
theorem dX5_takesView_4 : decode cX5_takesView 4 = .ok (.iconst 0, 1) := dk_3 (dk_at dksX5_takesView_0 4 rfl rfl)
theorem dX5_takesView_5 : decode cX5_takesView 5 = .ok (.iaload, 1) := dk_46 (dk_at dksX5_takesView_0 5 rfl rfl)
theorem dX5_takesView_6 : decode cX5_takesView 6 = .ok (.bipush 6, 2) := dk_16 6 (dk_at dksX5_takesView_0 6 rfl rfl)
theorem dX5_takesView_8 : decode cX5_takesView 8 = .ok (.if_icmp .ne 5, 3) := dk_160 0 5 (dk_at dksX5_takesView_0 8 rfl rfl)
theorem dX5_takesView_11 : decode cX5_takesView 11 = .ok (.iconst 0, 1) := dk_3 (dk_at dksX5_takesView_0 11 rfl rfl)
theorem dX5_takesView_12 : decode cX5_takesView 12 = .ok (.ireturn, 1) := dk_172 (dk_at dksX5_takesView_0 12 rfl rfl)
theorem dX5_takesView_13 : decode cX5_takesView 13 = .ok (.aload_n 0, 1) := dk_42 (dk_at dksX5_takesView_0 13 rfl rfl)
theorem dX5_takesView_14 : decode cX5_takesView 14 = .ok (.invokevirtual 279, 3) := dk_182 1 23 (dk_at dksX5_takesView_0 14 rfl rfl)
theorem dX5_takesView_17 : decode cX5_takesView 17 = .ok (.aload_n 0, 1) := dk_42 (dk_at dksX5_takesView_0 17 rfl rfl)
theorem dX5_takesView_18 : decode cX5_takesView 18 = .ok (.iconst 0, 1) := dk_3 (dk_at dksX5_takesView_0 18 rfl rfl)
theorem dX5_takesView_19 : decode cX5_takesView 19 = .ok (.iconst 0, 1) := dk_3 (dk_at dksX5_takesView_0 19 rfl rfl)
theorem dX5_takesView_20 : decode cX5_takesView 20 = .ok (.iconst 5, 1) := dk_8 (dk_at dksX5_takesView_0 20 rfl rfl)
theorem dX5_takesView_21 : decode cX5_takesView 21 = .ok (.invokevirtual 282, 3) := dk_182 1 26 (dk_at dksX5_takesView_0 21 rfl rfl)
theorem dX5_takesView_24 : decode cX5_takesView 24 = .ok (.ifCond .eq 35, 3) := dk_153 0 35 (dk_at dksX5_takesView_1 0 rfl rfl)
theorem dX5_takesView_27 : decode cX5_takesView 27 = .ok (.aload_n 0, 1) := dk_42 (dk_at dksX5_takesView_1 3 rfl rfl)
theorem dX5_takesView_28 : decode cX5_takesView 28 = .ok (.iconst 1, 1) := dk_4 (dk_at dksX5_takesView_1 4 rfl rfl)
theorem dX5_takesView_29 : decode cX5_takesView 29 = .ok (.iconst 1, 1) := dk_4 (dk_at dksX5_takesView_1 5 rfl rfl)
theorem dX5_takesView_30 : decode cX5_takesView 30 = .ok (.bipush 9, 2) := dk_16 9 (dk_at dksX5_takesView_1 6 rfl rfl)
theorem dX5_takesView_32 : decode cX5_takesView 32 = .ok (.invokevirtual 282, 3) := dk_182 1 26 (dk_at dksX5_takesView_1 8 rfl rfl)
theorem dX5_takesView_35 : decode cX5_takesView 35 = .ok (.ifCond .eq 24, 3) := dk_153 0 24 (dk_at dksX5_takesView_1 11 rfl rfl)
theorem dX5_takesView_38 : decode cX5_takesView 38 = .ok (.aload_n 0, 1) := dk_42 (dk_at dksX5_takesView_1 14 rfl rfl)
theorem dX5_takesView_39 : decode cX5_takesView 39 = .ok (.iconst 2, 1) := dk_5 (dk_at dksX5_takesView_1 15 rfl rfl)
theorem dX5_takesView_40 : decode cX5_takesView 40 = .ok (.iconst 0, 1) := dk_3 (dk_at dksX5_takesView_1 16 rfl rfl)
theorem dX5_takesView_41 : decode cX5_takesView 41 = .ok (.bipush 99, 2) := dk_16 99 (dk_at dksX5_takesView_1 17 rfl rfl)
theorem dX5_takesView_43 : decode cX5_takesView 43 = .ok (.invokevirtual 282, 3) := dk_182 1 26 (dk_at dksX5_takesView_1 19 rfl rfl)
theorem dX5_takesView_46 : decode cX5_takesView 46 = .ok (.ifCond .eq 13, 3) := dk_153 0 13 (dk_at dksX5_takesView_2 0 rfl rfl)
theorem dX5_takesView_49 : decode cX5_takesView 49 = .ok (.aload_n 0, 1) := dk_42 (dk_at dksX5_takesView_2 3 rfl rfl)
theorem dX5_takesView_50 : decode cX5_takesView 50 = .ok (.iconst 3, 1) := dk_6 (dk_at dksX5_takesView_2 4 rfl rfl)
theorem dX5_takesView_51 : decode cX5_takesView 51 = .ok (.iconst 0, 1) := dk_3 (dk_at dksX5_takesView_2 5 rfl rfl)
theorem dX5_takesView_52 : decode cX5_takesView 52 = .ok (.iconst 5, 1) := dk_8 (dk_at dksX5_takesView_2 6 rfl rfl)
theorem dX5_takesView_53 : decode cX5_takesView 53 = .ok (.invokevirtual 282, 3) := dk_182 1 26 (dk_at dksX5_takesView_2 7 rfl rfl)
theorem dX5_takesView_56 : decode cX5_takesView 56 = .ok (.ifCond .ne 5, 3) := dk_154 0 5 (dk_at dksX5_takesView_2 10 rfl rfl)
theorem dX5_takesView_59 : decode cX5_takesView 59 = .ok (.iconst 0, 1) := dk_3 (dk_at dksX5_takesView_2 13 rfl rfl)
theorem dX5_takesView_60 : decode cX5_takesView 60 = .ok (.ireturn, 1) := dk_172 (dk_at dksX5_takesView_2 14 rfl rfl)
theorem dX5_takesView_61 : decode cX5_takesView 61 = .ok (.aload_n 0, 1) := dk_42 (dk_at dksX5_takesView_2 15 rfl rfl)
theorem dX5_takesView_62 : decode cX5_takesView 62 = .ok (.getfield 54, 3) := dk_180 0 54 (dk_at dksX5_takesView_2 16 rfl rfl)
theorem dX5_takesView_65 : decode cX5_takesView 65 = .ok (.aload_n 0, 1) := dk_42 (dk_at dksX5_takesView_2 19 rfl rfl)
theorem dX5_takesView_66 : decode cX5_takesView 66 = .ok (.getfield 57, 3) := dk_180 0 57 (dk_at dksX5_takesView_2 20 rfl rfl)
theorem dX5_takesView_69 : decode cX5_takesView 69 = .ok (.iconst 0, 1) := dk_3 (dk_at dksX5_takesView_2 23 rfl rfl)
theorem dX5_takesView_70 : decode cX5_takesView 70 = .ok (.iaload, 1) := dk_46 (dk_at dksX5_takesView_3 0 rfl rfl)
theorem dX5_takesView_71 : decode cX5_takesView 71 = .ok (.aload_n 0, 1) := dk_42 (dk_at dksX5_takesView_3 1 rfl rfl)
theorem dX5_takesView_72 : decode cX5_takesView 72 = .ok (.getfield 57, 3) := dk_180 0 57 (dk_at dksX5_takesView_3 2 rfl rfl)
theorem dX5_takesView_75 : decode cX5_takesView 75 = .ok (.iconst 1, 1) := dk_4 (dk_at dksX5_takesView_3 5 rfl rfl)
theorem dX5_takesView_76 : decode cX5_takesView 76 = .ok (.iaload, 1) := dk_46 (dk_at dksX5_takesView_3 6 rfl rfl)
theorem dX5_takesView_77 : decode cX5_takesView 77 = .ok (.aload_n 0, 1) := dk_42 (dk_at dksX5_takesView_3 7 rfl rfl)
theorem dX5_takesView_78 : decode cX5_takesView 78 = .ok (.getfield 57, 3) := dk_180 0 57 (dk_at dksX5_takesView_3 8 rfl rfl)
theorem dX5_takesView_81 : decode cX5_takesView 81 = .ok (.iconst 2, 1) := dk_5 (dk_at dksX5_takesView_3 11 rfl rfl)
theorem dX5_takesView_82 : decode cX5_takesView 82 = .ok (.iaload, 1) := dk_46 (dk_at dksX5_takesView_3 12 rfl rfl)
theorem dX5_takesView_83 : decode cX5_takesView 83 = .ok (.aload_n 0, 1) := dk_42 (dk_at dksX5_takesView_3 13 rfl rfl)
theorem dX5_takesView_84 : decode cX5_takesView 84 = .ok (.getfield 57, 3) := dk_180 0 57 (dk_at dksX5_takesView_3 14 rfl rfl)
theorem dX5_takesView_87 : decode cX5_takesView 87 = .ok (.iconst 3, 1) := dk_6 (dk_at dksX5_takesView_3 17 rfl rfl)
theorem dX5_takesView_88 : decode cX5_takesView 88 = .ok (.iaload, 1) := dk_46 (dk_at dksX5_takesView_3 18 rfl rfl)
theorem dX5_takesView_89 : decode cX5_takesView 89 = .ok (.invokestatic 96, 3) := dk_184 0 96 (dk_at dksX5_takesView_3 19 rfl rfl)
theorem dX5_takesView_92 : decode cX5_takesView 92 = .ok (.iconst 1, 1) := dk_4 (dk_at dksX5_takesView_3 22 rfl rfl)
theorem dX5_takesView_93 : decode cX5_takesView 93 = .ok (.ireturn, 1) := dk_172 (dk_at dksX5_takesView_3 23 rfl rfl)
abbrev cX5_takes : ByteArray := prog_14_method_74_code
def yX5_takes : MethodName := ⟨RX5, "takes", "(III)Z"⟩
def dkwX5_takes_1 : List UInt8 := [172, 42, 180, 0, 57, 27, 42, 180, 1, 11, 79, 42, 182, 1, 23, 4, 172]
abbrev dktX5_takes_1 : List UInt8 := dkwX5_takes_1 ++ []
def dkwX5_takes_0 : List UInt8 := [42, 180, 1, 8, 5, 160, 0, 18, 42, 180, 1, 11, 133, 28, 133, 29, 133, 184, 0, 64, 154, 0, 5, 3]
abbrev dktX5_takes_0 : List UInt8 := dkwX5_takes_0 ++ dktX5_takes_1
theorem dksX5_takes_0 : cX5_takes.data.toList.drop 0 = dktX5_takes_0 := by decide +kernel
theorem dksX5_takes_1 : cX5_takes.data.toList.drop 24 = dktX5_takes_1 := dk_seg dksX5_takes_0 24 rfl rfl
theorem dX5_takes_0 : decode cX5_takes 0 = .ok (.aload_n 0, 1) := dk_42 (dk_at dksX5_takes_0 0 rfl rfl)
theorem dX5_takes_1 : decode cX5_takes 1 = .ok (.getfield 264, 3) := dk_180 1 8 (dk_at dksX5_takes_0 1 rfl rfl)
theorem dX5_takes_4 : decode cX5_takes 4 = .ok (.iconst 2, 1) := dk_5 (dk_at dksX5_takes_0 4 rfl rfl)
theorem dX5_takes_5 : decode cX5_takes 5 = .ok (.if_icmp .ne 18, 3) := dk_160 0 18 (dk_at dksX5_takes_0 5 rfl rfl)
theorem dX5_takes_8 : decode cX5_takes 8 = .ok (.aload_n 0, 1) := dk_42 (dk_at dksX5_takes_0 8 rfl rfl)
theorem dX5_takes_9 : decode cX5_takes 9 = .ok (.getfield 267, 3) := dk_180 1 11 (dk_at dksX5_takes_0 9 rfl rfl)
theorem dX5_takes_12 : decode cX5_takes 12 = .ok (.i2l, 1) := dk_133 (dk_at dksX5_takes_0 12 rfl rfl)
theorem dX5_takes_13 : decode cX5_takes 13 = .ok (.iload_n 2, 1) := dk_28 (dk_at dksX5_takes_0 13 rfl rfl)
theorem dX5_takes_14 : decode cX5_takes 14 = .ok (.i2l, 1) := dk_133 (dk_at dksX5_takes_0 14 rfl rfl)
theorem dX5_takes_15 : decode cX5_takes 15 = .ok (.iload_n 3, 1) := dk_29 (dk_at dksX5_takes_0 15 rfl rfl)
theorem dX5_takes_16 : decode cX5_takes 16 = .ok (.i2l, 1) := dk_133 (dk_at dksX5_takes_0 16 rfl rfl)
theorem dX5_takes_17 : decode cX5_takes 17 = .ok (.invokestatic 64, 3) := dk_184 0 64 (dk_at dksX5_takes_0 17 rfl rfl)
theorem dX5_takes_20 : decode cX5_takes 20 = .ok (.ifCond .ne 5, 3) := dk_154 0 5 (dk_at dksX5_takes_0 20 rfl rfl)
theorem dX5_takes_23 : decode cX5_takes 23 = .ok (.iconst 0, 1) := dk_3 (dk_at dksX5_takes_0 23 rfl rfl)
theorem dX5_takes_24 : decode cX5_takes 24 = .ok (.ireturn, 1) := dk_172 (dk_at dksX5_takes_1 0 rfl rfl)
theorem dX5_takes_25 : decode cX5_takes 25 = .ok (.aload_n 0, 1) := dk_42 (dk_at dksX5_takes_1 1 rfl rfl)
theorem dX5_takes_26 : decode cX5_takes 26 = .ok (.getfield 57, 3) := dk_180 0 57 (dk_at dksX5_takes_1 2 rfl rfl)
theorem dX5_takes_29 : decode cX5_takes 29 = .ok (.iload_n 1, 1) := dk_27 (dk_at dksX5_takes_1 5 rfl rfl)
theorem dX5_takes_30 : decode cX5_takes 30 = .ok (.aload_n 0, 1) := dk_42 (dk_at dksX5_takes_1 6 rfl rfl)
theorem dX5_takes_31 : decode cX5_takes 31 = .ok (.getfield 267, 3) := dk_180 1 11 (dk_at dksX5_takes_1 7 rfl rfl)
theorem dX5_takes_34 : decode cX5_takes 34 = .ok (.iastore, 1) := dk_79 (dk_at dksX5_takes_1 10 rfl rfl)
theorem dX5_takes_35 : decode cX5_takes 35 = .ok (.aload_n 0, 1) := dk_42 (dk_at dksX5_takes_1 11 rfl rfl)
theorem dX5_takes_36 : decode cX5_takes 36 = .ok (.invokevirtual 279, 3) := dk_182 1 23 (dk_at dksX5_takes_1 12 rfl rfl)
theorem dX5_takes_39 : decode cX5_takes 39 = .ok (.iconst 1, 1) := dk_4 (dk_at dksX5_takes_1 15 rfl rfl)
theorem dX5_takes_40 : decode cX5_takes 40 = .ok (.ireturn, 1) := dk_172 (dk_at dksX5_takes_1 16 rfl rfl)
abbrev cX5_takesRenter : ByteArray := prog_14_method_76_code
def yX5_takesRenter : MethodName := ⟨RX5, "takesRenter", "()Z"⟩
def dkwX5_takesRenter_3 : List UInt8 := [42, 180, 0, 57, 5, 46, 184, 0, 108, 4, 172]
abbrev dktX5_takesRenter_3 : List UInt8 := dkwX5_takesRenter_3 ++ []
def dkwX5_takesRenter_2 : List UInt8 := [182, 1, 26, 154, 0, 5, 3, 172, 42, 180, 0, 54, 42, 180, 0, 57, 3, 46, 42, 180, 0, 57, 4, 46]
abbrev dktX5_takesRenter_2 : List UInt8 := dkwX5_takesRenter_2 ++ dktX5_takesRenter_3
def dkwX5_takesRenter_1 : List UInt8 := [182, 1, 26, 153, 0, 26, 42, 4, 3, 17, 3, 231, 182, 1, 26, 153, 0, 14, 42, 5, 3, 16, 6]
abbrev dktX5_takesRenter_1 : List UInt8 := dkwX5_takesRenter_1 ++ dktX5_takesRenter_2
def dkwX5_takesRenter_0 : List UInt8 := [42, 180, 0, 54, 4, 46, 16, 6, 160, 0, 5, 3, 172, 42, 182, 1, 23, 42, 3, 4, 16, 9]
abbrev dktX5_takesRenter_0 : List UInt8 := dkwX5_takesRenter_0 ++ dktX5_takesRenter_1
theorem dksX5_takesRenter_0 : cX5_takesRenter.data.toList.drop 0 = dktX5_takesRenter_0 := by decide +kernel
theorem dksX5_takesRenter_1 : cX5_takesRenter.data.toList.drop 22 = dktX5_takesRenter_1 := dk_seg dksX5_takesRenter_0 22 rfl rfl
theorem dksX5_takesRenter_2 : cX5_takesRenter.data.toList.drop 45 = dktX5_takesRenter_2 := dk_seg dksX5_takesRenter_1 23 rfl rfl
theorem dksX5_takesRenter_3 : cX5_takesRenter.data.toList.drop 69 = dktX5_takesRenter_3 := dk_seg dksX5_takesRenter_2 24 rfl rfl
theorem dX5_takesRenter_0 : decode cX5_takesRenter 0 = .ok (.aload_n 0, 1) := dk_42 (dk_at dksX5_takesRenter_0 0 rfl rfl)
theorem dX5_takesRenter_1 : decode cX5_takesRenter 1 = .ok (.getfield 54, 3) := dk_180 0 54 (dk_at dksX5_takesRenter_0 1 rfl rfl)
theorem dX5_takesRenter_4 : decode cX5_takesRenter 4 = .ok (.iconst 1, 1) := dk_4 (dk_at dksX5_takesRenter_0 4 rfl rfl)
theorem dX5_takesRenter_5 : decode cX5_takesRenter 5 = .ok (.iaload, 1) := dk_46 (dk_at dksX5_takesRenter_0 5 rfl rfl)
theorem dX5_takesRenter_6 : decode cX5_takesRenter 6 = .ok (.bipush 6, 2) := dk_16 6 (dk_at dksX5_takesRenter_0 6 rfl rfl)
theorem dX5_takesRenter_8 : decode cX5_takesRenter 8 = .ok (.if_icmp .ne 5, 3) := dk_160 0 5 (dk_at dksX5_takesRenter_0 8 rfl rfl)
theorem dX5_takesRenter_11 : decode cX5_takesRenter 11 = .ok (.iconst 0, 1) := dk_3 (dk_at dksX5_takesRenter_0 11 rfl rfl)
theorem dX5_takesRenter_12 : decode cX5_takesRenter 12 = .ok (.ireturn, 1) := dk_172 (dk_at dksX5_takesRenter_0 12 rfl rfl)
theorem dX5_takesRenter_13 : decode cX5_takesRenter 13 = .ok (.aload_n 0, 1) := dk_42 (dk_at dksX5_takesRenter_0 13 rfl rfl)
theorem dX5_takesRenter_14 : decode cX5_takesRenter 14 = .ok (.invokevirtual 279, 3) := dk_182 1 23 (dk_at dksX5_takesRenter_0 14 rfl rfl)
theorem dX5_takesRenter_17 : decode cX5_takesRenter 17 = .ok (.aload_n 0, 1) := dk_42 (dk_at dksX5_takesRenter_0 17 rfl rfl)
theorem dX5_takesRenter_18 : decode cX5_takesRenter 18 = .ok (.iconst 0, 1) := dk_3 (dk_at dksX5_takesRenter_0 18 rfl rfl)
theorem dX5_takesRenter_19 : decode cX5_takesRenter 19 = .ok (.iconst 1, 1) := dk_4 (dk_at dksX5_takesRenter_0 19 rfl rfl)
theorem dX5_takesRenter_20 : decode cX5_takesRenter 20 = .ok (.bipush 9, 2) := dk_16 9 (dk_at dksX5_takesRenter_0 20 rfl rfl)
theorem dX5_takesRenter_22 : decode cX5_takesRenter 22 = .ok (.invokevirtual 282, 3) := dk_182 1 26 (dk_at dksX5_takesRenter_1 0 rfl rfl)
theorem dX5_takesRenter_25 : decode cX5_takesRenter 25 = .ok (.ifCond .eq 26, 3) := dk_153 0 26 (dk_at dksX5_takesRenter_1 3 rfl rfl)
theorem dX5_takesRenter_28 : decode cX5_takesRenter 28 = .ok (.aload_n 0, 1) := dk_42 (dk_at dksX5_takesRenter_1 6 rfl rfl)
theorem dX5_takesRenter_29 : decode cX5_takesRenter 29 = .ok (.iconst 1, 1) := dk_4 (dk_at dksX5_takesRenter_1 7 rfl rfl)
theorem dX5_takesRenter_30 : decode cX5_takesRenter 30 = .ok (.iconst 0, 1) := dk_3 (dk_at dksX5_takesRenter_1 8 rfl rfl)
theorem dX5_takesRenter_31 : decode cX5_takesRenter 31 = .ok (.sipush 999, 3) := dk_17 3 231 (dk_at dksX5_takesRenter_1 9 rfl rfl)
theorem dX5_takesRenter_34 : decode cX5_takesRenter 34 = .ok (.invokevirtual 282, 3) := dk_182 1 26 (dk_at dksX5_takesRenter_1 12 rfl rfl)
theorem dX5_takesRenter_37 : decode cX5_takesRenter 37 = .ok (.ifCond .eq 14, 3) := dk_153 0 14 (dk_at dksX5_takesRenter_1 15 rfl rfl)
theorem dX5_takesRenter_40 : decode cX5_takesRenter 40 = .ok (.aload_n 0, 1) := dk_42 (dk_at dksX5_takesRenter_1 18 rfl rfl)
theorem dX5_takesRenter_41 : decode cX5_takesRenter 41 = .ok (.iconst 2, 1) := dk_5 (dk_at dksX5_takesRenter_1 19 rfl rfl)
theorem dX5_takesRenter_42 : decode cX5_takesRenter 42 = .ok (.iconst 0, 1) := dk_3 (dk_at dksX5_takesRenter_1 20 rfl rfl)
theorem dX5_takesRenter_43 : decode cX5_takesRenter 43 = .ok (.bipush 6, 2) := dk_16 6 (dk_at dksX5_takesRenter_1 21 rfl rfl)
theorem dX5_takesRenter_45 : decode cX5_takesRenter 45 = .ok (.invokevirtual 282, 3) := dk_182 1 26 (dk_at dksX5_takesRenter_2 0 rfl rfl)
theorem dX5_takesRenter_48 : decode cX5_takesRenter 48 = .ok (.ifCond .ne 5, 3) := dk_154 0 5 (dk_at dksX5_takesRenter_2 3 rfl rfl)
theorem dX5_takesRenter_51 : decode cX5_takesRenter 51 = .ok (.iconst 0, 1) := dk_3 (dk_at dksX5_takesRenter_2 6 rfl rfl)
theorem dX5_takesRenter_52 : decode cX5_takesRenter 52 = .ok (.ireturn, 1) := dk_172 (dk_at dksX5_takesRenter_2 7 rfl rfl)
theorem dX5_takesRenter_53 : decode cX5_takesRenter 53 = .ok (.aload_n 0, 1) := dk_42 (dk_at dksX5_takesRenter_2 8 rfl rfl)
theorem dX5_takesRenter_54 : decode cX5_takesRenter 54 = .ok (.getfield 54, 3) := dk_180 0 54 (dk_at dksX5_takesRenter_2 9 rfl rfl)
theorem dX5_takesRenter_57 : decode cX5_takesRenter 57 = .ok (.aload_n 0, 1) := dk_42 (dk_at dksX5_takesRenter_2 12 rfl rfl)
theorem dX5_takesRenter_58 : decode cX5_takesRenter 58 = .ok (.getfield 57, 3) := dk_180 0 57 (dk_at dksX5_takesRenter_2 13 rfl rfl)
theorem dX5_takesRenter_61 : decode cX5_takesRenter 61 = .ok (.iconst 0, 1) := dk_3 (dk_at dksX5_takesRenter_2 16 rfl rfl)
theorem dX5_takesRenter_62 : decode cX5_takesRenter 62 = .ok (.iaload, 1) := dk_46 (dk_at dksX5_takesRenter_2 17 rfl rfl)
theorem dX5_takesRenter_63 : decode cX5_takesRenter 63 = .ok (.aload_n 0, 1) := dk_42 (dk_at dksX5_takesRenter_2 18 rfl rfl)
theorem dX5_takesRenter_64 : decode cX5_takesRenter 64 = .ok (.getfield 57, 3) := dk_180 0 57 (dk_at dksX5_takesRenter_2 19 rfl rfl)
theorem dX5_takesRenter_67 : decode cX5_takesRenter 67 = .ok (.iconst 1, 1) := dk_4 (dk_at dksX5_takesRenter_2 22 rfl rfl)
theorem dX5_takesRenter_68 : decode cX5_takesRenter 68 = .ok (.iaload, 1) := dk_46 (dk_at dksX5_takesRenter_2 23 rfl rfl)
theorem dX5_takesRenter_69 : decode cX5_takesRenter 69 = .ok (.aload_n 0, 1) := dk_42 (dk_at dksX5_takesRenter_3 0 rfl rfl)
theorem dX5_takesRenter_70 : decode cX5_takesRenter 70 = .ok (.getfield 57, 3) := dk_180 0 57 (dk_at dksX5_takesRenter_3 1 rfl rfl)
theorem dX5_takesRenter_73 : decode cX5_takesRenter 73 = .ok (.iconst 2, 1) := dk_5 (dk_at dksX5_takesRenter_3 4 rfl rfl)
theorem dX5_takesRenter_74 : decode cX5_takesRenter 74 = .ok (.iaload, 1) := dk_46 (dk_at dksX5_takesRenter_3 5 rfl rfl)
theorem dX5_takesRenter_75 : decode cX5_takesRenter 75 = .ok (.invokestatic 108, 3) := dk_184 0 108 (dk_at dksX5_takesRenter_3 6 rfl rfl)
theorem dX5_takesRenter_78 : decode cX5_takesRenter 78 = .ok (.iconst 1, 1) := dk_4 (dk_at dksX5_takesRenter_3 9 rfl rfl)
theorem dX5_takesRenter_79 : decode cX5_takesRenter 79 = .ok (.ireturn, 1) := dk_172 (dk_at dksX5_takesRenter_3 10 rfl rfl)
abbrev cX5_takesThing : ByteArray := prog_14_method_77_code
def yX5_takesThing : MethodName := ⟨RX5, "takesThing", "()Z"⟩
def dkwX5_takesThing_2 : List UInt8 := [104, 96, 8, 96, 92, 46, 4, 42, 180, 0, 57, 4, 46, 120, 128, 79, 4, 172]
abbrev dktX5_takesThing_2 : List UInt8 := dkwX5_takesThing_2 ++ []
def dkwX5_takesThing_1 : List UInt8 := [16, 7, 182, 1, 26, 154, 0, 5, 3, 172, 42, 180, 0, 54, 16, 7, 16, 6, 42, 180, 0, 57, 3, 46]
abbrev dktX5_takesThing_1 : List UInt8 := dkwX5_takesThing_1 ++ dktX5_takesThing_2
def dkwX5_takesThing_0 : List UInt8 := [42, 182, 1, 23, 42, 3, 3, 42, 180, 0, 54, 3, 46, 4, 100, 182, 1, 26, 153, 0, 14, 42, 4, 3]
abbrev dktX5_takesThing_0 : List UInt8 := dkwX5_takesThing_0 ++ dktX5_takesThing_1
theorem dksX5_takesThing_0 : cX5_takesThing.data.toList.drop 0 = dktX5_takesThing_0 := by decide +kernel
theorem dksX5_takesThing_1 : cX5_takesThing.data.toList.drop 24 = dktX5_takesThing_1 := dk_seg dksX5_takesThing_0 24 rfl rfl
theorem dksX5_takesThing_2 : cX5_takesThing.data.toList.drop 48 = dktX5_takesThing_2 := dk_seg dksX5_takesThing_1 24 rfl rfl
theorem dX5_takesThing_0 : decode cX5_takesThing 0 = .ok (.aload_n 0, 1) := dk_42 (dk_at dksX5_takesThing_0 0 rfl rfl)
theorem dX5_takesThing_1 : decode cX5_takesThing 1 = .ok (.invokevirtual 279, 3) := dk_182 1 23 (dk_at dksX5_takesThing_0 1 rfl rfl)
theorem dX5_takesThing_4 : decode cX5_takesThing 4 = .ok (.aload_n 0, 1) := dk_42 (dk_at dksX5_takesThing_0 4 rfl rfl)
theorem dX5_takesThing_5 : decode cX5_takesThing 5 = .ok (.iconst 0, 1) := dk_3 (dk_at dksX5_takesThing_0 5 rfl rfl)
theorem dX5_takesThing_6 : decode cX5_takesThing 6 = .ok (.iconst 0, 1) := dk_3 (dk_at dksX5_takesThing_0 6 rfl rfl)
theorem dX5_takesThing_7 : decode cX5_takesThing 7 = .ok (.aload_n 0, 1) := dk_42 (dk_at dksX5_takesThing_0 7 rfl rfl)
theorem dX5_takesThing_8 : decode cX5_takesThing 8 = .ok (.getfield 54, 3) := dk_180 0 54 (dk_at dksX5_takesThing_0 8 rfl rfl)
theorem dX5_takesThing_11 : decode cX5_takesThing 11 = .ok (.iconst 0, 1) := dk_3 (dk_at dksX5_takesThing_0 11 rfl rfl)
theorem dX5_takesThing_12 : decode cX5_takesThing 12 = .ok (.iaload, 1) := dk_46 (dk_at dksX5_takesThing_0 12 rfl rfl)
theorem dX5_takesThing_13 : decode cX5_takesThing 13 = .ok (.iconst 1, 1) := dk_4 (dk_at dksX5_takesThing_0 13 rfl rfl)
theorem dX5_takesThing_14 : decode cX5_takesThing 14 = .ok (.isub, 1) := dk_100 (dk_at dksX5_takesThing_0 14 rfl rfl)
theorem dX5_takesThing_15 : decode cX5_takesThing 15 = .ok (.invokevirtual 282, 3) := dk_182 1 26 (dk_at dksX5_takesThing_0 15 rfl rfl)
theorem dX5_takesThing_18 : decode cX5_takesThing 18 = .ok (.ifCond .eq 14, 3) := dk_153 0 14 (dk_at dksX5_takesThing_0 18 rfl rfl)
theorem dX5_takesThing_21 : decode cX5_takesThing 21 = .ok (.aload_n 0, 1) := dk_42 (dk_at dksX5_takesThing_0 21 rfl rfl)
theorem dX5_takesThing_22 : decode cX5_takesThing 22 = .ok (.iconst 1, 1) := dk_4 (dk_at dksX5_takesThing_0 22 rfl rfl)
theorem dX5_takesThing_23 : decode cX5_takesThing 23 = .ok (.iconst 0, 1) := dk_3 (dk_at dksX5_takesThing_0 23 rfl rfl)
theorem dX5_takesThing_24 : decode cX5_takesThing 24 = .ok (.bipush 7, 2) := dk_16 7 (dk_at dksX5_takesThing_1 0 rfl rfl)
theorem dX5_takesThing_26 : decode cX5_takesThing 26 = .ok (.invokevirtual 282, 3) := dk_182 1 26 (dk_at dksX5_takesThing_1 2 rfl rfl)
theorem dX5_takesThing_29 : decode cX5_takesThing 29 = .ok (.ifCond .ne 5, 3) := dk_154 0 5 (dk_at dksX5_takesThing_1 5 rfl rfl)
theorem dX5_takesThing_32 : decode cX5_takesThing 32 = .ok (.iconst 0, 1) := dk_3 (dk_at dksX5_takesThing_1 8 rfl rfl)
theorem dX5_takesThing_33 : decode cX5_takesThing 33 = .ok (.ireturn, 1) := dk_172 (dk_at dksX5_takesThing_1 9 rfl rfl)
theorem dX5_takesThing_34 : decode cX5_takesThing 34 = .ok (.aload_n 0, 1) := dk_42 (dk_at dksX5_takesThing_1 10 rfl rfl)
theorem dX5_takesThing_35 : decode cX5_takesThing 35 = .ok (.getfield 54, 3) := dk_180 0 54 (dk_at dksX5_takesThing_1 11 rfl rfl)
theorem dX5_takesThing_38 : decode cX5_takesThing 38 = .ok (.bipush 7, 2) := dk_16 7 (dk_at dksX5_takesThing_1 14 rfl rfl)
theorem dX5_takesThing_40 : decode cX5_takesThing 40 = .ok (.bipush 6, 2) := dk_16 6 (dk_at dksX5_takesThing_1 16 rfl rfl)
theorem dX5_takesThing_42 : decode cX5_takesThing 42 = .ok (.aload_n 0, 1) := dk_42 (dk_at dksX5_takesThing_1 18 rfl rfl)
theorem dX5_takesThing_43 : decode cX5_takesThing 43 = .ok (.getfield 57, 3) := dk_180 0 57 (dk_at dksX5_takesThing_1 19 rfl rfl)
theorem dX5_takesThing_46 : decode cX5_takesThing 46 = .ok (.iconst 0, 1) := dk_3 (dk_at dksX5_takesThing_1 22 rfl rfl)
theorem dX5_takesThing_47 : decode cX5_takesThing 47 = .ok (.iaload, 1) := dk_46 (dk_at dksX5_takesThing_1 23 rfl rfl)
theorem dX5_takesThing_48 : decode cX5_takesThing 48 = .ok (.imul, 1) := dk_104 (dk_at dksX5_takesThing_2 0 rfl rfl)
theorem dX5_takesThing_49 : decode cX5_takesThing 49 = .ok (.iadd, 1) := dk_96 (dk_at dksX5_takesThing_2 1 rfl rfl)
theorem dX5_takesThing_50 : decode cX5_takesThing 50 = .ok (.iconst 5, 1) := dk_8 (dk_at dksX5_takesThing_2 2 rfl rfl)
theorem dX5_takesThing_51 : decode cX5_takesThing 51 = .ok (.iadd, 1) := dk_96 (dk_at dksX5_takesThing_2 3 rfl rfl)
theorem dX5_takesThing_52 : decode cX5_takesThing 52 = .ok (.dup2, 1) := dk_92 (dk_at dksX5_takesThing_2 4 rfl rfl)
theorem dX5_takesThing_53 : decode cX5_takesThing 53 = .ok (.iaload, 1) := dk_46 (dk_at dksX5_takesThing_2 5 rfl rfl)
theorem dX5_takesThing_54 : decode cX5_takesThing 54 = .ok (.iconst 1, 1) := dk_4 (dk_at dksX5_takesThing_2 6 rfl rfl)
theorem dX5_takesThing_55 : decode cX5_takesThing 55 = .ok (.aload_n 0, 1) := dk_42 (dk_at dksX5_takesThing_2 7 rfl rfl)
theorem dX5_takesThing_56 : decode cX5_takesThing 56 = .ok (.getfield 57, 3) := dk_180 0 57 (dk_at dksX5_takesThing_2 8 rfl rfl)
theorem dX5_takesThing_59 : decode cX5_takesThing 59 = .ok (.iconst 1, 1) := dk_4 (dk_at dksX5_takesThing_2 11 rfl rfl)
theorem dX5_takesThing_60 : decode cX5_takesThing 60 = .ok (.iaload, 1) := dk_46 (dk_at dksX5_takesThing_2 12 rfl rfl)
theorem dX5_takesThing_61 : decode cX5_takesThing 61 = .ok (.ishl, 1) := dk_120 (dk_at dksX5_takesThing_2 13 rfl rfl)
theorem dX5_takesThing_62 : decode cX5_takesThing 62 = .ok (.ior, 1) := dk_128 (dk_at dksX5_takesThing_2 14 rfl rfl)
theorem dX5_takesThing_63 : decode cX5_takesThing 63 = .ok (.iastore, 1) := dk_79 (dk_at dksX5_takesThing_2 15 rfl rfl)
theorem dX5_takesThing_64 : decode cX5_takesThing 64 = .ok (.iconst 1, 1) := dk_4 (dk_at dksX5_takesThing_2 16 rfl rfl)
theorem dX5_takesThing_65 : decode cX5_takesThing 65 = .ok (.ireturn, 1) := dk_172 (dk_at dksX5_takesThing_2 17 rfl rfl)
abbrev cX5_part : ByteArray := prog_14_method_80_code
def yX5_part : MethodName := ⟨RX5, "part", "(I)J"⟩
def dkwX5_part_1 : List UInt8 := [16, 254, 182, 0, 89, 133, 173]
abbrev dktX5_part_1 : List UInt8 := dkwX5_part_1 ++ []
def dkwX5_part_0 : List UInt8 := [27, 154, 0, 10, 42, 180, 0, 222, 167, 0, 22, 27, 4, 160, 0, 10, 42, 180, 0, 23, 167, 0, 10, 42]
abbrev dktX5_part_0 : List UInt8 := dkwX5_part_0 ++ dktX5_part_1
theorem dksX5_part_0 : cX5_part.data.toList.drop 0 = dktX5_part_0 := by decide +kernel
theorem dksX5_part_1 : cX5_part.data.toList.drop 24 = dktX5_part_1 := dk_seg dksX5_part_0 24 rfl rfl
theorem dX5_part_0 : decode cX5_part 0 = .ok (.iload_n 1, 1) := dk_27 (dk_at dksX5_part_0 0 rfl rfl)
theorem dX5_part_1 : decode cX5_part 1 = .ok (.ifCond .ne 10, 3) := dk_154 0 10 (dk_at dksX5_part_0 1 rfl rfl)
theorem dX5_part_4 : decode cX5_part 4 = .ok (.aload_n 0, 1) := dk_42 (dk_at dksX5_part_0 4 rfl rfl)
theorem dX5_part_5 : decode cX5_part 5 = .ok (.getfield 222, 3) := dk_180 0 222 (dk_at dksX5_part_0 5 rfl rfl)
theorem dX5_part_8 : decode cX5_part 8 = .ok (.goto 22, 3) := dk_167 0 22 (dk_at dksX5_part_0 8 rfl rfl)
theorem dX5_part_11 : decode cX5_part 11 = .ok (.iload_n 1, 1) := dk_27 (dk_at dksX5_part_0 11 rfl rfl)
theorem dX5_part_12 : decode cX5_part 12 = .ok (.iconst 1, 1) := dk_4 (dk_at dksX5_part_0 12 rfl rfl)
theorem dX5_part_13 : decode cX5_part 13 = .ok (.if_icmp .ne 10, 3) := dk_160 0 10 (dk_at dksX5_part_0 13 rfl rfl)
theorem dX5_part_16 : decode cX5_part 16 = .ok (.aload_n 0, 1) := dk_42 (dk_at dksX5_part_0 16 rfl rfl)
theorem dX5_part_17 : decode cX5_part 17 = .ok (.getfield 23, 3) := dk_180 0 23 (dk_at dksX5_part_0 17 rfl rfl)
theorem dX5_part_20 : decode cX5_part 20 = .ok (.goto 10, 3) := dk_167 0 10 (dk_at dksX5_part_0 20 rfl rfl)
theorem dX5_part_23 : decode cX5_part 23 = .ok (.aload_n 0, 1) := dk_42 (dk_at dksX5_part_0 23 rfl rfl)
theorem dX5_part_24 : decode cX5_part 24 = .ok (.bipush (-2), 2) := dk_16 254 (dk_at dksX5_part_1 0 rfl rfl)
theorem dX5_part_26 : decode cX5_part 26 = .ok (.invokevirtual 89, 3) := dk_182 0 89 (dk_at dksX5_part_1 2 rfl rfl)
theorem dX5_part_29 : decode cX5_part 29 = .ok (.i2l, 1) := dk_133 (dk_at dksX5_part_1 5 rfl rfl)
theorem dX5_part_30 : decode cX5_part 30 = .ok (.lreturn, 1) := dk_173 (dk_at dksX5_part_1 6 rfl rfl)
abbrev cX5_image : ByteArray := prog_14_method_81_code
def yX5_image : MethodName := ⟨RX5, "image", "(I)I"⟩
def dkwX5_image_2 : List UInt8 := [167, 255, 228, 42, 180, 0, 16, 27, 4, 84, 4, 172]
abbrev dktX5_image_2 : List UInt8 := dkwX5_image_2 ++ []
def dkwX5_image_1 : List UInt8 := [162, 0, 27, 42, 180, 0, 13, 17, 2, 11, 27, 104, 28, 96, 42, 180, 0, 7, 28, 46, 79, 132, 2, 1]
abbrev dktX5_image_1 : List UInt8 := dkwX5_image_1 ++ dktX5_image_2
def dkwX5_image_0 : List UInt8 := [27, 133, 9, 10, 184, 0, 64, 154, 0, 10, 42, 16, 254, 182, 0, 89, 172, 3, 61, 28, 17, 2, 11]
abbrev dktX5_image_0 : List UInt8 := dkwX5_image_0 ++ dktX5_image_1
theorem dksX5_image_0 : cX5_image.data.toList.drop 0 = dktX5_image_0 := by decide +kernel
theorem dksX5_image_1 : cX5_image.data.toList.drop 23 = dktX5_image_1 := dk_seg dksX5_image_0 23 rfl rfl
theorem dksX5_image_2 : cX5_image.data.toList.drop 47 = dktX5_image_2 := dk_seg dksX5_image_1 24 rfl rfl
theorem dX5_image_0 : decode cX5_image 0 = .ok (.iload_n 1, 1) := dk_27 (dk_at dksX5_image_0 0 rfl rfl)
theorem dX5_image_1 : decode cX5_image 1 = .ok (.i2l, 1) := dk_133 (dk_at dksX5_image_0 1 rfl rfl)
theorem dX5_image_2 : decode cX5_image 2 = .ok (.lconst 0, 1) := dk_9 (dk_at dksX5_image_0 2 rfl rfl)
theorem dX5_image_3 : decode cX5_image 3 = .ok (.lconst 1, 1) := dk_10 (dk_at dksX5_image_0 3 rfl rfl)
theorem dX5_image_4 : decode cX5_image 4 = .ok (.invokestatic 64, 3) := dk_184 0 64 (dk_at dksX5_image_0 4 rfl rfl)
theorem dX5_image_7 : decode cX5_image 7 = .ok (.ifCond .ne 10, 3) := dk_154 0 10 (dk_at dksX5_image_0 7 rfl rfl)
theorem dX5_image_10 : decode cX5_image 10 = .ok (.aload_n 0, 1) := dk_42 (dk_at dksX5_image_0 10 rfl rfl)
theorem dX5_image_11 : decode cX5_image 11 = .ok (.bipush (-2), 2) := dk_16 254 (dk_at dksX5_image_0 11 rfl rfl)
theorem dX5_image_13 : decode cX5_image 13 = .ok (.invokevirtual 89, 3) := dk_182 0 89 (dk_at dksX5_image_0 13 rfl rfl)
theorem dX5_image_16 : decode cX5_image 16 = .ok (.ireturn, 1) := dk_172 (dk_at dksX5_image_0 16 rfl rfl)
theorem dX5_image_17 : decode cX5_image 17 = .ok (.iconst 0, 1) := dk_3 (dk_at dksX5_image_0 17 rfl rfl)
theorem dX5_image_18 : decode cX5_image 18 = .ok (.istore_n 2, 1) := dk_61 (dk_at dksX5_image_0 18 rfl rfl)
theorem dX5_image_19 : decode cX5_image 19 = .ok (.iload_n 2, 1) := dk_28 (dk_at dksX5_image_0 19 rfl rfl)
theorem dX5_image_20 : decode cX5_image 20 = .ok (.sipush 523, 3) := dk_17 2 11 (dk_at dksX5_image_0 20 rfl rfl)
theorem dX5_image_23 : decode cX5_image 23 = .ok (.if_icmp .ge 27, 3) := dk_162 0 27 (dk_at dksX5_image_1 0 rfl rfl)
theorem dX5_image_26 : decode cX5_image 26 = .ok (.aload_n 0, 1) := dk_42 (dk_at dksX5_image_1 3 rfl rfl)
theorem dX5_image_27 : decode cX5_image 27 = .ok (.getfield 13, 3) := dk_180 0 13 (dk_at dksX5_image_1 4 rfl rfl)
theorem dX5_image_30 : decode cX5_image 30 = .ok (.sipush 523, 3) := dk_17 2 11 (dk_at dksX5_image_1 7 rfl rfl)
theorem dX5_image_33 : decode cX5_image 33 = .ok (.iload_n 1, 1) := dk_27 (dk_at dksX5_image_1 10 rfl rfl)
theorem dX5_image_34 : decode cX5_image 34 = .ok (.imul, 1) := dk_104 (dk_at dksX5_image_1 11 rfl rfl)
theorem dX5_image_35 : decode cX5_image 35 = .ok (.iload_n 2, 1) := dk_28 (dk_at dksX5_image_1 12 rfl rfl)
theorem dX5_image_36 : decode cX5_image 36 = .ok (.iadd, 1) := dk_96 (dk_at dksX5_image_1 13 rfl rfl)
theorem dX5_image_37 : decode cX5_image 37 = .ok (.aload_n 0, 1) := dk_42 (dk_at dksX5_image_1 14 rfl rfl)
theorem dX5_image_38 : decode cX5_image 38 = .ok (.getfield 7, 3) := dk_180 0 7 (dk_at dksX5_image_1 15 rfl rfl)
theorem dX5_image_41 : decode cX5_image 41 = .ok (.iload_n 2, 1) := dk_28 (dk_at dksX5_image_1 18 rfl rfl)
theorem dX5_image_42 : decode cX5_image 42 = .ok (.iaload, 1) := dk_46 (dk_at dksX5_image_1 19 rfl rfl)
theorem dX5_image_43 : decode cX5_image 43 = .ok (.iastore, 1) := dk_79 (dk_at dksX5_image_1 20 rfl rfl)
theorem dX5_image_44 : decode cX5_image 44 = .ok (.iinc 2 1, 3) := dk_132 2 1 (dk_at dksX5_image_1 21 rfl rfl)
theorem dX5_image_47 : decode cX5_image 47 = .ok (.goto (-28), 3) := dk_167 255 228 (dk_at dksX5_image_2 0 rfl rfl)
theorem dX5_image_50 : decode cX5_image 50 = .ok (.aload_n 0, 1) := dk_42 (dk_at dksX5_image_2 3 rfl rfl)
theorem dX5_image_51 : decode cX5_image 51 = .ok (.getfield 16, 3) := dk_180 0 16 (dk_at dksX5_image_2 4 rfl rfl)
theorem dX5_image_54 : decode cX5_image 54 = .ok (.iload_n 1, 1) := dk_27 (dk_at dksX5_image_2 7 rfl rfl)
theorem dX5_image_55 : decode cX5_image 55 = .ok (.iconst 1, 1) := dk_4 (dk_at dksX5_image_2 8 rfl rfl)
theorem dX5_image_56 : decode cX5_image 56 = .ok (.bastore, 1) := dk_84 (dk_at dksX5_image_2 9 rfl rfl)
theorem dX5_image_57 : decode cX5_image 57 = .ok (.iconst 1, 1) := dk_4 (dk_at dksX5_image_2 10 rfl rfl)
theorem dX5_image_58 : decode cX5_image 58 = .ok (.ireturn, 1) := dk_172 (dk_at dksX5_image_2 11 rfl rfl)
abbrev cX5_from : ByteArray := prog_14_method_82_code
def yX5_from : MethodName := ⟨RX5, "from", "(I)I"⟩
def dkwX5_from_2 : List UInt8 := [180, 0, 13, 17, 2, 11, 27, 104, 28, 96, 46, 79, 132, 2, 1, 167, 255, 228, 4, 172]
abbrev dktX5_from_2 : List UInt8 := dkwX5_from_2 ++ []
def dkwX5_from_1 : List UInt8 := [154, 0, 8, 42, 182, 0, 157, 172, 3, 61, 28, 17, 2, 11, 162, 0, 27, 42, 180, 0, 7, 28, 42]
abbrev dktX5_from_1 : List UInt8 := dkwX5_from_1 ++ dktX5_from_2
def dkwX5_from_0 : List UInt8 := [27, 133, 9, 10, 184, 0, 64, 154, 0, 10, 42, 16, 254, 182, 0, 89, 172, 42, 180, 0, 16, 27, 51]
abbrev dktX5_from_0 : List UInt8 := dkwX5_from_0 ++ dktX5_from_1
theorem dksX5_from_0 : cX5_from.data.toList.drop 0 = dktX5_from_0 := by decide +kernel
theorem dksX5_from_1 : cX5_from.data.toList.drop 23 = dktX5_from_1 := dk_seg dksX5_from_0 23 rfl rfl
theorem dksX5_from_2 : cX5_from.data.toList.drop 46 = dktX5_from_2 := dk_seg dksX5_from_1 23 rfl rfl
theorem dX5_from_0 : decode cX5_from 0 = .ok (.iload_n 1, 1) := dk_27 (dk_at dksX5_from_0 0 rfl rfl)
theorem dX5_from_1 : decode cX5_from 1 = .ok (.i2l, 1) := dk_133 (dk_at dksX5_from_0 1 rfl rfl)
theorem dX5_from_2 : decode cX5_from 2 = .ok (.lconst 0, 1) := dk_9 (dk_at dksX5_from_0 2 rfl rfl)
theorem dX5_from_3 : decode cX5_from 3 = .ok (.lconst 1, 1) := dk_10 (dk_at dksX5_from_0 3 rfl rfl)
theorem dX5_from_4 : decode cX5_from 4 = .ok (.invokestatic 64, 3) := dk_184 0 64 (dk_at dksX5_from_0 4 rfl rfl)
theorem dX5_from_7 : decode cX5_from 7 = .ok (.ifCond .ne 10, 3) := dk_154 0 10 (dk_at dksX5_from_0 7 rfl rfl)
theorem dX5_from_10 : decode cX5_from 10 = .ok (.aload_n 0, 1) := dk_42 (dk_at dksX5_from_0 10 rfl rfl)
theorem dX5_from_11 : decode cX5_from 11 = .ok (.bipush (-2), 2) := dk_16 254 (dk_at dksX5_from_0 11 rfl rfl)
theorem dX5_from_13 : decode cX5_from 13 = .ok (.invokevirtual 89, 3) := dk_182 0 89 (dk_at dksX5_from_0 13 rfl rfl)
theorem dX5_from_16 : decode cX5_from 16 = .ok (.ireturn, 1) := dk_172 (dk_at dksX5_from_0 16 rfl rfl)
theorem dX5_from_17 : decode cX5_from 17 = .ok (.aload_n 0, 1) := dk_42 (dk_at dksX5_from_0 17 rfl rfl)
theorem dX5_from_18 : decode cX5_from 18 = .ok (.getfield 16, 3) := dk_180 0 16 (dk_at dksX5_from_0 18 rfl rfl)
theorem dX5_from_21 : decode cX5_from 21 = .ok (.iload_n 1, 1) := dk_27 (dk_at dksX5_from_0 21 rfl rfl)
theorem dX5_from_22 : decode cX5_from 22 = .ok (.baload, 1) := dk_51 (dk_at dksX5_from_0 22 rfl rfl)
theorem dX5_from_23 : decode cX5_from 23 = .ok (.ifCond .ne 8, 3) := dk_154 0 8 (dk_at dksX5_from_1 0 rfl rfl)
theorem dX5_from_26 : decode cX5_from 26 = .ok (.aload_n 0, 1) := dk_42 (dk_at dksX5_from_1 3 rfl rfl)
theorem dX5_from_27 : decode cX5_from 27 = .ok (.invokevirtual 157, 3) := dk_182 0 157 (dk_at dksX5_from_1 4 rfl rfl)
theorem dX5_from_30 : decode cX5_from 30 = .ok (.ireturn, 1) := dk_172 (dk_at dksX5_from_1 7 rfl rfl)
theorem dX5_from_31 : decode cX5_from 31 = .ok (.iconst 0, 1) := dk_3 (dk_at dksX5_from_1 8 rfl rfl)
theorem dX5_from_32 : decode cX5_from 32 = .ok (.istore_n 2, 1) := dk_61 (dk_at dksX5_from_1 9 rfl rfl)
theorem dX5_from_33 : decode cX5_from 33 = .ok (.iload_n 2, 1) := dk_28 (dk_at dksX5_from_1 10 rfl rfl)
theorem dX5_from_34 : decode cX5_from 34 = .ok (.sipush 523, 3) := dk_17 2 11 (dk_at dksX5_from_1 11 rfl rfl)
theorem dX5_from_37 : decode cX5_from 37 = .ok (.if_icmp .ge 27, 3) := dk_162 0 27 (dk_at dksX5_from_1 14 rfl rfl)
theorem dX5_from_40 : decode cX5_from 40 = .ok (.aload_n 0, 1) := dk_42 (dk_at dksX5_from_1 17 rfl rfl)
theorem dX5_from_41 : decode cX5_from 41 = .ok (.getfield 7, 3) := dk_180 0 7 (dk_at dksX5_from_1 18 rfl rfl)
theorem dX5_from_44 : decode cX5_from 44 = .ok (.iload_n 2, 1) := dk_28 (dk_at dksX5_from_1 21 rfl rfl)
theorem dX5_from_45 : decode cX5_from 45 = .ok (.aload_n 0, 1) := dk_42 (dk_at dksX5_from_1 22 rfl rfl)
theorem dX5_from_46 : decode cX5_from 46 = .ok (.getfield 13, 3) := dk_180 0 13 (dk_at dksX5_from_2 0 rfl rfl)
theorem dX5_from_49 : decode cX5_from 49 = .ok (.sipush 523, 3) := dk_17 2 11 (dk_at dksX5_from_2 3 rfl rfl)
theorem dX5_from_52 : decode cX5_from 52 = .ok (.iload_n 1, 1) := dk_27 (dk_at dksX5_from_2 6 rfl rfl)
theorem dX5_from_53 : decode cX5_from 53 = .ok (.imul, 1) := dk_104 (dk_at dksX5_from_2 7 rfl rfl)
theorem dX5_from_54 : decode cX5_from 54 = .ok (.iload_n 2, 1) := dk_28 (dk_at dksX5_from_2 8 rfl rfl)
theorem dX5_from_55 : decode cX5_from 55 = .ok (.iadd, 1) := dk_96 (dk_at dksX5_from_2 9 rfl rfl)
theorem dX5_from_56 : decode cX5_from 56 = .ok (.iaload, 1) := dk_46 (dk_at dksX5_from_2 10 rfl rfl)
theorem dX5_from_57 : decode cX5_from 57 = .ok (.iastore, 1) := dk_79 (dk_at dksX5_from_2 11 rfl rfl)
theorem dX5_from_58 : decode cX5_from 58 = .ok (.iinc 2 1, 3) := dk_132 2 1 (dk_at dksX5_from_2 12 rfl rfl)
theorem dX5_from_61 : decode cX5_from 61 = .ok (.goto (-28), 3) := dk_167 255 228 (dk_at dksX5_from_2 15 rfl rfl)
theorem dX5_from_64 : decode cX5_from 64 = .ok (.iconst 1, 1) := dk_4 (dk_at dksX5_from_2 18 rfl rfl)
theorem dX5_from_65 : decode cX5_from 65 = .ok (.ireturn, 1) := dk_172 (dk_at dksX5_from_2 19 rfl rfl)
abbrev cX5_status : ByteArray := prog_14_method_83_code
def yX5_status : MethodName := ⟨RX5, "status", "(I)I"⟩
def dkwX5_status_1 : List UInt8 := [182, 0, 89, 172]
abbrev dktX5_status_1 : List UInt8 := dkwX5_status_1 ++ []
def dkwX5_status_0 : List UInt8 := [27, 133, 9, 20, 0, 204, 184, 0, 64, 153, 0, 12, 42, 180, 0, 20, 27, 46, 167, 0, 8, 42, 2]
abbrev dktX5_status_0 : List UInt8 := dkwX5_status_0 ++ dktX5_status_1
theorem dksX5_status_0 : cX5_status.data.toList.drop 0 = dktX5_status_0 := by decide +kernel
theorem dksX5_status_1 : cX5_status.data.toList.drop 23 = dktX5_status_1 := dk_seg dksX5_status_0 23 rfl rfl
theorem dX5_status_0 : decode cX5_status 0 = .ok (.iload_n 1, 1) := dk_27 (dk_at dksX5_status_0 0 rfl rfl)
theorem dX5_status_1 : decode cX5_status 1 = .ok (.i2l, 1) := dk_133 (dk_at dksX5_status_0 1 rfl rfl)
theorem dX5_status_2 : decode cX5_status 2 = .ok (.lconst 0, 1) := dk_9 (dk_at dksX5_status_0 2 rfl rfl)
theorem dX5_status_3 : decode cX5_status 3 = .ok (.ldc2_w 204, 3) := dk_20 0 204 (dk_at dksX5_status_0 3 rfl rfl)
theorem dX5_status_6 : decode cX5_status 6 = .ok (.invokestatic 64, 3) := dk_184 0 64 (dk_at dksX5_status_0 6 rfl rfl)
theorem dX5_status_9 : decode cX5_status 9 = .ok (.ifCond .eq 12, 3) := dk_153 0 12 (dk_at dksX5_status_0 9 rfl rfl)
theorem dX5_status_12 : decode cX5_status 12 = .ok (.aload_n 0, 1) := dk_42 (dk_at dksX5_status_0 12 rfl rfl)
theorem dX5_status_13 : decode cX5_status 13 = .ok (.getfield 20, 3) := dk_180 0 20 (dk_at dksX5_status_0 13 rfl rfl)
theorem dX5_status_16 : decode cX5_status 16 = .ok (.iload_n 1, 1) := dk_27 (dk_at dksX5_status_0 16 rfl rfl)
theorem dX5_status_17 : decode cX5_status 17 = .ok (.iaload, 1) := dk_46 (dk_at dksX5_status_0 17 rfl rfl)
theorem dX5_status_18 : decode cX5_status 18 = .ok (.goto 8, 3) := dk_167 0 8 (dk_at dksX5_status_0 18 rfl rfl)
theorem dX5_status_21 : decode cX5_status 21 = .ok (.aload_n 0, 1) := dk_42 (dk_at dksX5_status_0 21 rfl rfl)
theorem dX5_status_22 : decode cX5_status 22 = .ok (.iconst (-1), 1) := dk_2 (dk_at dksX5_status_0 22 rfl rfl)
theorem dX5_status_23 : decode cX5_status 23 = .ok (.invokevirtual 89, 3) := dk_182 0 89 (dk_at dksX5_status_1 0 rfl rfl)
theorem dX5_status_26 : decode cX5_status 26 = .ok (.ireturn, 1) := dk_172 (dk_at dksX5_status_1 3 rfl rfl)
abbrev cX5_count : ByteArray := prog_14_method_86_code
def yX5_count : MethodName := ⟨RX5, "count", "(I)I"⟩
def dkwX5_count_1 : List UInt8 := [182, 0, 89, 172]
abbrev dktX5_count_1 : List UInt8 := dkwX5_count_1 ++ []
def dkwX5_count_0 : List UInt8 := [27, 133, 9, 20, 1, 49, 184, 0, 64, 153, 0, 11, 42, 27, 182, 1, 51, 167, 0, 9, 42, 16, 254]
abbrev dktX5_count_0 : List UInt8 := dkwX5_count_0 ++ dktX5_count_1
theorem dksX5_count_0 : cX5_count.data.toList.drop 0 = dktX5_count_0 := by decide +kernel
theorem dksX5_count_1 : cX5_count.data.toList.drop 23 = dktX5_count_1 := dk_seg dksX5_count_0 23 rfl rfl
theorem dX5_count_0 : decode cX5_count 0 = .ok (.iload_n 1, 1) := dk_27 (dk_at dksX5_count_0 0 rfl rfl)
theorem dX5_count_1 : decode cX5_count 1 = .ok (.i2l, 1) := dk_133 (dk_at dksX5_count_0 1 rfl rfl)
theorem dX5_count_2 : decode cX5_count 2 = .ok (.lconst 0, 1) := dk_9 (dk_at dksX5_count_0 2 rfl rfl)
theorem dX5_count_3 : decode cX5_count 3 = .ok (.ldc2_w 305, 3) := dk_20 1 49 (dk_at dksX5_count_0 3 rfl rfl)
theorem dX5_count_6 : decode cX5_count 6 = .ok (.invokestatic 64, 3) := dk_184 0 64 (dk_at dksX5_count_0 6 rfl rfl)
theorem dX5_count_9 : decode cX5_count 9 = .ok (.ifCond .eq 11, 3) := dk_153 0 11 (dk_at dksX5_count_0 9 rfl rfl)
theorem dX5_count_12 : decode cX5_count 12 = .ok (.aload_n 0, 1) := dk_42 (dk_at dksX5_count_0 12 rfl rfl)
theorem dX5_count_13 : decode cX5_count 13 = .ok (.iload_n 1, 1) := dk_27 (dk_at dksX5_count_0 13 rfl rfl)
theorem dX5_count_14 : decode cX5_count 14 = .ok (.invokevirtual 307, 3) := dk_182 1 51 (dk_at dksX5_count_0 14 rfl rfl)
theorem dX5_count_17 : decode cX5_count 17 = .ok (.goto 9, 3) := dk_167 0 9 (dk_at dksX5_count_0 17 rfl rfl)
theorem dX5_count_20 : decode cX5_count 20 = .ok (.aload_n 0, 1) := dk_42 (dk_at dksX5_count_0 20 rfl rfl)
theorem dX5_count_21 : decode cX5_count 21 = .ok (.bipush (-2), 2) := dk_16 254 (dk_at dksX5_count_0 21 rfl rfl)
theorem dX5_count_23 : decode cX5_count 23 = .ok (.invokevirtual 89, 3) := dk_182 0 89 (dk_at dksX5_count_1 0 rfl rfl)
theorem dX5_count_26 : decode cX5_count 26 = .ok (.ireturn, 1) := dk_172 (dk_at dksX5_count_1 3 rfl rfl)
abbrev cX5_counted : ByteArray := prog_14_method_85_code
def yX5_counted : MethodName := ⟨RX5, "counted", "(I)I"⟩
def dkwX5_counted_3 : List UInt8 := [16, 6, 46, 172, 42, 180, 0, 247, 172, 42, 180, 0, 7, 27, 46, 172]
abbrev dktX5_counted_3 : List UInt8 := dkwX5_counted_3 ++ []
def dkwX5_counted_2 : List UInt8 := [42, 182, 1, 46, 172, 42, 180, 0, 7, 7, 46, 172, 42, 180, 0, 7, 8, 46, 172, 42, 180, 0, 7]
abbrev dktX5_counted_2 : List UInt8 := dkwX5_counted_2 ++ dktX5_counted_3
def dkwX5_counted_1 : List UInt8 := [170, 0, 0, 0, 0, 0, 67, 0, 0, 0, 4, 0, 0, 0, 8, 0, 0, 0, 35, 0, 0, 0, 40, 0, 0, 0, 47, 0, 0, 0, 54, 0, 0, 0, 62]
abbrev dktX5_counted_1 : List UInt8 := dkwX5_counted_1 ++ dktX5_counted_2
def dkwX5_counted_0 : List UInt8 := [27]
abbrev dktX5_counted_0 : List UInt8 := dkwX5_counted_0 ++ dktX5_counted_1
theorem dksX5_counted_0 : cX5_counted.data.toList.drop 0 = dktX5_counted_0 := by decide +kernel
theorem dksX5_counted_1 : cX5_counted.data.toList.drop 1 = dktX5_counted_1 := dk_seg dksX5_counted_0 1 rfl rfl
theorem dksX5_counted_2 : cX5_counted.data.toList.drop 36 = dktX5_counted_2 := dk_seg dksX5_counted_1 35 rfl rfl
theorem dksX5_counted_3 : cX5_counted.data.toList.drop 59 = dktX5_counted_3 := dk_seg dksX5_counted_2 23 rfl rfl
theorem dX5_counted_0 : decode cX5_counted 0 = .ok (.iload_n 1, 1) := dk_27 (dk_at dksX5_counted_0 0 rfl rfl)
theorem dX5_counted_1 : decode cX5_counted 1 = .ok (.tableswitch 67 4 8 #[35, 40, 47, 54, 62], 35) := by decide +kernel
theorem dX5_counted_36 : decode cX5_counted 36 = .ok (.aload_n 0, 1) := dk_42 (dk_at dksX5_counted_2 0 rfl rfl)
theorem dX5_counted_37 : decode cX5_counted 37 = .ok (.invokevirtual 302, 3) := dk_182 1 46 (dk_at dksX5_counted_2 1 rfl rfl)
theorem dX5_counted_40 : decode cX5_counted 40 = .ok (.ireturn, 1) := dk_172 (dk_at dksX5_counted_2 4 rfl rfl)
theorem dX5_counted_41 : decode cX5_counted 41 = .ok (.aload_n 0, 1) := dk_42 (dk_at dksX5_counted_2 5 rfl rfl)
theorem dX5_counted_42 : decode cX5_counted 42 = .ok (.getfield 7, 3) := dk_180 0 7 (dk_at dksX5_counted_2 6 rfl rfl)
theorem dX5_counted_45 : decode cX5_counted 45 = .ok (.iconst 4, 1) := dk_7 (dk_at dksX5_counted_2 9 rfl rfl)
theorem dX5_counted_46 : decode cX5_counted 46 = .ok (.iaload, 1) := dk_46 (dk_at dksX5_counted_2 10 rfl rfl)
theorem dX5_counted_47 : decode cX5_counted 47 = .ok (.ireturn, 1) := dk_172 (dk_at dksX5_counted_2 11 rfl rfl)
theorem dX5_counted_48 : decode cX5_counted 48 = .ok (.aload_n 0, 1) := dk_42 (dk_at dksX5_counted_2 12 rfl rfl)
theorem dX5_counted_49 : decode cX5_counted 49 = .ok (.getfield 7, 3) := dk_180 0 7 (dk_at dksX5_counted_2 13 rfl rfl)
theorem dX5_counted_52 : decode cX5_counted 52 = .ok (.iconst 5, 1) := dk_8 (dk_at dksX5_counted_2 16 rfl rfl)
theorem dX5_counted_53 : decode cX5_counted 53 = .ok (.iaload, 1) := dk_46 (dk_at dksX5_counted_2 17 rfl rfl)
theorem dX5_counted_54 : decode cX5_counted 54 = .ok (.ireturn, 1) := dk_172 (dk_at dksX5_counted_2 18 rfl rfl)
theorem dX5_counted_55 : decode cX5_counted 55 = .ok (.aload_n 0, 1) := dk_42 (dk_at dksX5_counted_2 19 rfl rfl)
theorem dX5_counted_56 : decode cX5_counted 56 = .ok (.getfield 7, 3) := dk_180 0 7 (dk_at dksX5_counted_2 20 rfl rfl)
theorem dX5_counted_59 : decode cX5_counted 59 = .ok (.bipush 6, 2) := dk_16 6 (dk_at dksX5_counted_3 0 rfl rfl)
theorem dX5_counted_61 : decode cX5_counted 61 = .ok (.iaload, 1) := dk_46 (dk_at dksX5_counted_3 2 rfl rfl)
theorem dX5_counted_62 : decode cX5_counted 62 = .ok (.ireturn, 1) := dk_172 (dk_at dksX5_counted_3 3 rfl rfl)
theorem dX5_counted_63 : decode cX5_counted 63 = .ok (.aload_n 0, 1) := dk_42 (dk_at dksX5_counted_3 4 rfl rfl)
theorem dX5_counted_64 : decode cX5_counted 64 = .ok (.getfield 247, 3) := dk_180 0 247 (dk_at dksX5_counted_3 5 rfl rfl)
theorem dX5_counted_67 : decode cX5_counted 67 = .ok (.ireturn, 1) := dk_172 (dk_at dksX5_counted_3 8 rfl rfl)
theorem dX5_counted_68 : decode cX5_counted 68 = .ok (.aload_n 0, 1) := dk_42 (dk_at dksX5_counted_3 9 rfl rfl)
theorem dX5_counted_69 : decode cX5_counted 69 = .ok (.getfield 7, 3) := dk_180 0 7 (dk_at dksX5_counted_3 10 rfl rfl)
theorem dX5_counted_72 : decode cX5_counted 72 = .ok (.iload_n 1, 1) := dk_27 (dk_at dksX5_counted_3 13 rfl rfl)
theorem dX5_counted_73 : decode cX5_counted 73 = .ok (.iaload, 1) := dk_46 (dk_at dksX5_counted_3 14 rfl rfl)
theorem dX5_counted_74 : decode cX5_counted 74 = .ok (.ireturn, 1) := dk_172 (dk_at dksX5_counted_3 15 rfl rfl)
abbrev cX5_manyLet : ByteArray := prog_14_method_84_code
def yX5_manyLet : MethodName := ⟨RX5, "manyLet", "()I"⟩
def dkwX5_manyLet_1 : List UInt8 := [167, 0, 4, 4, 96, 60, 132, 2, 1, 167, 255, 227, 27, 172]
abbrev dktX5_manyLet_1 : List UInt8 := dkwX5_manyLet_1 ++ []
def dkwX5_manyLet_0 : List UInt8 := [3, 60, 3, 61, 28, 42, 182, 0, 60, 162, 0, 27, 27, 42, 28, 7, 182, 0, 117, 2, 160, 0, 7, 3]
abbrev dktX5_manyLet_0 : List UInt8 := dkwX5_manyLet_0 ++ dktX5_manyLet_1
theorem dksX5_manyLet_0 : cX5_manyLet.data.toList.drop 0 = dktX5_manyLet_0 := by decide +kernel
theorem dksX5_manyLet_1 : cX5_manyLet.data.toList.drop 24 = dktX5_manyLet_1 := dk_seg dksX5_manyLet_0 24 rfl rfl
theorem dX5_manyLet_0 : decode cX5_manyLet 0 = .ok (.iconst 0, 1) := dk_3 (dk_at dksX5_manyLet_0 0 rfl rfl)
theorem dX5_manyLet_1 : decode cX5_manyLet 1 = .ok (.istore_n 1, 1) := dk_60 (dk_at dksX5_manyLet_0 1 rfl rfl)
theorem dX5_manyLet_2 : decode cX5_manyLet 2 = .ok (.iconst 0, 1) := dk_3 (dk_at dksX5_manyLet_0 2 rfl rfl)
theorem dX5_manyLet_3 : decode cX5_manyLet 3 = .ok (.istore_n 2, 1) := dk_61 (dk_at dksX5_manyLet_0 3 rfl rfl)
theorem dX5_manyLet_4 : decode cX5_manyLet 4 = .ok (.iload_n 2, 1) := dk_28 (dk_at dksX5_manyLet_0 4 rfl rfl)
theorem dX5_manyLet_5 : decode cX5_manyLet 5 = .ok (.aload_n 0, 1) := dk_42 (dk_at dksX5_manyLet_0 5 rfl rfl)
theorem dX5_manyLet_6 : decode cX5_manyLet 6 = .ok (.invokevirtual 60, 3) := dk_182 0 60 (dk_at dksX5_manyLet_0 6 rfl rfl)
theorem dX5_manyLet_9 : decode cX5_manyLet 9 = .ok (.if_icmp .ge 27, 3) := dk_162 0 27 (dk_at dksX5_manyLet_0 9 rfl rfl)
theorem dX5_manyLet_12 : decode cX5_manyLet 12 = .ok (.iload_n 1, 1) := dk_27 (dk_at dksX5_manyLet_0 12 rfl rfl)
theorem dX5_manyLet_13 : decode cX5_manyLet 13 = .ok (.aload_n 0, 1) := dk_42 (dk_at dksX5_manyLet_0 13 rfl rfl)
theorem dX5_manyLet_14 : decode cX5_manyLet 14 = .ok (.iload_n 2, 1) := dk_28 (dk_at dksX5_manyLet_0 14 rfl rfl)
theorem dX5_manyLet_15 : decode cX5_manyLet 15 = .ok (.iconst 4, 1) := dk_7 (dk_at dksX5_manyLet_0 15 rfl rfl)
theorem dX5_manyLet_16 : decode cX5_manyLet 16 = .ok (.invokevirtual 117, 3) := dk_182 0 117 (dk_at dksX5_manyLet_0 16 rfl rfl)
theorem dX5_manyLet_19 : decode cX5_manyLet 19 = .ok (.iconst (-1), 1) := dk_2 (dk_at dksX5_manyLet_0 19 rfl rfl)
theorem dX5_manyLet_20 : decode cX5_manyLet 20 = .ok (.if_icmp .ne 7, 3) := dk_160 0 7 (dk_at dksX5_manyLet_0 20 rfl rfl)
theorem dX5_manyLet_23 : decode cX5_manyLet 23 = .ok (.iconst 0, 1) := dk_3 (dk_at dksX5_manyLet_0 23 rfl rfl)
theorem dX5_manyLet_24 : decode cX5_manyLet 24 = .ok (.goto 4, 3) := dk_167 0 4 (dk_at dksX5_manyLet_1 0 rfl rfl)
theorem dX5_manyLet_27 : decode cX5_manyLet 27 = .ok (.iconst 1, 1) := dk_4 (dk_at dksX5_manyLet_1 3 rfl rfl)
theorem dX5_manyLet_28 : decode cX5_manyLet 28 = .ok (.iadd, 1) := dk_96 (dk_at dksX5_manyLet_1 4 rfl rfl)
theorem dX5_manyLet_29 : decode cX5_manyLet 29 = .ok (.istore_n 1, 1) := dk_60 (dk_at dksX5_manyLet_1 5 rfl rfl)
theorem dX5_manyLet_30 : decode cX5_manyLet 30 = .ok (.iinc 2 1, 3) := dk_132 2 1 (dk_at dksX5_manyLet_1 6 rfl rfl)
theorem dX5_manyLet_33 : decode cX5_manyLet 33 = .ok (.goto (-29), 3) := dk_167 255 227 (dk_at dksX5_manyLet_1 9 rfl rfl)
theorem dX5_manyLet_36 : decode cX5_manyLet 36 = .ok (.iload_n 1, 1) := dk_27 (dk_at dksX5_manyLet_1 12 rfl rfl)
theorem dX5_manyLet_37 : decode cX5_manyLet 37 = .ok (.ireturn, 1) := dk_172 (dk_at dksX5_manyLet_1 13 rfl rfl)
abbrev cX5_digest : ByteArray := prog_14_method_88_code
def yX5_digest : MethodName := ⟨RX5, "digest", "()J"⟩
def dkwX5_digest_4 : List UInt8 := [20, 1, 54, 31, 105, 42, 180, 0, 222, 97, 105, 42, 180, 0, 23, 97, 173]
abbrev dktX5_digest_4 : List UInt8 := dkwX5_digest_4 ++ []
def dkwX5_digest_3 : List UInt8 := [182, 1, 58, 64, 42, 31, 16, 97, 6, 42, 180, 0, 7, 8, 46, 104, 182, 1, 58, 64, 20, 1, 54]
abbrev dktX5_digest_3 : List UInt8 := dkwX5_digest_3 ++ dktX5_digest_4
def dkwX5_digest_2 : List UInt8 := [16, 43, 6, 42, 182, 0, 68, 104, 182, 1, 58, 64, 42, 31, 16, 61, 6, 42, 180, 0, 7, 7, 46, 104]
abbrev dktX5_digest_2 : List UInt8 := dkwX5_digest_2 ++ dktX5_digest_3
def dkwX5_digest_1 : List UInt8 := [64, 132, 3, 1, 167, 255, 234, 42, 31, 16, 7, 16, 6, 42, 182, 0, 60, 104, 182, 1, 58, 64, 42, 31]
abbrev dktX5_digest_1 : List UInt8 := dkwX5_digest_1 ++ dktX5_digest_2
def dkwX5_digest_0 : List UInt8 := [20, 1, 56, 64, 3, 62, 29, 16, 9, 162, 0, 22, 20, 1, 54, 31, 105, 42, 29, 182, 1, 51, 133, 97]
abbrev dktX5_digest_0 : List UInt8 := dkwX5_digest_0 ++ dktX5_digest_1
theorem dksX5_digest_0 : cX5_digest.data.toList.drop 0 = dktX5_digest_0 := by decide +kernel
theorem dksX5_digest_1 : cX5_digest.data.toList.drop 24 = dktX5_digest_1 := dk_seg dksX5_digest_0 24 rfl rfl
theorem dksX5_digest_2 : cX5_digest.data.toList.drop 48 = dktX5_digest_2 := dk_seg dksX5_digest_1 24 rfl rfl
theorem dksX5_digest_3 : cX5_digest.data.toList.drop 72 = dktX5_digest_3 := dk_seg dksX5_digest_2 24 rfl rfl
theorem dksX5_digest_4 : cX5_digest.data.toList.drop 95 = dktX5_digest_4 := dk_seg dksX5_digest_3 23 rfl rfl
theorem dX5_digest_0 : decode cX5_digest 0 = .ok (.ldc2_w 312, 3) := dk_20 1 56 (dk_at dksX5_digest_0 0 rfl rfl)
theorem dX5_digest_3 : decode cX5_digest 3 = .ok (.lstore_n 1, 1) := dk_64 (dk_at dksX5_digest_0 3 rfl rfl)
theorem dX5_digest_4 : decode cX5_digest 4 = .ok (.iconst 0, 1) := dk_3 (dk_at dksX5_digest_0 4 rfl rfl)
theorem dX5_digest_5 : decode cX5_digest 5 = .ok (.istore_n 3, 1) := dk_62 (dk_at dksX5_digest_0 5 rfl rfl)
theorem dX5_digest_6 : decode cX5_digest 6 = .ok (.iload_n 3, 1) := dk_29 (dk_at dksX5_digest_0 6 rfl rfl)
theorem dX5_digest_7 : decode cX5_digest 7 = .ok (.bipush 9, 2) := dk_16 9 (dk_at dksX5_digest_0 7 rfl rfl)
theorem dX5_digest_9 : decode cX5_digest 9 = .ok (.if_icmp .ge 22, 3) := dk_162 0 22 (dk_at dksX5_digest_0 9 rfl rfl)
theorem dX5_digest_12 : decode cX5_digest 12 = .ok (.ldc2_w 310, 3) := dk_20 1 54 (dk_at dksX5_digest_0 12 rfl rfl)
theorem dX5_digest_15 : decode cX5_digest 15 = .ok (.lload_n 1, 1) := dk_31 (dk_at dksX5_digest_0 15 rfl rfl)
theorem dX5_digest_16 : decode cX5_digest 16 = .ok (.lmul, 1) := dk_105 (dk_at dksX5_digest_0 16 rfl rfl)
theorem dX5_digest_17 : decode cX5_digest 17 = .ok (.aload_n 0, 1) := dk_42 (dk_at dksX5_digest_0 17 rfl rfl)
theorem dX5_digest_18 : decode cX5_digest 18 = .ok (.iload_n 3, 1) := dk_29 (dk_at dksX5_digest_0 18 rfl rfl)
theorem dX5_digest_19 : decode cX5_digest 19 = .ok (.invokevirtual 307, 3) := dk_182 1 51 (dk_at dksX5_digest_0 19 rfl rfl)
theorem dX5_digest_22 : decode cX5_digest 22 = .ok (.i2l, 1) := dk_133 (dk_at dksX5_digest_0 22 rfl rfl)
theorem dX5_digest_23 : decode cX5_digest 23 = .ok (.ladd, 1) := dk_97 (dk_at dksX5_digest_0 23 rfl rfl)
theorem dX5_digest_24 : decode cX5_digest 24 = .ok (.lstore_n 1, 1) := dk_64 (dk_at dksX5_digest_1 0 rfl rfl)
theorem dX5_digest_25 : decode cX5_digest 25 = .ok (.iinc 3 1, 3) := dk_132 3 1 (dk_at dksX5_digest_1 1 rfl rfl)
theorem dX5_digest_28 : decode cX5_digest 28 = .ok (.goto (-22), 3) := dk_167 255 234 (dk_at dksX5_digest_1 4 rfl rfl)
theorem dX5_digest_31 : decode cX5_digest 31 = .ok (.aload_n 0, 1) := dk_42 (dk_at dksX5_digest_1 7 rfl rfl)
theorem dX5_digest_32 : decode cX5_digest 32 = .ok (.lload_n 1, 1) := dk_31 (dk_at dksX5_digest_1 8 rfl rfl)
theorem dX5_digest_33 : decode cX5_digest 33 = .ok (.bipush 7, 2) := dk_16 7 (dk_at dksX5_digest_1 9 rfl rfl)
theorem dX5_digest_35 : decode cX5_digest 35 = .ok (.bipush 6, 2) := dk_16 6 (dk_at dksX5_digest_1 11 rfl rfl)
theorem dX5_digest_37 : decode cX5_digest 37 = .ok (.aload_n 0, 1) := dk_42 (dk_at dksX5_digest_1 13 rfl rfl)
theorem dX5_digest_38 : decode cX5_digest 38 = .ok (.invokevirtual 60, 3) := dk_182 0 60 (dk_at dksX5_digest_1 14 rfl rfl)
theorem dX5_digest_41 : decode cX5_digest 41 = .ok (.imul, 1) := dk_104 (dk_at dksX5_digest_1 17 rfl rfl)
theorem dX5_digest_42 : decode cX5_digest 42 = .ok (.invokevirtual 314, 3) := dk_182 1 58 (dk_at dksX5_digest_1 18 rfl rfl)
theorem dX5_digest_45 : decode cX5_digest 45 = .ok (.lstore_n 1, 1) := dk_64 (dk_at dksX5_digest_1 21 rfl rfl)
theorem dX5_digest_46 : decode cX5_digest 46 = .ok (.aload_n 0, 1) := dk_42 (dk_at dksX5_digest_1 22 rfl rfl)
theorem dX5_digest_47 : decode cX5_digest 47 = .ok (.lload_n 1, 1) := dk_31 (dk_at dksX5_digest_1 23 rfl rfl)
theorem dX5_digest_48 : decode cX5_digest 48 = .ok (.bipush 43, 2) := dk_16 43 (dk_at dksX5_digest_2 0 rfl rfl)
theorem dX5_digest_50 : decode cX5_digest 50 = .ok (.iconst 3, 1) := dk_6 (dk_at dksX5_digest_2 2 rfl rfl)
theorem dX5_digest_51 : decode cX5_digest 51 = .ok (.aload_n 0, 1) := dk_42 (dk_at dksX5_digest_2 3 rfl rfl)
theorem dX5_digest_52 : decode cX5_digest 52 = .ok (.invokevirtual 68, 3) := dk_182 0 68 (dk_at dksX5_digest_2 4 rfl rfl)
theorem dX5_digest_55 : decode cX5_digest 55 = .ok (.imul, 1) := dk_104 (dk_at dksX5_digest_2 7 rfl rfl)
theorem dX5_digest_56 : decode cX5_digest 56 = .ok (.invokevirtual 314, 3) := dk_182 1 58 (dk_at dksX5_digest_2 8 rfl rfl)
theorem dX5_digest_59 : decode cX5_digest 59 = .ok (.lstore_n 1, 1) := dk_64 (dk_at dksX5_digest_2 11 rfl rfl)
theorem dX5_digest_60 : decode cX5_digest 60 = .ok (.aload_n 0, 1) := dk_42 (dk_at dksX5_digest_2 12 rfl rfl)
theorem dX5_digest_61 : decode cX5_digest 61 = .ok (.lload_n 1, 1) := dk_31 (dk_at dksX5_digest_2 13 rfl rfl)
theorem dX5_digest_62 : decode cX5_digest 62 = .ok (.bipush 61, 2) := dk_16 61 (dk_at dksX5_digest_2 14 rfl rfl)
theorem dX5_digest_64 : decode cX5_digest 64 = .ok (.iconst 3, 1) := dk_6 (dk_at dksX5_digest_2 16 rfl rfl)
theorem dX5_digest_65 : decode cX5_digest 65 = .ok (.aload_n 0, 1) := dk_42 (dk_at dksX5_digest_2 17 rfl rfl)
theorem dX5_digest_66 : decode cX5_digest 66 = .ok (.getfield 7, 3) := dk_180 0 7 (dk_at dksX5_digest_2 18 rfl rfl)
theorem dX5_digest_69 : decode cX5_digest 69 = .ok (.iconst 4, 1) := dk_7 (dk_at dksX5_digest_2 21 rfl rfl)
theorem dX5_digest_70 : decode cX5_digest 70 = .ok (.iaload, 1) := dk_46 (dk_at dksX5_digest_2 22 rfl rfl)
theorem dX5_digest_71 : decode cX5_digest 71 = .ok (.imul, 1) := dk_104 (dk_at dksX5_digest_2 23 rfl rfl)
theorem dX5_digest_72 : decode cX5_digest 72 = .ok (.invokevirtual 314, 3) := dk_182 1 58 (dk_at dksX5_digest_3 0 rfl rfl)
theorem dX5_digest_75 : decode cX5_digest 75 = .ok (.lstore_n 1, 1) := dk_64 (dk_at dksX5_digest_3 3 rfl rfl)
theorem dX5_digest_76 : decode cX5_digest 76 = .ok (.aload_n 0, 1) := dk_42 (dk_at dksX5_digest_3 4 rfl rfl)
theorem dX5_digest_77 : decode cX5_digest 77 = .ok (.lload_n 1, 1) := dk_31 (dk_at dksX5_digest_3 5 rfl rfl)
theorem dX5_digest_78 : decode cX5_digest 78 = .ok (.bipush 97, 2) := dk_16 97 (dk_at dksX5_digest_3 6 rfl rfl)
theorem dX5_digest_80 : decode cX5_digest 80 = .ok (.iconst 3, 1) := dk_6 (dk_at dksX5_digest_3 8 rfl rfl)
theorem dX5_digest_81 : decode cX5_digest 81 = .ok (.aload_n 0, 1) := dk_42 (dk_at dksX5_digest_3 9 rfl rfl)
theorem dX5_digest_82 : decode cX5_digest 82 = .ok (.getfield 7, 3) := dk_180 0 7 (dk_at dksX5_digest_3 10 rfl rfl)
theorem dX5_digest_85 : decode cX5_digest 85 = .ok (.iconst 5, 1) := dk_8 (dk_at dksX5_digest_3 13 rfl rfl)
theorem dX5_digest_86 : decode cX5_digest 86 = .ok (.iaload, 1) := dk_46 (dk_at dksX5_digest_3 14 rfl rfl)
theorem dX5_digest_87 : decode cX5_digest 87 = .ok (.imul, 1) := dk_104 (dk_at dksX5_digest_3 15 rfl rfl)
theorem dX5_digest_88 : decode cX5_digest 88 = .ok (.invokevirtual 314, 3) := dk_182 1 58 (dk_at dksX5_digest_3 16 rfl rfl)
theorem dX5_digest_91 : decode cX5_digest 91 = .ok (.lstore_n 1, 1) := dk_64 (dk_at dksX5_digest_3 19 rfl rfl)
theorem dX5_digest_92 : decode cX5_digest 92 = .ok (.ldc2_w 310, 3) := dk_20 1 54 (dk_at dksX5_digest_3 20 rfl rfl)
theorem dX5_digest_95 : decode cX5_digest 95 = .ok (.ldc2_w 310, 3) := dk_20 1 54 (dk_at dksX5_digest_4 0 rfl rfl)
theorem dX5_digest_98 : decode cX5_digest 98 = .ok (.lload_n 1, 1) := dk_31 (dk_at dksX5_digest_4 3 rfl rfl)
theorem dX5_digest_99 : decode cX5_digest 99 = .ok (.lmul, 1) := dk_105 (dk_at dksX5_digest_4 4 rfl rfl)
theorem dX5_digest_100 : decode cX5_digest 100 = .ok (.aload_n 0, 1) := dk_42 (dk_at dksX5_digest_4 5 rfl rfl)
theorem dX5_digest_101 : decode cX5_digest 101 = .ok (.getfield 222, 3) := dk_180 0 222 (dk_at dksX5_digest_4 6 rfl rfl)
theorem dX5_digest_104 : decode cX5_digest 104 = .ok (.ladd, 1) := dk_97 (dk_at dksX5_digest_4 9 rfl rfl)
theorem dX5_digest_105 : decode cX5_digest 105 = .ok (.lmul, 1) := dk_105 (dk_at dksX5_digest_4 10 rfl rfl)
theorem dX5_digest_106 : decode cX5_digest 106 = .ok (.aload_n 0, 1) := dk_42 (dk_at dksX5_digest_4 11 rfl rfl)
theorem dX5_digest_107 : decode cX5_digest 107 = .ok (.getfield 23, 3) := dk_180 0 23 (dk_at dksX5_digest_4 12 rfl rfl)
theorem dX5_digest_110 : decode cX5_digest 110 = .ok (.ladd, 1) := dk_97 (dk_at dksX5_digest_4 15 rfl rfl)
theorem dX5_digest_111 : decode cX5_digest 111 = .ok (.lreturn, 1) := dk_173 (dk_at dksX5_digest_4 16 rfl rfl)
abbrev cX5_sums : ByteArray := prog_14_method_87_code
def yX5_sums : MethodName := ⟨RX5, "sums", "(JII)J"⟩
def dkwX5_sums_1 : List UInt8 := [21, 7, 96, 46, 133, 97, 55, 5, 132, 7, 1, 167, 255, 227, 22, 5, 173]
abbrev dktX5_sums_1 : List UInt8 := dkwX5_sums_1 ++ []
def dkwX5_sums_0 : List UInt8 := [31, 55, 5, 3, 54, 7, 21, 7, 21, 4, 162, 0, 28, 20, 1, 54, 22, 5, 105, 42, 180, 0, 7, 29]
abbrev dktX5_sums_0 : List UInt8 := dkwX5_sums_0 ++ dktX5_sums_1
theorem dksX5_sums_0 : cX5_sums.data.toList.drop 0 = dktX5_sums_0 := by decide +kernel
theorem dksX5_sums_1 : cX5_sums.data.toList.drop 24 = dktX5_sums_1 := dk_seg dksX5_sums_0 24 rfl rfl
theorem dX5_sums_0 : decode cX5_sums 0 = .ok (.lload_n 1, 1) := dk_31 (dk_at dksX5_sums_0 0 rfl rfl)
theorem dX5_sums_1 : decode cX5_sums 1 = .ok (.lstore 5, 2) := dk_55 5 (dk_at dksX5_sums_0 1 rfl rfl)
theorem dX5_sums_3 : decode cX5_sums 3 = .ok (.iconst 0, 1) := dk_3 (dk_at dksX5_sums_0 3 rfl rfl)
theorem dX5_sums_4 : decode cX5_sums 4 = .ok (.istore 7, 2) := dk_54 7 (dk_at dksX5_sums_0 4 rfl rfl)
theorem dX5_sums_6 : decode cX5_sums 6 = .ok (.iload 7, 2) := dk_21 7 (dk_at dksX5_sums_0 6 rfl rfl)
theorem dX5_sums_8 : decode cX5_sums 8 = .ok (.iload 4, 2) := dk_21 4 (dk_at dksX5_sums_0 8 rfl rfl)
theorem dX5_sums_10 : decode cX5_sums 10 = .ok (.if_icmp .ge 28, 3) := dk_162 0 28 (dk_at dksX5_sums_0 10 rfl rfl)
theorem dX5_sums_13 : decode cX5_sums 13 = .ok (.ldc2_w 310, 3) := dk_20 1 54 (dk_at dksX5_sums_0 13 rfl rfl)
theorem dX5_sums_16 : decode cX5_sums 16 = .ok (.lload 5, 2) := dk_22 5 (dk_at dksX5_sums_0 16 rfl rfl)
theorem dX5_sums_18 : decode cX5_sums 18 = .ok (.lmul, 1) := dk_105 (dk_at dksX5_sums_0 18 rfl rfl)
theorem dX5_sums_19 : decode cX5_sums 19 = .ok (.aload_n 0, 1) := dk_42 (dk_at dksX5_sums_0 19 rfl rfl)
theorem dX5_sums_20 : decode cX5_sums 20 = .ok (.getfield 7, 3) := dk_180 0 7 (dk_at dksX5_sums_0 20 rfl rfl)
theorem dX5_sums_23 : decode cX5_sums 23 = .ok (.iload_n 3, 1) := dk_29 (dk_at dksX5_sums_0 23 rfl rfl)
theorem dX5_sums_24 : decode cX5_sums 24 = .ok (.iload 7, 2) := dk_21 7 (dk_at dksX5_sums_1 0 rfl rfl)
theorem dX5_sums_26 : decode cX5_sums 26 = .ok (.iadd, 1) := dk_96 (dk_at dksX5_sums_1 2 rfl rfl)
theorem dX5_sums_27 : decode cX5_sums 27 = .ok (.iaload, 1) := dk_46 (dk_at dksX5_sums_1 3 rfl rfl)
theorem dX5_sums_28 : decode cX5_sums 28 = .ok (.i2l, 1) := dk_133 (dk_at dksX5_sums_1 4 rfl rfl)
theorem dX5_sums_29 : decode cX5_sums 29 = .ok (.ladd, 1) := dk_97 (dk_at dksX5_sums_1 5 rfl rfl)
theorem dX5_sums_30 : decode cX5_sums 30 = .ok (.lstore 5, 2) := dk_55 5 (dk_at dksX5_sums_1 6 rfl rfl)
theorem dX5_sums_32 : decode cX5_sums 32 = .ok (.iinc 7 1, 3) := dk_132 7 1 (dk_at dksX5_sums_1 8 rfl rfl)
theorem dX5_sums_35 : decode cX5_sums 35 = .ok (.goto (-29), 3) := dk_167 255 227 (dk_at dksX5_sums_1 11 rfl rfl)
theorem dX5_sums_38 : decode cX5_sums 38 = .ok (.lload 5, 2) := dk_22 5 (dk_at dksX5_sums_1 14 rfl rfl)
theorem dX5_sums_40 : decode cX5_sums 40 = .ok (.lreturn, 1) := dk_173 (dk_at dksX5_sums_1 16 rfl rfl)
theorem q66 : (Jvm.Cond.initialized "RentedViewsModel") ∈ lw_all := lw_g (lw_at lw_m1 6 rfl) rfl
theorem q892 : (Jvm.Cond.instantiable "RentedViewsModel" (27 : Nat)) ∈ lw_all := lw_g (lw_at lw_m4 112 rfl) rfl
theorem q894 : (Jvm.Cond.instanceMethod ({ cls := "RentedViewsModel", name := "<init>", desc := "()V" } : Jvm.MethodName)) ∈ lw_all := lw_g (lw_at lw_m4 114 rfl) rfl
theorem q895 : (Jvm.Cond.code ({ cls := "RentedViewsModel", name := "<init>", desc := "()V" } : Jvm.MethodName) prog_14_method_1_code (1 : Nat) (Option.none : Option Jvm.ClassFile.FieldType)) ∈ lw_all := lw_g (lw_at lw_m4 115 rfl) rfl
theorem q896 : (Jvm.Cond.methodLink "RentedViewsModel" (1 : Nat) ({ cls := "java/lang/Object", name := "<init>", desc := "()V" } : Jvm.MethodName)) ∈ lw_all := lw_g (lw_at lw_m4 116 rfl) rfl
theorem q897 : (Jvm.Cond.fieldLink "RentedViewsModel" (7 : Nat) "RentedViewsModel" "now" "[I") ∈ lw_all := lw_g (lw_at lw_m4 117 rfl) rfl
theorem q898 : (Jvm.Cond.fieldLink "RentedViewsModel" (13 : Nat) "RentedViewsModel" "kept" "[I") ∈ lw_all := lw_g (lw_at lw_m4 118 rfl) rfl
theorem q899 : (Jvm.Cond.fieldLink "RentedViewsModel" (16 : Nat) "RentedViewsModel" "isKept" "[Z") ∈ lw_all := lw_g (lw_at lw_m4 119 rfl) rfl
theorem q900 : (Jvm.Cond.fieldLink "RentedViewsModel" (20 : Nat) "RentedViewsModel" "refused" "[I") ∈ lw_all := lw_g (lw_at lw_m4 120 rfl) rfl
theorem q901 : (Jvm.Cond.fieldLink "RentedViewsModel" (222 : Nat) "RentedViewsModel" "above" "J") ∈ lw_all := lw_g (lw_at lw_m4 121 rfl) rfl
theorem q902 : (Jvm.Cond.fieldLink "RentedViewsModel" (23 : Nat) "RentedViewsModel" "below" "J") ∈ lw_all := lw_g (lw_at lw_m4 122 rfl) rfl
theorem q903 : (Jvm.Cond.fieldLink "RentedViewsModel" (27 : Nat) "RentedViewsModel" "costs" "[I") ∈ lw_all := lw_g (lw_at lw_m4 123 rfl) rfl
theorem q904 : (Jvm.Cond.fieldLink "RentedViewsModel" (131 : Nat) "RentedViewsModel" "handRenters" "I") ∈ lw_all := lw_g (lw_at lw_m4 124 rfl) rfl
theorem q905 : (Jvm.Cond.fieldLink "RentedViewsModel" (30 : Nat) "RentedViewsModel" "walls" "[I") ∈ lw_all := lw_g (lw_at lw_m4 125 rfl) rfl
theorem q906 : (Jvm.Cond.fieldLink "RentedViewsModel" (33 : Nat) "RentedViewsModel" "purses" "[I") ∈ lw_all := lw_g (lw_at lw_m4 126 rfl) rfl
theorem q907 : (Jvm.Cond.fieldLink "RentedViewsModel" (36 : Nat) "RentedViewsModel" "wants" "[I") ∈ lw_all := lw_g (lw_at lw_m4 127 rfl) rfl
theorem q908 : (Jvm.Cond.fieldLink "RentedViewsModel" (39 : Nat) "RentedViewsModel" "suit" "[I") ∈ lw_all := lw_g (lw_at lw_m4 128 rfl) rfl
theorem q909 : (Jvm.Cond.fieldLink "RentedViewsModel" (42 : Nat) "RentedViewsModel" "row" "[I") ∈ lw_all := lw_g (lw_at lw_m4 129 rfl) rfl
theorem q910 : (Jvm.Cond.fieldLink "RentedViewsModel" (45 : Nat) "RentedViewsModel" "bestRow" "[I") ∈ lw_all := lw_g (lw_at lw_m4 130 rfl) rfl
theorem q911 : (Jvm.Cond.fieldLink "RentedViewsModel" (174 : Nat) "RentedViewsModel" "bestMany" "I") ∈ lw_all := lw_g (lw_at lw_m4 131 rfl) rfl
theorem q912 : (Jvm.Cond.fieldLink "RentedViewsModel" (177 : Nat) "RentedViewsModel" "bestMoney" "I") ∈ lw_all := lw_g (lw_at lw_m4 132 rfl) rfl
theorem q913 : (Jvm.Cond.fieldLink "RentedViewsModel" (198 : Nat) "RentedViewsModel" "comeMany" "I") ∈ lw_all := lw_g (lw_at lw_m4 133 rfl) rfl
theorem q914 : (Jvm.Cond.fieldLink "RentedViewsModel" (201 : Nat) "RentedViewsModel" "comeMoney" "I") ∈ lw_all := lw_g (lw_at lw_m4 134 rfl) rfl
theorem q915 : (Jvm.Cond.fieldLink "RentedViewsModel" (48 : Nat) "RentedViewsModel" "manyLike" "[I") ∈ lw_all := lw_g (lw_at lw_m4 135 rfl) rfl
theorem q916 : (Jvm.Cond.fieldLink "RentedViewsModel" (51 : Nat) "RentedViewsModel" "bytes" "[I") ∈ lw_all := lw_g (lw_at lw_m4 136 rfl) rfl
theorem q917 : (Jvm.Cond.fieldLink "RentedViewsModel" (247 : Nat) "RentedViewsModel" "bytesLong" "I") ∈ lw_all := lw_g (lw_at lw_m4 137 rfl) rfl
theorem q918 : (Jvm.Cond.fieldLink "RentedViewsModel" (258 : Nat) "RentedViewsModel" "tokenAt" "I") ∈ lw_all := lw_g (lw_at lw_m4 138 rfl) rfl
theorem q919 : (Jvm.Cond.fieldLink "RentedViewsModel" (261 : Nat) "RentedViewsModel" "tokenLong" "I") ∈ lw_all := lw_g (lw_at lw_m4 139 rfl) rfl
theorem q920 : (Jvm.Cond.fieldLink "RentedViewsModel" (264 : Nat) "RentedViewsModel" "token" "I") ∈ lw_all := lw_g (lw_at lw_m4 140 rfl) rfl
theorem q921 : (Jvm.Cond.fieldLink "RentedViewsModel" (267 : Nat) "RentedViewsModel" "value" "I") ∈ lw_all := lw_g (lw_at lw_m4 141 rfl) rfl
theorem q922 : (Jvm.Cond.fieldLink "RentedViewsModel" (54 : Nat) "RentedViewsModel" "anew" "[I") ∈ lw_all := lw_g (lw_at lw_m4 142 rfl) rfl
theorem q923 : (Jvm.Cond.fieldLink "RentedViewsModel" (57 : Nat) "RentedViewsModel" "values" "[I") ∈ lw_all := lw_g (lw_at lw_m4 143 rfl) rfl
theorem q924 : (Jvm.Cond.laysFinal "RentedViewsModel" "RentedViewsModel" "now" "[I") ∈ lw_all := lw_g (lw_at lw_m4 144 rfl) rfl
theorem q925 : (Jvm.Cond.soleField "RentedViewsModel" "now") ∈ lw_all := lw_g (lw_at lw_m4 145 rfl) rfl
theorem q926 : (Jvm.Cond.laysFinal "RentedViewsModel" "RentedViewsModel" "kept" "[I") ∈ lw_all := lw_g (lw_at lw_m4 146 rfl) rfl
theorem q927 : (Jvm.Cond.soleField "RentedViewsModel" "kept") ∈ lw_all := lw_g (lw_at lw_m4 147 rfl) rfl
theorem q928 : (Jvm.Cond.laysFinal "RentedViewsModel" "RentedViewsModel" "isKept" "[Z") ∈ lw_all := lw_g (lw_at lw_m4 148 rfl) rfl
theorem q929 : (Jvm.Cond.soleField "RentedViewsModel" "isKept") ∈ lw_all := lw_g (lw_at lw_m4 149 rfl) rfl
theorem q930 : (Jvm.Cond.laysFinal "RentedViewsModel" "RentedViewsModel" "refused" "[I") ∈ lw_all := lw_g (lw_at lw_m4 150 rfl) rfl
theorem q931 : (Jvm.Cond.soleField "RentedViewsModel" "refused") ∈ lw_all := lw_g (lw_at lw_m4 151 rfl) rfl
theorem q932 : (Jvm.Cond.lays "RentedViewsModel" "RentedViewsModel" "above" "J") ∈ lw_all := lw_g (lw_at lw_m4 152 rfl) rfl
theorem q933 : (Jvm.Cond.soleField "RentedViewsModel" "above") ∈ lw_all := lw_g (lw_at lw_m4 153 rfl) rfl
theorem q934 : (Jvm.Cond.lays "RentedViewsModel" "RentedViewsModel" "below" "J") ∈ lw_all := lw_g (lw_at lw_m4 154 rfl) rfl
theorem q935 : (Jvm.Cond.soleField "RentedViewsModel" "below") ∈ lw_all := lw_g (lw_at lw_m4 155 rfl) rfl
theorem q936 : (Jvm.Cond.laysFinal "RentedViewsModel" "RentedViewsModel" "costs" "[I") ∈ lw_all := lw_g (lw_at lw_m4 156 rfl) rfl
theorem q937 : (Jvm.Cond.soleField "RentedViewsModel" "costs") ∈ lw_all := lw_g (lw_at lw_m4 157 rfl) rfl
theorem q938 : (Jvm.Cond.lays "RentedViewsModel" "RentedViewsModel" "handRenters" "I") ∈ lw_all := lw_g (lw_at lw_m4 158 rfl) rfl
theorem q939 : (Jvm.Cond.soleField "RentedViewsModel" "handRenters") ∈ lw_all := lw_g (lw_at lw_m4 159 rfl) rfl
theorem q940 : (Jvm.Cond.laysFinal "RentedViewsModel" "RentedViewsModel" "walls" "[I") ∈ lw_all := lw_g (lw_at lw_m4 160 rfl) rfl
theorem q941 : (Jvm.Cond.soleField "RentedViewsModel" "walls") ∈ lw_all := lw_g (lw_at lw_m4 161 rfl) rfl
theorem q942 : (Jvm.Cond.laysFinal "RentedViewsModel" "RentedViewsModel" "purses" "[I") ∈ lw_all := lw_g (lw_at lw_m4 162 rfl) rfl
theorem q943 : (Jvm.Cond.soleField "RentedViewsModel" "purses") ∈ lw_all := lw_g (lw_at lw_m4 163 rfl) rfl
theorem q944 : (Jvm.Cond.laysFinal "RentedViewsModel" "RentedViewsModel" "wants" "[I") ∈ lw_all := lw_g (lw_at lw_m4 164 rfl) rfl
theorem q945 : (Jvm.Cond.soleField "RentedViewsModel" "wants") ∈ lw_all := lw_g (lw_at lw_m4 165 rfl) rfl
theorem q946 : (Jvm.Cond.laysFinal "RentedViewsModel" "RentedViewsModel" "suit" "[I") ∈ lw_all := lw_g (lw_at lw_m4 166 rfl) rfl
theorem q947 : (Jvm.Cond.soleField "RentedViewsModel" "suit") ∈ lw_all := lw_g (lw_at lw_m4 167 rfl) rfl
theorem q948 : (Jvm.Cond.laysFinal "RentedViewsModel" "RentedViewsModel" "row" "[I") ∈ lw_all := lw_g (lw_at lw_m4 168 rfl) rfl
theorem q949 : (Jvm.Cond.soleField "RentedViewsModel" "row") ∈ lw_all := lw_g (lw_at lw_m4 169 rfl) rfl
theorem q950 : (Jvm.Cond.laysFinal "RentedViewsModel" "RentedViewsModel" "bestRow" "[I") ∈ lw_all := lw_g (lw_at lw_m4 170 rfl) rfl
theorem q951 : (Jvm.Cond.soleField "RentedViewsModel" "bestRow") ∈ lw_all := lw_g (lw_at lw_m4 171 rfl) rfl
theorem q952 : (Jvm.Cond.lays "RentedViewsModel" "RentedViewsModel" "bestMany" "I") ∈ lw_all := lw_g (lw_at lw_m4 172 rfl) rfl
theorem q953 : (Jvm.Cond.soleField "RentedViewsModel" "bestMany") ∈ lw_all := lw_g (lw_at lw_m4 173 rfl) rfl
theorem q954 : (Jvm.Cond.lays "RentedViewsModel" "RentedViewsModel" "bestMoney" "I") ∈ lw_all := lw_g (lw_at lw_m4 174 rfl) rfl
theorem q955 : (Jvm.Cond.soleField "RentedViewsModel" "bestMoney") ∈ lw_all := lw_g (lw_at lw_m4 175 rfl) rfl
theorem q956 : (Jvm.Cond.lays "RentedViewsModel" "RentedViewsModel" "comeMany" "I") ∈ lw_all := lw_g (lw_at lw_m4 176 rfl) rfl
theorem q957 : (Jvm.Cond.soleField "RentedViewsModel" "comeMany") ∈ lw_all := lw_g (lw_at lw_m4 177 rfl) rfl
theorem q958 : (Jvm.Cond.lays "RentedViewsModel" "RentedViewsModel" "comeMoney" "I") ∈ lw_all := lw_g (lw_at lw_m4 178 rfl) rfl
theorem q959 : (Jvm.Cond.soleField "RentedViewsModel" "comeMoney") ∈ lw_all := lw_g (lw_at lw_m4 179 rfl) rfl
theorem q960 : (Jvm.Cond.laysFinal "RentedViewsModel" "RentedViewsModel" "manyLike" "[I") ∈ lw_all := lw_g (lw_at lw_m4 180 rfl) rfl
theorem q961 : (Jvm.Cond.soleField "RentedViewsModel" "manyLike") ∈ lw_all := lw_g (lw_at lw_m4 181 rfl) rfl
theorem q962 : (Jvm.Cond.laysFinal "RentedViewsModel" "RentedViewsModel" "bytes" "[I") ∈ lw_all := lw_g (lw_at lw_m4 182 rfl) rfl
theorem q963 : (Jvm.Cond.soleField "RentedViewsModel" "bytes") ∈ lw_all := lw_g (lw_at lw_m4 183 rfl) rfl
theorem q964 : (Jvm.Cond.lays "RentedViewsModel" "RentedViewsModel" "bytesLong" "I") ∈ lw_all := lw_g (lw_at lw_m4 184 rfl) rfl
theorem q965 : (Jvm.Cond.soleField "RentedViewsModel" "bytesLong") ∈ lw_all := lw_g (lw_at lw_m4 185 rfl) rfl
theorem q966 : (Jvm.Cond.lays "RentedViewsModel" "RentedViewsModel" "tokenAt" "I") ∈ lw_all := lw_g (lw_at lw_m4 186 rfl) rfl
theorem q967 : (Jvm.Cond.soleField "RentedViewsModel" "tokenAt") ∈ lw_all := lw_g (lw_at lw_m4 187 rfl) rfl
theorem q968 : (Jvm.Cond.lays "RentedViewsModel" "RentedViewsModel" "tokenLong" "I") ∈ lw_all := lw_g (lw_at lw_m4 188 rfl) rfl
theorem q969 : (Jvm.Cond.soleField "RentedViewsModel" "tokenLong") ∈ lw_all := lw_g (lw_at lw_m4 189 rfl) rfl
theorem q970 : (Jvm.Cond.lays "RentedViewsModel" "RentedViewsModel" "token" "I") ∈ lw_all := lw_g (lw_at lw_m4 190 rfl) rfl
theorem q971 : (Jvm.Cond.soleField "RentedViewsModel" "token") ∈ lw_all := lw_g (lw_at lw_m4 191 rfl) rfl
theorem q972 : (Jvm.Cond.lays "RentedViewsModel" "RentedViewsModel" "value" "I") ∈ lw_all := lw_g (lw_at lw_m4 192 rfl) rfl
theorem q973 : (Jvm.Cond.soleField "RentedViewsModel" "value") ∈ lw_all := lw_g (lw_at lw_m4 193 rfl) rfl
theorem q974 : (Jvm.Cond.laysFinal "RentedViewsModel" "RentedViewsModel" "anew" "[I") ∈ lw_all := lw_g (lw_at lw_m4 194 rfl) rfl
theorem q975 : (Jvm.Cond.soleField "RentedViewsModel" "anew") ∈ lw_all := lw_g (lw_at lw_m4 195 rfl) rfl
theorem q976 : (Jvm.Cond.laysFinal "RentedViewsModel" "RentedViewsModel" "values" "[I") ∈ lw_all := lw_g (lw_at lw_m4 196 rfl) rfl
theorem q977 : (Jvm.Cond.soleField "RentedViewsModel" "values") ∈ lw_all := lw_g (lw_at lw_m4 197 rfl) rfl
theorem q978 : (Jvm.Cond.superclass "RentedViewsModel" "java/lang/Object") ∈ lw_all := lw_g (lw_at lw_m4 198 rfl) rfl
theorem q980 : (Jvm.Cond.instanceMethod ({ cls := "RentedViewsModel", name := "shop", desc := "()I" } : Jvm.MethodName)) ∈ lw_all := lw_g (lw_at lw_m4 200 rfl) rfl
theorem q981 : (Jvm.Cond.selects "RentedViewsModel" ({ cls := "RentedViewsModel", name := "shop", desc := "()I" } : Jvm.MethodName) ({ cls := "RentedViewsModel", name := "shop", desc := "()I" } : Jvm.MethodName)) ∈ lw_all := lw_g (lw_at lw_m4 201 rfl) rfl
theorem q982 : (Jvm.Cond.code ({ cls := "RentedViewsModel", name := "shop", desc := "()I" } : Jvm.MethodName) prog_14_method_17_code (2 : Nat) (Option.some Jvm.ClassFile.FieldType.int)) ∈ lw_all := lw_g (lw_at lw_m4 202 rfl) rfl
theorem q983 : (Jvm.Cond.methodLink "RentedViewsModel" (60 : Nat) ({ cls := "RentedViewsModel", name := "views", desc := "()I" } : Jvm.MethodName)) ∈ lw_all := lw_g (lw_at lw_m4 203 rfl) rfl
theorem q984 : (Jvm.Cond.privateMethod ({ cls := "RentedViewsModel", name := "views", desc := "()I" } : Jvm.MethodName)) ∈ lw_tbl := lw_at lw_m4 204 rfl
theorem q985 : (Jvm.Cond.instanceMethod ({ cls := "RentedViewsModel", name := "views", desc := "()I" } : Jvm.MethodName)) ∈ lw_all := lw_g (lw_at lw_m4 205 rfl) rfl
theorem q986 : (Jvm.Cond.code ({ cls := "RentedViewsModel", name := "views", desc := "()I" } : Jvm.MethodName) prog_14_method_9_code (1 : Nat) (Option.some Jvm.ClassFile.FieldType.int)) ∈ lw_all := lw_g (lw_at lw_m4 206 rfl) rfl
theorem q987 : (Jvm.Cond.methodLink "RentedViewsModel" (75 : Nat) ({ cls := "RentedViewsModel", name := "begin", desc := "([I)V" } : Jvm.MethodName)) ∈ lw_all := lw_g (lw_at lw_m4 207 rfl) rfl
theorem q988 : (Jvm.Cond.static ({ cls := "RentedViewsModel", name := "begin", desc := "([I)V" } : Jvm.MethodName)) ∈ lw_all := lw_g (lw_at lw_m4 208 rfl) rfl
theorem q989 : (Jvm.Cond.code ({ cls := "RentedViewsModel", name := "begin", desc := "([I)V" } : Jvm.MethodName) prog_14_method_8_code (2 : Nat) (Option.none : Option Jvm.ClassFile.FieldType)) ∈ lw_all := lw_g (lw_at lw_m4 209 rfl) rfl
theorem q991 : (Jvm.Cond.instanceMethod ({ cls := "RentedViewsModel", name := "view", desc := "(IIII)I" } : Jvm.MethodName)) ∈ lw_all := lw_g (lw_at lw_m4 211 rfl) rfl
theorem q992 : (Jvm.Cond.selects "RentedViewsModel" ({ cls := "RentedViewsModel", name := "view", desc := "(IIII)I" } : Jvm.MethodName) ({ cls := "RentedViewsModel", name := "view", desc := "(IIII)I" } : Jvm.MethodName)) ∈ lw_all := lw_g (lw_at lw_m4 212 rfl) rfl
theorem q993 : (Jvm.Cond.code ({ cls := "RentedViewsModel", name := "view", desc := "(IIII)I" } : Jvm.MethodName) prog_14_method_20_code (5 : Nat) (Option.some Jvm.ClassFile.FieldType.int)) ∈ lw_all := lw_g (lw_at lw_m4 213 rfl) rfl
theorem q994 : (Jvm.Cond.methodLink "RentedViewsModel" (85 : Nat) ({ cls := "RentedViewsModel", name := "isViewTold", desc := "(IIII)Z" } : Jvm.MethodName)) ∈ lw_all := lw_g (lw_at lw_m4 214 rfl) rfl
theorem q995 : (Jvm.Cond.static ({ cls := "RentedViewsModel", name := "isViewTold", desc := "(IIII)Z" } : Jvm.MethodName)) ∈ lw_all := lw_g (lw_at lw_m4 215 rfl) rfl
theorem q996 : (Jvm.Cond.code ({ cls := "RentedViewsModel", name := "isViewTold", desc := "(IIII)Z" } : Jvm.MethodName) prog_14_method_18_code (4 : Nat) (Option.some Jvm.ClassFile.FieldType.boolean)) ∈ lw_all := lw_g (lw_at lw_m4 216 rfl) rfl
theorem q997 : (Jvm.Cond.constantLong "RentedViewsModel" (73 : Nat) (5 : Int64)) ∈ lw_all := lw_g (lw_at lw_m4 217 rfl) rfl
theorem q998 : (Jvm.Cond.methodLink "RentedViewsModel" (64 : Nat) ({ cls := "RentedViewsModel", name := "in", desc := "(JJJ)Z" } : Jvm.MethodName)) ∈ lw_all := lw_g (lw_at lw_m4 218 rfl) rfl
theorem q999 : (Jvm.Cond.static ({ cls := "RentedViewsModel", name := "in", desc := "(JJJ)Z" } : Jvm.MethodName)) ∈ lw_all := lw_g (lw_at lw_m4 219 rfl) rfl
theorem q1000 : (Jvm.Cond.code ({ cls := "RentedViewsModel", name := "in", desc := "(JJJ)Z" } : Jvm.MethodName) prog_14_method_3_code (6 : Nat) (Option.some Jvm.ClassFile.FieldType.boolean)) ∈ lw_all := lw_g (lw_at lw_m4 220 rfl) rfl
theorem q1001 : (Jvm.Cond.constantLong "RentedViewsModel" (79 : Nat) (9 : Int64)) ∈ lw_all := lw_g (lw_at lw_m4 221 rfl) rfl
theorem q1002 : (Jvm.Cond.constantLong "RentedViewsModel" (71 : Nat) (99 : Int64)) ∈ lw_all := lw_g (lw_at lw_m4 222 rfl) rfl
theorem q1003 : (Jvm.Cond.methodLink "RentedViewsModel" (81 : Nat) ({ cls := "RentedViewsModel", name := "isWeather", desc := "(I)Z" } : Jvm.MethodName)) ∈ lw_all := lw_g (lw_at lw_m4 223 rfl) rfl
theorem q1004 : (Jvm.Cond.static ({ cls := "RentedViewsModel", name := "isWeather", desc := "(I)Z" } : Jvm.MethodName)) ∈ lw_all := lw_g (lw_at lw_m4 224 rfl) rfl
theorem q1005 : (Jvm.Cond.code ({ cls := "RentedViewsModel", name := "isWeather", desc := "(I)Z" } : Jvm.MethodName) prog_14_method_14_code (1 : Nat) (Option.some Jvm.ClassFile.FieldType.boolean)) ∈ lw_all := lw_g (lw_at lw_m4 225 rfl) rfl
theorem q1006 : (Jvm.Cond.methodLink "RentedViewsModel" (89 : Nat) ({ cls := "RentedViewsModel", name := "bad", desc := "(I)I" } : Jvm.MethodName)) ∈ lw_all := lw_g (lw_at lw_m4 226 rfl) rfl
theorem q1007 : (Jvm.Cond.privateMethod ({ cls := "RentedViewsModel", name := "bad", desc := "(I)I" } : Jvm.MethodName)) ∈ lw_tbl := lw_at lw_m4 227 rfl
theorem q1008 : (Jvm.Cond.instanceMethod ({ cls := "RentedViewsModel", name := "bad", desc := "(I)I" } : Jvm.MethodName)) ∈ lw_all := lw_g (lw_at lw_m4 228 rfl) rfl
theorem q1009 : (Jvm.Cond.code ({ cls := "RentedViewsModel", name := "bad", desc := "(I)I" } : Jvm.MethodName) prog_14_method_4_code (2 : Nat) (Option.some Jvm.ClassFile.FieldType.int)) ∈ lw_all := lw_g (lw_at lw_m4 229 rfl) rfl
theorem q1010 : (Jvm.Cond.methodLink "RentedViewsModel" (93 : Nat) ({ cls := "RentedViewsModel", name := "full", desc := "()I" } : Jvm.MethodName)) ∈ lw_all := lw_g (lw_at lw_m4 230 rfl) rfl
theorem q1011 : (Jvm.Cond.privateMethod ({ cls := "RentedViewsModel", name := "full", desc := "()I" } : Jvm.MethodName)) ∈ lw_tbl := lw_at lw_m4 231 rfl
theorem q1012 : (Jvm.Cond.instanceMethod ({ cls := "RentedViewsModel", name := "full", desc := "()I" } : Jvm.MethodName)) ∈ lw_all := lw_g (lw_at lw_m4 232 rfl) rfl
theorem q1013 : (Jvm.Cond.code ({ cls := "RentedViewsModel", name := "full", desc := "()I" } : Jvm.MethodName) prog_14_method_6_code (1 : Nat) (Option.some Jvm.ClassFile.FieldType.int)) ∈ lw_all := lw_g (lw_at lw_m4 233 rfl) rfl
theorem q1014 : (Jvm.Cond.methodLink "RentedViewsModel" (96 : Nat) ({ cls := "RentedViewsModel", name := "layView", desc := "([IIIII)V" } : Jvm.MethodName)) ∈ lw_all := lw_g (lw_at lw_m4 234 rfl) rfl
theorem q1015 : (Jvm.Cond.static ({ cls := "RentedViewsModel", name := "layView", desc := "([IIIII)V" } : Jvm.MethodName)) ∈ lw_all := lw_g (lw_at lw_m4 235 rfl) rfl
theorem q1016 : (Jvm.Cond.code ({ cls := "RentedViewsModel", name := "layView", desc := "([IIIII)V" } : Jvm.MethodName) prog_14_method_19_code (6 : Nat) (Option.none : Option Jvm.ClassFile.FieldType)) ∈ lw_all := lw_g (lw_at lw_m4 236 rfl) rfl
theorem q1018 : (Jvm.Cond.instanceMethod ({ cls := "RentedViewsModel", name := "renter", desc := "(III)I" } : Jvm.MethodName)) ∈ lw_all := lw_g (lw_at lw_m4 238 rfl) rfl
theorem q1019 : (Jvm.Cond.selects "RentedViewsModel" ({ cls := "RentedViewsModel", name := "renter", desc := "(III)I" } : Jvm.MethodName) ({ cls := "RentedViewsModel", name := "renter", desc := "(III)I" } : Jvm.MethodName)) ∈ lw_all := lw_g (lw_at lw_m4 239 rfl) rfl
theorem q1020 : (Jvm.Cond.code ({ cls := "RentedViewsModel", name := "renter", desc := "(III)I" } : Jvm.MethodName) prog_14_method_23_code (4 : Nat) (Option.some Jvm.ClassFile.FieldType.int)) ∈ lw_all := lw_g (lw_at lw_m5 0 rfl) rfl
theorem q1021 : (Jvm.Cond.methodLink "RentedViewsModel" (104 : Nat) ({ cls := "RentedViewsModel", name := "isRenterTold", desc := "(III)Z" } : Jvm.MethodName)) ∈ lw_all := lw_g (lw_at lw_m5 1 rfl) rfl
theorem q1022 : (Jvm.Cond.static ({ cls := "RentedViewsModel", name := "isRenterTold", desc := "(III)Z" } : Jvm.MethodName)) ∈ lw_all := lw_g (lw_at lw_m5 2 rfl) rfl
theorem q1023 : (Jvm.Cond.code ({ cls := "RentedViewsModel", name := "isRenterTold", desc := "(III)Z" } : Jvm.MethodName) prog_14_method_21_code (3 : Nat) (Option.some Jvm.ClassFile.FieldType.boolean)) ∈ lw_all := lw_g (lw_at lw_m5 3 rfl) rfl
theorem q1024 : (Jvm.Cond.constantLong "RentedViewsModel" (100 : Nat) (999 : Int64)) ∈ lw_all := lw_g (lw_at lw_m5 4 rfl) rfl
theorem q1025 : (Jvm.Cond.constantLong "RentedViewsModel" (102 : Nat) (6 : Int64)) ∈ lw_all := lw_g (lw_at lw_m5 5 rfl) rfl
theorem q1026 : (Jvm.Cond.methodLink "RentedViewsModel" (68 : Nat) ({ cls := "RentedViewsModel", name := "renters", desc := "()I" } : Jvm.MethodName)) ∈ lw_all := lw_g (lw_at lw_m5 6 rfl) rfl
theorem q1027 : (Jvm.Cond.privateMethod ({ cls := "RentedViewsModel", name := "renters", desc := "()I" } : Jvm.MethodName)) ∈ lw_tbl := lw_at lw_m5 7 rfl
theorem q1028 : (Jvm.Cond.instanceMethod ({ cls := "RentedViewsModel", name := "renters", desc := "()I" } : Jvm.MethodName)) ∈ lw_all := lw_g (lw_at lw_m5 8 rfl) rfl
theorem q1029 : (Jvm.Cond.code ({ cls := "RentedViewsModel", name := "renters", desc := "()I" } : Jvm.MethodName) prog_14_method_10_code (1 : Nat) (Option.some Jvm.ClassFile.FieldType.int)) ∈ lw_all := lw_g (lw_at lw_m5 9 rfl) rfl
theorem q1030 : (Jvm.Cond.methodLink "RentedViewsModel" (108 : Nat) ({ cls := "RentedViewsModel", name := "layRenter", desc := "([IIII)V" } : Jvm.MethodName)) ∈ lw_all := lw_g (lw_at lw_m5 10 rfl) rfl
theorem q1031 : (Jvm.Cond.static ({ cls := "RentedViewsModel", name := "layRenter", desc := "([IIII)V" } : Jvm.MethodName)) ∈ lw_all := lw_g (lw_at lw_m5 11 rfl) rfl
theorem q1032 : (Jvm.Cond.code ({ cls := "RentedViewsModel", name := "layRenter", desc := "([IIII)V" } : Jvm.MethodName) prog_14_method_22_code (5 : Nat) (Option.none : Option Jvm.ClassFile.FieldType)) ∈ lw_all := lw_g (lw_at lw_m5 12 rfl) rfl
theorem q1034 : (Jvm.Cond.instanceMethod ({ cls := "RentedViewsModel", name := "things", desc := "(II)I" } : Jvm.MethodName)) ∈ lw_all := lw_g (lw_at lw_m5 14 rfl) rfl
theorem q1035 : (Jvm.Cond.selects "RentedViewsModel" ({ cls := "RentedViewsModel", name := "things", desc := "(II)I" } : Jvm.MethodName) ({ cls := "RentedViewsModel", name := "things", desc := "(II)I" } : Jvm.MethodName)) ∈ lw_all := lw_g (lw_at lw_m5 15 rfl) rfl
theorem q1036 : (Jvm.Cond.code ({ cls := "RentedViewsModel", name := "things", desc := "(II)I" } : Jvm.MethodName) prog_14_method_24_code (4 : Nat) (Option.some Jvm.ClassFile.FieldType.int)) ∈ lw_all := lw_g (lw_at lw_m5 16 rfl) rfl
theorem q1037 : (Jvm.Cond.methodLink "RentedViewsModel" (112 : Nat) ({ cls := "RentedViewsModel", name := "isView", desc := "(I)Z" } : Jvm.MethodName)) ∈ lw_all := lw_g (lw_at lw_m5 17 rfl) rfl
theorem q1038 : (Jvm.Cond.privateMethod ({ cls := "RentedViewsModel", name := "isView", desc := "(I)Z" } : Jvm.MethodName)) ∈ lw_tbl := lw_at lw_m5 18 rfl
theorem q1039 : (Jvm.Cond.instanceMethod ({ cls := "RentedViewsModel", name := "isView", desc := "(I)Z" } : Jvm.MethodName)) ∈ lw_all := lw_g (lw_at lw_m5 19 rfl) rfl
theorem q1040 : (Jvm.Cond.code ({ cls := "RentedViewsModel", name := "isView", desc := "(I)Z" } : Jvm.MethodName) prog_14_method_11_code (2 : Nat) (Option.some Jvm.ClassFile.FieldType.boolean)) ∈ lw_all := lw_g (lw_at lw_m5 20 rfl) rfl
theorem q1041 : (Jvm.Cond.constantLong "RentedViewsModel" (115 : Nat) (255 : Int64)) ∈ lw_all := lw_g (lw_at lw_m5 21 rfl) rfl
theorem q1042 : (Jvm.Cond.methodLink "RentedViewsModel" (117 : Nat) ({ cls := "RentedViewsModel", name := "viewHas", desc := "(II)I" } : Jvm.MethodName)) ∈ lw_all := lw_g (lw_at lw_m5 22 rfl) rfl
theorem q1043 : (Jvm.Cond.privateMethod ({ cls := "RentedViewsModel", name := "viewHas", desc := "(II)I" } : Jvm.MethodName)) ∈ lw_tbl := lw_at lw_m5 23 rfl
theorem q1044 : (Jvm.Cond.instanceMethod ({ cls := "RentedViewsModel", name := "viewHas", desc := "(II)I" } : Jvm.MethodName)) ∈ lw_all := lw_g (lw_at lw_m5 24 rfl) rfl
theorem q1045 : (Jvm.Cond.code ({ cls := "RentedViewsModel", name := "viewHas", desc := "(II)I" } : Jvm.MethodName) prog_14_method_15_code (3 : Nat) (Option.some Jvm.ClassFile.FieldType.int)) ∈ lw_all := lw_g (lw_at lw_m5 25 rfl) rfl
theorem q1047 : (Jvm.Cond.instanceMethod ({ cls := "RentedViewsModel", name := "let", desc := "(II)I" } : Jvm.MethodName)) ∈ lw_all := lw_g (lw_at lw_m5 27 rfl) rfl
theorem q1048 : (Jvm.Cond.selects "RentedViewsModel" ({ cls := "RentedViewsModel", name := "let", desc := "(II)I" } : Jvm.MethodName) ({ cls := "RentedViewsModel", name := "let", desc := "(II)I" } : Jvm.MethodName)) ∈ lw_all := lw_g (lw_at lw_m5 28 rfl) rfl
theorem q1049 : (Jvm.Cond.code ({ cls := "RentedViewsModel", name := "let", desc := "(II)I" } : Jvm.MethodName) prog_14_method_36_code (4 : Nat) (Option.some Jvm.ClassFile.FieldType.int)) ∈ lw_all := lw_g (lw_at lw_m5 29 rfl) rfl
theorem q1050 : (Jvm.Cond.methodLink "RentedViewsModel" (148 : Nat) ({ cls := "RentedViewsModel", name := "isRenter", desc := "(I)Z" } : Jvm.MethodName)) ∈ lw_all := lw_g (lw_at lw_m5 30 rfl) rfl
theorem q1051 : (Jvm.Cond.privateMethod ({ cls := "RentedViewsModel", name := "isRenter", desc := "(I)Z" } : Jvm.MethodName)) ∈ lw_tbl := lw_at lw_m5 31 rfl
theorem q1052 : (Jvm.Cond.instanceMethod ({ cls := "RentedViewsModel", name := "isRenter", desc := "(I)Z" } : Jvm.MethodName)) ∈ lw_all := lw_g (lw_at lw_m5 32 rfl) rfl
theorem q1053 : (Jvm.Cond.code ({ cls := "RentedViewsModel", name := "isRenter", desc := "(I)Z" } : Jvm.MethodName) prog_14_method_12_code (2 : Nat) (Option.some Jvm.ClassFile.FieldType.boolean)) ∈ lw_all := lw_g (lw_at lw_m5 33 rfl) rfl
theorem q1054 : (Jvm.Cond.methodLink "RentedViewsModel" (151 : Nat) ({ cls := "RentedViewsModel", name := "layHand", desc := "()V" } : Jvm.MethodName)) ∈ lw_all := lw_g (lw_at lw_m5 34 rfl) rfl
theorem q1055 : (Jvm.Cond.privateMethod ({ cls := "RentedViewsModel", name := "layHand", desc := "()V" } : Jvm.MethodName)) ∈ lw_tbl := lw_at lw_m5 35 rfl
theorem q1056 : (Jvm.Cond.instanceMethod ({ cls := "RentedViewsModel", name := "layHand", desc := "()V" } : Jvm.MethodName)) ∈ lw_all := lw_g (lw_at lw_m5 36 rfl) rfl
theorem q1057 : (Jvm.Cond.code ({ cls := "RentedViewsModel", name := "layHand", desc := "()V" } : Jvm.MethodName) prog_14_method_30_code (2 : Nat) (Option.none : Option Jvm.ClassFile.FieldType)) ∈ lw_all := lw_g (lw_at lw_m5 37 rfl) rfl
theorem q1058 : (Jvm.Cond.methodLink "RentedViewsModel" (128 : Nat) ({ cls := "RentedViewsModel", name := "costOf", desc := "(II)I" } : Jvm.MethodName)) ∈ lw_all := lw_g (lw_at lw_m5 38 rfl) rfl
theorem q1059 : (Jvm.Cond.static ({ cls := "RentedViewsModel", name := "costOf", desc := "(II)I" } : Jvm.MethodName)) ∈ lw_all := lw_g (lw_at lw_m5 39 rfl) rfl
theorem q1060 : (Jvm.Cond.code ({ cls := "RentedViewsModel", name := "costOf", desc := "(II)I" } : Jvm.MethodName) prog_14_method_27_code (2 : Nat) (Option.some Jvm.ClassFile.FieldType.int)) ∈ lw_all := lw_g (lw_at lw_m5 40 rfl) rfl
theorem q1061 : (Jvm.Cond.methodLink "RentedViewsModel" (135 : Nat) ({ cls := "RentedViewsModel", name := "renterHas", desc := "(II)I" } : Jvm.MethodName)) ∈ lw_all := lw_g (lw_at lw_m5 41 rfl) rfl
theorem q1062 : (Jvm.Cond.privateMethod ({ cls := "RentedViewsModel", name := "renterHas", desc := "(II)I" } : Jvm.MethodName)) ∈ lw_tbl := lw_at lw_m5 42 rfl
theorem q1063 : (Jvm.Cond.instanceMethod ({ cls := "RentedViewsModel", name := "renterHas", desc := "(II)I" } : Jvm.MethodName)) ∈ lw_all := lw_g (lw_at lw_m5 43 rfl) rfl
theorem q1064 : (Jvm.Cond.code ({ cls := "RentedViewsModel", name := "renterHas", desc := "(II)I" } : Jvm.MethodName) prog_14_method_16_code (3 : Nat) (Option.some Jvm.ClassFile.FieldType.int)) ∈ lw_all := lw_g (lw_at lw_m5 44 rfl) rfl
theorem q1065 : (Jvm.Cond.methodLink "RentedViewsModel" (154 : Nat) ({ cls := "RentedViewsModel", name := "viewOf", desc := "(I)I" } : Jvm.MethodName)) ∈ lw_all := lw_g (lw_at lw_m5 45 rfl) rfl
theorem q1066 : (Jvm.Cond.privateMethod ({ cls := "RentedViewsModel", name := "viewOf", desc := "(I)I" } : Jvm.MethodName)) ∈ lw_tbl := lw_at lw_m5 46 rfl
theorem q1067 : (Jvm.Cond.instanceMethod ({ cls := "RentedViewsModel", name := "viewOf", desc := "(I)I" } : Jvm.MethodName)) ∈ lw_all := lw_g (lw_at lw_m5 47 rfl) rfl
theorem q1068 : (Jvm.Cond.code ({ cls := "RentedViewsModel", name := "viewOf", desc := "(I)I" } : Jvm.MethodName) prog_14_method_34_code (4 : Nat) (Option.some Jvm.ClassFile.FieldType.int)) ∈ lw_all := lw_g (lw_at lw_m5 48 rfl) rfl
theorem q1069 : (Jvm.Cond.methodLink "RentedViewsModel" (138 : Nat) ({ cls := "RentedViewsModel", name := "fits", desc := "(II)Z" } : Jvm.MethodName)) ∈ lw_all := lw_g (lw_at lw_m5 49 rfl) rfl
theorem q1070 : (Jvm.Cond.privateMethod ({ cls := "RentedViewsModel", name := "fits", desc := "(II)Z" } : Jvm.MethodName)) ∈ lw_tbl := lw_at lw_m5 50 rfl
theorem q1071 : (Jvm.Cond.instanceMethod ({ cls := "RentedViewsModel", name := "fits", desc := "(II)Z" } : Jvm.MethodName)) ∈ lw_all := lw_g (lw_at lw_m5 51 rfl) rfl
theorem q1072 : (Jvm.Cond.code ({ cls := "RentedViewsModel", name := "fits", desc := "(II)Z" } : Jvm.MethodName) prog_14_method_29_code (3 : Nat) (Option.some Jvm.ClassFile.FieldType.boolean)) ∈ lw_all := lw_g (lw_at lw_m5 52 rfl) rfl
theorem q1073 : (Jvm.Cond.methodLink "RentedViewsModel" (157 : Nat) ({ cls := "RentedViewsModel", name := "no", desc := "()I" } : Jvm.MethodName)) ∈ lw_all := lw_g (lw_at lw_m5 53 rfl) rfl
theorem q1074 : (Jvm.Cond.privateMethod ({ cls := "RentedViewsModel", name := "no", desc := "()I" } : Jvm.MethodName)) ∈ lw_tbl := lw_at lw_m5 54 rfl
theorem q1075 : (Jvm.Cond.instanceMethod ({ cls := "RentedViewsModel", name := "no", desc := "()I" } : Jvm.MethodName)) ∈ lw_all := lw_g (lw_at lw_m5 55 rfl) rfl
theorem q1076 : (Jvm.Cond.code ({ cls := "RentedViewsModel", name := "no", desc := "()I" } : Jvm.MethodName) prog_14_method_5_code (1 : Nat) (Option.some Jvm.ClassFile.FieldType.int)) ∈ lw_all := lw_g (lw_at lw_m5 56 rfl) rfl
theorem q1077 : (Jvm.Cond.methodLink "RentedViewsModel" (160 : Nat) ({ cls := "RentedViewsModel", name := "keep", desc := "()V" } : Jvm.MethodName)) ∈ lw_all := lw_g (lw_at lw_m5 57 rfl) rfl
theorem q1078 : (Jvm.Cond.privateMethod ({ cls := "RentedViewsModel", name := "keep", desc := "()V" } : Jvm.MethodName)) ∈ lw_tbl := lw_at lw_m5 58 rfl
theorem q1079 : (Jvm.Cond.instanceMethod ({ cls := "RentedViewsModel", name := "keep", desc := "()V" } : Jvm.MethodName)) ∈ lw_all := lw_g (lw_at lw_m5 59 rfl) rfl
theorem q1080 : (Jvm.Cond.code ({ cls := "RentedViewsModel", name := "keep", desc := "()V" } : Jvm.MethodName) prog_14_method_33_code (3 : Nat) (Option.none : Option Jvm.ClassFile.FieldType)) ∈ lw_all := lw_g (lw_at lw_m5 60 rfl) rfl
theorem q1081 : (Jvm.Cond.methodLink "RentedViewsModel" (163 : Nat) ({ cls := "RentedViewsModel", name := "remember", desc := "(II)V" } : Jvm.MethodName)) ∈ lw_all := lw_g (lw_at lw_m5 61 rfl) rfl
theorem q1082 : (Jvm.Cond.privateMethod ({ cls := "RentedViewsModel", name := "remember", desc := "(II)V" } : Jvm.MethodName)) ∈ lw_tbl := lw_at lw_m5 62 rfl
theorem q1083 : (Jvm.Cond.instanceMethod ({ cls := "RentedViewsModel", name := "remember", desc := "(II)V" } : Jvm.MethodName)) ∈ lw_all := lw_g (lw_at lw_m5 63 rfl) rfl
theorem q1084 : (Jvm.Cond.code ({ cls := "RentedViewsModel", name := "remember", desc := "(II)V" } : Jvm.MethodName) prog_14_method_35_code (4 : Nat) (Option.none : Option Jvm.ClassFile.FieldType)) ∈ lw_all := lw_g (lw_at lw_m5 64 rfl) rfl
theorem q1086 : (Jvm.Cond.instanceMethod ({ cls := "RentedViewsModel", name := "night", desc := "()I" } : Jvm.MethodName)) ∈ lw_all := lw_g (lw_at lw_m5 66 rfl) rfl
theorem q1087 : (Jvm.Cond.selects "RentedViewsModel" ({ cls := "RentedViewsModel", name := "night", desc := "()I" } : Jvm.MethodName) ({ cls := "RentedViewsModel", name := "night", desc := "()I" } : Jvm.MethodName)) ∈ lw_all := lw_g (lw_at lw_m5 67 rfl) rfl
theorem q1088 : (Jvm.Cond.code ({ cls := "RentedViewsModel", name := "night", desc := "()I" } : Jvm.MethodName) prog_14_method_37_code (2 : Nat) (Option.some Jvm.ClassFile.FieldType.int)) ∈ lw_all := lw_g (lw_at lw_m5 68 rfl) rfl
theorem q1090 : (Jvm.Cond.instanceMethod ({ cls := "RentedViewsModel", name := "undo", desc := "()I" } : Jvm.MethodName)) ∈ lw_all := lw_g (lw_at lw_m5 70 rfl) rfl
theorem q1091 : (Jvm.Cond.selects "RentedViewsModel" ({ cls := "RentedViewsModel", name := "undo", desc := "()I" } : Jvm.MethodName) ({ cls := "RentedViewsModel", name := "undo", desc := "()I" } : Jvm.MethodName)) ∈ lw_all := lw_g (lw_at lw_m5 71 rfl) rfl
theorem q1092 : (Jvm.Cond.code ({ cls := "RentedViewsModel", name := "undo", desc := "()I" } : Jvm.MethodName) prog_14_method_38_code (3 : Nat) (Option.some Jvm.ClassFile.FieldType.int)) ∈ lw_all := lw_g (lw_at lw_m5 72 rfl) rfl
theorem q1094 : (Jvm.Cond.instanceMethod ({ cls := "RentedViewsModel", name := "of", desc := "(II)I" } : Jvm.MethodName)) ∈ lw_all := lw_g (lw_at lw_m5 74 rfl) rfl
theorem q1095 : (Jvm.Cond.selects "RentedViewsModel" ({ cls := "RentedViewsModel", name := "of", desc := "(II)I" } : Jvm.MethodName) ({ cls := "RentedViewsModel", name := "of", desc := "(II)I" } : Jvm.MethodName)) ∈ lw_all := lw_g (lw_at lw_m5 75 rfl) rfl
theorem q1096 : (Jvm.Cond.code ({ cls := "RentedViewsModel", name := "of", desc := "(II)I" } : Jvm.MethodName) prog_14_method_39_code (3 : Nat) (Option.some Jvm.ClassFile.FieldType.int)) ∈ lw_all := lw_g (lw_at lw_m5 76 rfl) rfl
theorem q1097 : (Jvm.Cond.constantLong "RentedViewsModel" (167 : Nat) (7 : Int64)) ∈ lw_all := lw_g (lw_at lw_m5 77 rfl) rfl
theorem q1098 : (Jvm.Cond.methodLink "RentedViewsModel" (142 : Nat) ({ cls := "RentedViewsModel", name := "showsIn", desc := "(II)I" } : Jvm.MethodName)) ∈ lw_all := lw_g (lw_at lw_m5 78 rfl) rfl
theorem q1099 : (Jvm.Cond.privateMethod ({ cls := "RentedViewsModel", name := "showsIn", desc := "(II)I" } : Jvm.MethodName)) ∈ lw_tbl := lw_at lw_m5 79 rfl
theorem q1100 : (Jvm.Cond.instanceMethod ({ cls := "RentedViewsModel", name := "showsIn", desc := "(II)I" } : Jvm.MethodName)) ∈ lw_all := lw_g (lw_at lw_m5 80 rfl) rfl
theorem q1101 : (Jvm.Cond.code ({ cls := "RentedViewsModel", name := "showsIn", desc := "(II)I" } : Jvm.MethodName) prog_14_method_28_code (3 : Nat) (Option.some Jvm.ClassFile.FieldType.int)) ∈ lw_all := lw_g (lw_at lw_m5 81 rfl) rfl
theorem q1102 : (Jvm.Cond.methodLink "RentedViewsModel" (124 : Nat) ({ cls := "RentedViewsModel", name := "weatherOf", desc := "(III)I" } : Jvm.MethodName)) ∈ lw_all := lw_g (lw_at lw_m5 82 rfl) rfl
theorem q1103 : (Jvm.Cond.static ({ cls := "RentedViewsModel", name := "weatherOf", desc := "(III)I" } : Jvm.MethodName)) ∈ lw_all := lw_g (lw_at lw_m5 83 rfl) rfl
theorem q1104 : (Jvm.Cond.code ({ cls := "RentedViewsModel", name := "weatherOf", desc := "(III)I" } : Jvm.MethodName) prog_14_method_26_code (3 : Nat) (Option.some Jvm.ClassFile.FieldType.int)) ∈ lw_all := lw_g (lw_at lw_m5 84 rfl) rfl
theorem q1105 : (Jvm.Cond.methodLink "RentedViewsModel" (121 : Nat) ({ cls := "RentedViewsModel", name := "lake", desc := "(II)I" } : Jvm.MethodName)) ∈ lw_all := lw_g (lw_at lw_m5 85 rfl) rfl
theorem q1106 : (Jvm.Cond.static ({ cls := "RentedViewsModel", name := "lake", desc := "(II)I" } : Jvm.MethodName)) ∈ lw_all := lw_g (lw_at lw_m5 86 rfl) rfl
theorem q1107 : (Jvm.Cond.code ({ cls := "RentedViewsModel", name := "lake", desc := "(II)I" } : Jvm.MethodName) prog_14_method_25_code (2 : Nat) (Option.some Jvm.ClassFile.FieldType.int)) ∈ lw_all := lw_g (lw_at lw_m5 87 rfl) rfl
theorem q1109 : (Jvm.Cond.instanceMethod ({ cls := "RentedViewsModel", name := "about", desc := "(II)I" } : Jvm.MethodName)) ∈ lw_all := lw_g (lw_at lw_m5 89 rfl) rfl
theorem q1110 : (Jvm.Cond.selects "RentedViewsModel" ({ cls := "RentedViewsModel", name := "about", desc := "(II)I" } : Jvm.MethodName) ({ cls := "RentedViewsModel", name := "about", desc := "(II)I" } : Jvm.MethodName)) ∈ lw_all := lw_g (lw_at lw_m5 90 rfl) rfl
theorem q1111 : (Jvm.Cond.code ({ cls := "RentedViewsModel", name := "about", desc := "(II)I" } : Jvm.MethodName) prog_14_method_40_code (3 : Nat) (Option.some Jvm.ClassFile.FieldType.int)) ∈ lw_all := lw_g (lw_at lw_m5 91 rfl) rfl
theorem q1112 : (Jvm.Cond.constantLong "RentedViewsModel" (169 : Nat) (3 : Int64)) ∈ lw_all := lw_g (lw_at lw_m5 92 rfl) rfl
theorem q1114 : (Jvm.Cond.instanceMethod ({ cls := "RentedViewsModel", name := "shows", desc := "(II)I" } : Jvm.MethodName)) ∈ lw_all := lw_g (lw_at lw_m5 94 rfl) rfl
theorem q1115 : (Jvm.Cond.selects "RentedViewsModel" ({ cls := "RentedViewsModel", name := "shows", desc := "(II)I" } : Jvm.MethodName) ({ cls := "RentedViewsModel", name := "shows", desc := "(II)I" } : Jvm.MethodName)) ∈ lw_all := lw_g (lw_at lw_m5 95 rfl) rfl
theorem q1116 : (Jvm.Cond.code ({ cls := "RentedViewsModel", name := "shows", desc := "(II)I" } : Jvm.MethodName) prog_14_method_41_code (3 : Nat) (Option.some Jvm.ClassFile.FieldType.int)) ∈ lw_all := lw_g (lw_at lw_m5 96 rfl) rfl
theorem q1117 : (Jvm.Cond.methodLink "RentedViewsModel" (171 : Nat) ({ cls := "RentedViewsModel", name := "isEvening", desc := "(I)Z" } : Jvm.MethodName)) ∈ lw_all := lw_g (lw_at lw_m5 97 rfl) rfl
theorem q1118 : (Jvm.Cond.static ({ cls := "RentedViewsModel", name := "isEvening", desc := "(I)Z" } : Jvm.MethodName)) ∈ lw_all := lw_g (lw_at lw_m5 98 rfl) rfl
theorem q1119 : (Jvm.Cond.code ({ cls := "RentedViewsModel", name := "isEvening", desc := "(I)Z" } : Jvm.MethodName) prog_14_method_13_code (1 : Nat) (Option.some Jvm.ClassFile.FieldType.boolean)) ∈ lw_all := lw_g (lw_at lw_m5 99 rfl) rfl
theorem q1121 : (Jvm.Cond.instanceMethod ({ cls := "RentedViewsModel", name := "suits", desc := "(III)I" } : Jvm.MethodName)) ∈ lw_all := lw_g (lw_at lw_m5 101 rfl) rfl
theorem q1122 : (Jvm.Cond.selects "RentedViewsModel" ({ cls := "RentedViewsModel", name := "suits", desc := "(III)I" } : Jvm.MethodName) ({ cls := "RentedViewsModel", name := "suits", desc := "(III)I" } : Jvm.MethodName)) ∈ lw_all := lw_g (lw_at lw_m5 102 rfl) rfl
theorem q1123 : (Jvm.Cond.code ({ cls := "RentedViewsModel", name := "suits", desc := "(III)I" } : Jvm.MethodName) prog_14_method_42_code (4 : Nat) (Option.some Jvm.ClassFile.FieldType.int)) ∈ lw_all := lw_g (lw_at lw_m5 103 rfl) rfl
theorem q1124 : (Jvm.Cond.methodLink "RentedViewsModel" (145 : Nat) ({ cls := "RentedViewsModel", name := "doesSuit", desc := "(III)Z" } : Jvm.MethodName)) ∈ lw_all := lw_g (lw_at lw_m5 104 rfl) rfl
theorem q1125 : (Jvm.Cond.privateMethod ({ cls := "RentedViewsModel", name := "doesSuit", desc := "(III)Z" } : Jvm.MethodName)) ∈ lw_tbl := lw_at lw_m5 105 rfl
theorem q1126 : (Jvm.Cond.instanceMethod ({ cls := "RentedViewsModel", name := "doesSuit", desc := "(III)Z" } : Jvm.MethodName)) ∈ lw_all := lw_g (lw_at lw_m5 106 rfl) rfl
theorem q1127 : (Jvm.Cond.code ({ cls := "RentedViewsModel", name := "doesSuit", desc := "(III)Z" } : Jvm.MethodName) prog_14_method_31_code (4 : Nat) (Option.some Jvm.ClassFile.FieldType.boolean)) ∈ lw_all := lw_g (lw_at lw_m5 107 rfl) rfl
theorem q1129 : (Jvm.Cond.instanceMethod ({ cls := "RentedViewsModel", name := "best", desc := "(II)I" } : Jvm.MethodName)) ∈ lw_all := lw_g (lw_at lw_m5 109 rfl) rfl
theorem q1130 : (Jvm.Cond.selects "RentedViewsModel" ({ cls := "RentedViewsModel", name := "best", desc := "(II)I" } : Jvm.MethodName) ({ cls := "RentedViewsModel", name := "best", desc := "(II)I" } : Jvm.MethodName)) ∈ lw_all := lw_g (lw_at lw_m5 110 rfl) rfl
theorem q1131 : (Jvm.Cond.code ({ cls := "RentedViewsModel", name := "best", desc := "(II)I" } : Jvm.MethodName) prog_14_method_47_code (3 : Nat) (Option.some Jvm.ClassFile.FieldType.int)) ∈ lw_all := lw_g (lw_at lw_m5 111 rfl) rfl
theorem q1132 : (Jvm.Cond.constantLong "RentedViewsModel" (193 : Nat) (-1 : Int64)) ∈ lw_all := lw_g (lw_at lw_m5 112 rfl) rfl
theorem q1133 : (Jvm.Cond.methodLink "RentedViewsModel" (195 : Nat) ({ cls := "RentedViewsModel", name := "layBest", desc := "(I)V" } : Jvm.MethodName)) ∈ lw_all := lw_g (lw_at lw_m5 113 rfl) rfl
theorem q1134 : (Jvm.Cond.privateMethod ({ cls := "RentedViewsModel", name := "layBest", desc := "(I)V" } : Jvm.MethodName)) ∈ lw_tbl := lw_at lw_m5 114 rfl
theorem q1135 : (Jvm.Cond.instanceMethod ({ cls := "RentedViewsModel", name := "layBest", desc := "(I)V" } : Jvm.MethodName)) ∈ lw_all := lw_g (lw_at lw_m5 115 rfl) rfl
theorem q1136 : (Jvm.Cond.code ({ cls := "RentedViewsModel", name := "layBest", desc := "(I)V" } : Jvm.MethodName) prog_14_method_46_code (4 : Nat) (Option.none : Option Jvm.ClassFile.FieldType)) ∈ lw_all := lw_g (lw_at lw_m5 116 rfl) rfl
theorem q1137 : (Jvm.Cond.methodLink "RentedViewsModel" (180 : Nat) ({ cls := "RentedViewsModel", name := "laySuit", desc := "(I)V" } : Jvm.MethodName)) ∈ lw_all := lw_g (lw_at lw_m5 117 rfl) rfl
theorem q1138 : (Jvm.Cond.privateMethod ({ cls := "RentedViewsModel", name := "laySuit", desc := "(I)V" } : Jvm.MethodName)) ∈ lw_tbl := lw_at lw_m5 118 rfl
theorem q1139 : (Jvm.Cond.instanceMethod ({ cls := "RentedViewsModel", name := "laySuit", desc := "(I)V" } : Jvm.MethodName)) ∈ lw_all := lw_g (lw_at lw_m5 119 rfl) rfl
theorem q1140 : (Jvm.Cond.code ({ cls := "RentedViewsModel", name := "laySuit", desc := "(I)V" } : Jvm.MethodName) prog_14_method_32_code (4 : Nat) (Option.none : Option Jvm.ClassFile.FieldType)) ∈ lw_all := lw_g (lw_at lw_m5 120 rfl) rfl
theorem q1141 : (Jvm.Cond.methodLink "RentedViewsModel" (184 : Nat) ({ cls := "RentedViewsModel", name := "judgeRow", desc := "()V" } : Jvm.MethodName)) ∈ lw_all := lw_g (lw_at lw_m5 121 rfl) rfl
theorem q1142 : (Jvm.Cond.privateMethod ({ cls := "RentedViewsModel", name := "judgeRow", desc := "()V" } : Jvm.MethodName)) ∈ lw_tbl := lw_at lw_m5 122 rfl
theorem q1143 : (Jvm.Cond.instanceMethod ({ cls := "RentedViewsModel", name := "judgeRow", desc := "()V" } : Jvm.MethodName)) ∈ lw_all := lw_g (lw_at lw_m5 123 rfl) rfl
theorem q1144 : (Jvm.Cond.code ({ cls := "RentedViewsModel", name := "judgeRow", desc := "()V" } : Jvm.MethodName) prog_14_method_43_code (4 : Nat) (Option.none : Option Jvm.ClassFile.FieldType)) ∈ lw_all := lw_g (lw_at lw_m5 124 rfl) rfl
theorem q1145 : (Jvm.Cond.methodLink "RentedViewsModel" (187 : Nat) ({ cls := "RentedViewsModel", name := "freeBut", desc := "(I)I" } : Jvm.MethodName)) ∈ lw_all := lw_g (lw_at lw_m5 125 rfl) rfl
theorem q1146 : (Jvm.Cond.privateMethod ({ cls := "RentedViewsModel", name := "freeBut", desc := "(I)I" } : Jvm.MethodName)) ∈ lw_tbl := lw_at lw_m5 126 rfl
theorem q1147 : (Jvm.Cond.instanceMethod ({ cls := "RentedViewsModel", name := "freeBut", desc := "(I)I" } : Jvm.MethodName)) ∈ lw_all := lw_g (lw_at lw_m5 127 rfl) rfl
theorem q1148 : (Jvm.Cond.code ({ cls := "RentedViewsModel", name := "freeBut", desc := "(I)I" } : Jvm.MethodName) prog_14_method_44_code (4 : Nat) (Option.some Jvm.ClassFile.FieldType.int)) ∈ lw_all := lw_g (lw_at lw_m5 128 rfl) rfl
theorem q1149 : (Jvm.Cond.methodLink "RentedViewsModel" (190 : Nat) ({ cls := "RentedViewsModel", name := "nextView", desc := "(II)I" } : Jvm.MethodName)) ∈ lw_all := lw_g (lw_at lw_m5 129 rfl) rfl
theorem q1150 : (Jvm.Cond.privateMethod ({ cls := "RentedViewsModel", name := "nextView", desc := "(II)I" } : Jvm.MethodName)) ∈ lw_tbl := lw_at lw_m5 130 rfl
theorem q1151 : (Jvm.Cond.instanceMethod ({ cls := "RentedViewsModel", name := "nextView", desc := "(II)I" } : Jvm.MethodName)) ∈ lw_all := lw_g (lw_at lw_m5 131 rfl) rfl
theorem q1152 : (Jvm.Cond.code ({ cls := "RentedViewsModel", name := "nextView", desc := "(II)I" } : Jvm.MethodName) prog_14_method_45_code (4 : Nat) (Option.some Jvm.ClassFile.FieldType.int)) ∈ lw_all := lw_g (lw_at lw_m5 132 rfl) rfl
theorem q1154 : (Jvm.Cond.instanceMethod ({ cls := "RentedViewsModel", name := "money", desc := "(I)I" } : Jvm.MethodName)) ∈ lw_all := lw_g (lw_at lw_m5 134 rfl) rfl
theorem q1155 : (Jvm.Cond.selects "RentedViewsModel" ({ cls := "RentedViewsModel", name := "money", desc := "(I)I" } : Jvm.MethodName) ({ cls := "RentedViewsModel", name := "money", desc := "(I)I" } : Jvm.MethodName)) ∈ lw_all := lw_g (lw_at lw_m5 135 rfl) rfl
theorem q1156 : (Jvm.Cond.code ({ cls := "RentedViewsModel", name := "money", desc := "(I)I" } : Jvm.MethodName) prog_14_method_48_code (2 : Nat) (Option.some Jvm.ClassFile.FieldType.int)) ∈ lw_all := lw_g (lw_at lw_m5 136 rfl) rfl
theorem q1158 : (Jvm.Cond.instanceMethod ({ cls := "RentedViewsModel", name := "come", desc := "(II)I" } : Jvm.MethodName)) ∈ lw_all := lw_g (lw_at lw_m5 138 rfl) rfl
theorem q1159 : (Jvm.Cond.selects "RentedViewsModel" ({ cls := "RentedViewsModel", name := "come", desc := "(II)I" } : Jvm.MethodName) ({ cls := "RentedViewsModel", name := "come", desc := "(II)I" } : Jvm.MethodName)) ∈ lw_all := lw_g (lw_at lw_m5 139 rfl) rfl
theorem q1160 : (Jvm.Cond.code ({ cls := "RentedViewsModel", name := "come", desc := "(II)I" } : Jvm.MethodName) prog_14_method_51_code (3 : Nat) (Option.some Jvm.ClassFile.FieldType.int)) ∈ lw_all := lw_g (lw_at lw_m5 140 rfl) rfl
theorem q1161 : (Jvm.Cond.constantLong "RentedViewsModel" (204 : Nat) (2 : Int64)) ∈ lw_all := lw_g (lw_at lw_m5 141 rfl) rfl
theorem q1162 : (Jvm.Cond.methodLink "RentedViewsModel" (206 : Nat) ({ cls := "RentedViewsModel", name := "allRenters", desc := "()I" } : Jvm.MethodName)) ∈ lw_all := lw_g (lw_at lw_m5 142 rfl) rfl
theorem q1163 : (Jvm.Cond.privateMethod ({ cls := "RentedViewsModel", name := "allRenters", desc := "()I" } : Jvm.MethodName)) ∈ lw_tbl := lw_at lw_m5 143 rfl
theorem q1164 : (Jvm.Cond.instanceMethod ({ cls := "RentedViewsModel", name := "allRenters", desc := "()I" } : Jvm.MethodName)) ∈ lw_all := lw_g (lw_at lw_m5 144 rfl) rfl
theorem q1165 : (Jvm.Cond.code ({ cls := "RentedViewsModel", name := "allRenters", desc := "()I" } : Jvm.MethodName) prog_14_method_50_code (1 : Nat) (Option.some Jvm.ClassFile.FieldType.int)) ∈ lw_all := lw_g (lw_at lw_m5 145 rfl) rfl
theorem q1166 : (Jvm.Cond.methodLink "RentedViewsModel" (209 : Nat) ({ cls := "RentedViewsModel", name := "layCome", desc := "(II)V" } : Jvm.MethodName)) ∈ lw_all := lw_g (lw_at lw_m5 146 rfl) rfl
theorem q1167 : (Jvm.Cond.privateMethod ({ cls := "RentedViewsModel", name := "layCome", desc := "(II)V" } : Jvm.MethodName)) ∈ lw_tbl := lw_at lw_m5 147 rfl
theorem q1168 : (Jvm.Cond.instanceMethod ({ cls := "RentedViewsModel", name := "layCome", desc := "(II)V" } : Jvm.MethodName)) ∈ lw_all := lw_g (lw_at lw_m5 148 rfl) rfl
theorem q1169 : (Jvm.Cond.code ({ cls := "RentedViewsModel", name := "layCome", desc := "(II)V" } : Jvm.MethodName) prog_14_method_49_code (8 : Nat) (Option.none : Option Jvm.ClassFile.FieldType)) ∈ lw_all := lw_g (lw_at lw_m5 149 rfl) rfl
theorem q1171 : (Jvm.Cond.instanceMethod ({ cls := "RentedViewsModel", name := "more", desc := "(IIII)I" } : Jvm.MethodName)) ∈ lw_all := lw_g (lw_at lw_m5 151 rfl) rfl
theorem q1172 : (Jvm.Cond.selects "RentedViewsModel" ({ cls := "RentedViewsModel", name := "more", desc := "(IIII)I" } : Jvm.MethodName) ({ cls := "RentedViewsModel", name := "more", desc := "(IIII)I" } : Jvm.MethodName)) ∈ lw_all := lw_g (lw_at lw_m5 152 rfl) rfl
theorem q1173 : (Jvm.Cond.code ({ cls := "RentedViewsModel", name := "more", desc := "(IIII)I" } : Jvm.MethodName) prog_14_method_52_code (6 : Nat) (Option.some Jvm.ClassFile.FieldType.int)) ∈ lw_all := lw_g (lw_at lw_m5 153 rfl) rfl
theorem q1175 : (Jvm.Cond.instanceMethod ({ cls := "RentedViewsModel", name := "changed", desc := "(II)I" } : Jvm.MethodName)) ∈ lw_all := lw_g (lw_at lw_m5 155 rfl) rfl
theorem q1176 : (Jvm.Cond.selects "RentedViewsModel" ({ cls := "RentedViewsModel", name := "changed", desc := "(II)I" } : Jvm.MethodName) ({ cls := "RentedViewsModel", name := "changed", desc := "(II)I" } : Jvm.MethodName)) ∈ lw_all := lw_g (lw_at lw_m5 156 rfl) rfl
theorem q1177 : (Jvm.Cond.code ({ cls := "RentedViewsModel", name := "changed", desc := "(II)I" } : Jvm.MethodName) prog_14_method_53_code (6 : Nat) (Option.some Jvm.ClassFile.FieldType.int)) ∈ lw_all := lw_g (lw_at lw_m5 157 rfl) rfl
theorem q1179 : (Jvm.Cond.instanceMethod ({ cls := "RentedViewsModel", name := "air", desc := "(I)I" } : Jvm.MethodName)) ∈ lw_all := lw_g (lw_at lw_m5 159 rfl) rfl
theorem q1180 : (Jvm.Cond.selects "RentedViewsModel" ({ cls := "RentedViewsModel", name := "air", desc := "(I)I" } : Jvm.MethodName) ({ cls := "RentedViewsModel", name := "air", desc := "(I)I" } : Jvm.MethodName)) ∈ lw_all := lw_g (lw_at lw_m5 160 rfl) rfl
theorem q1181 : (Jvm.Cond.code ({ cls := "RentedViewsModel", name := "air", desc := "(I)I" } : Jvm.MethodName) prog_14_method_55_code (4 : Nat) (Option.some Jvm.ClassFile.FieldType.int)) ∈ lw_all := lw_g (lw_at lw_m5 161 rfl) rfl
theorem q1182 : (Jvm.Cond.methodLink "RentedViewsModel" (212 : Nat) ({ cls := "RentedViewsModel", name := "areOpposite", desc := "(I)Z" } : Jvm.MethodName)) ∈ lw_all := lw_g (lw_at lw_m5 162 rfl) rfl
theorem q1183 : (Jvm.Cond.privateMethod ({ cls := "RentedViewsModel", name := "areOpposite", desc := "(I)Z" } : Jvm.MethodName)) ∈ lw_tbl := lw_at lw_m5 163 rfl
theorem q1184 : (Jvm.Cond.instanceMethod ({ cls := "RentedViewsModel", name := "areOpposite", desc := "(I)Z" } : Jvm.MethodName)) ∈ lw_all := lw_g (lw_at lw_m5 164 rfl) rfl
theorem q1185 : (Jvm.Cond.code ({ cls := "RentedViewsModel", name := "areOpposite", desc := "(I)Z" } : Jvm.MethodName) prog_14_method_54_code (2 : Nat) (Option.some Jvm.ClassFile.FieldType.boolean)) ∈ lw_all := lw_g (lw_at lw_m5 165 rfl) rfl
theorem q1187 : (Jvm.Cond.instanceMethod ({ cls := "RentedViewsModel", name := "bring", desc := "(III)I" } : Jvm.MethodName)) ∈ lw_all := lw_g (lw_at lw_m5 167 rfl) rfl
theorem q1188 : (Jvm.Cond.selects "RentedViewsModel" ({ cls := "RentedViewsModel", name := "bring", desc := "(III)I" } : Jvm.MethodName) ({ cls := "RentedViewsModel", name := "bring", desc := "(III)I" } : Jvm.MethodName)) ∈ lw_all := lw_g (lw_at lw_m5 168 rfl) rfl
theorem q1189 : (Jvm.Cond.code ({ cls := "RentedViewsModel", name := "bring", desc := "(III)I" } : Jvm.MethodName) prog_14_method_56_code (10 : Nat) (Option.some Jvm.ClassFile.FieldType.int)) ∈ lw_all := lw_g (lw_at lw_m5 169 rfl) rfl
theorem q1190 : (Jvm.Cond.constant "RentedViewsModel" (215 : Nat) (1000000 : Int32)) ∈ lw_all := lw_g (lw_at lw_m5 170 rfl) rfl
theorem q1192 : (Jvm.Cond.instanceMethod ({ cls := "RentedViewsModel", name := "left", desc := "(III)I" } : Jvm.MethodName)) ∈ lw_all := lw_g (lw_at lw_m5 172 rfl) rfl
theorem q1193 : (Jvm.Cond.selects "RentedViewsModel" ({ cls := "RentedViewsModel", name := "left", desc := "(III)I" } : Jvm.MethodName) ({ cls := "RentedViewsModel", name := "left", desc := "(III)I" } : Jvm.MethodName)) ∈ lw_all := lw_g (lw_at lw_m5 173 rfl) rfl
theorem q1194 : (Jvm.Cond.code ({ cls := "RentedViewsModel", name := "left", desc := "(III)I" } : Jvm.MethodName) prog_14_method_57_code (7 : Nat) (Option.some Jvm.ClassFile.FieldType.int)) ∈ lw_all := lw_g (lw_at lw_m5 174 rfl) rfl
theorem q1196 : (Jvm.Cond.instanceMethod ({ cls := "RentedViewsModel", name := "reading", desc := "(III)I" } : Jvm.MethodName)) ∈ lw_all := lw_g (lw_at lw_m5 176 rfl) rfl
theorem q1197 : (Jvm.Cond.selects "RentedViewsModel" ({ cls := "RentedViewsModel", name := "reading", desc := "(III)I" } : Jvm.MethodName) ({ cls := "RentedViewsModel", name := "reading", desc := "(III)I" } : Jvm.MethodName)) ∈ lw_all := lw_g (lw_at lw_m5 177 rfl) rfl
theorem q1198 : (Jvm.Cond.code ({ cls := "RentedViewsModel", name := "reading", desc := "(III)I" } : Jvm.MethodName) prog_14_method_58_code (5 : Nat) (Option.some Jvm.ClassFile.FieldType.int)) ∈ lw_all := lw_g (lw_at lw_m5 178 rfl) rfl
theorem q1200 : (Jvm.Cond.instanceMethod ({ cls := "RentedViewsModel", name := "forget", desc := "()I" } : Jvm.MethodName)) ∈ lw_all := lw_g (lw_at lw_m5 180 rfl) rfl
theorem q1201 : (Jvm.Cond.selects "RentedViewsModel" ({ cls := "RentedViewsModel", name := "forget", desc := "()I" } : Jvm.MethodName) ({ cls := "RentedViewsModel", name := "forget", desc := "()I" } : Jvm.MethodName)) ∈ lw_all := lw_g (lw_at lw_m5 181 rfl) rfl
theorem q1202 : (Jvm.Cond.code ({ cls := "RentedViewsModel", name := "forget", desc := "()I" } : Jvm.MethodName) prog_14_method_59_code (2 : Nat) (Option.some Jvm.ClassFile.FieldType.int)) ∈ lw_all := lw_g (lw_at lw_m5 182 rfl) rfl
theorem q1204 : (Jvm.Cond.instanceMethod ({ cls := "RentedViewsModel", name := "is", desc := "(II)I" } : Jvm.MethodName)) ∈ lw_all := lw_g (lw_at lw_m5 184 rfl) rfl
theorem q1205 : (Jvm.Cond.selects "RentedViewsModel" ({ cls := "RentedViewsModel", name := "is", desc := "(II)I" } : Jvm.MethodName) ({ cls := "RentedViewsModel", name := "is", desc := "(II)I" } : Jvm.MethodName)) ∈ lw_all := lw_g (lw_at lw_m5 185 rfl) rfl
theorem q1206 : (Jvm.Cond.code ({ cls := "RentedViewsModel", name := "is", desc := "(II)I" } : Jvm.MethodName) prog_14_method_61_code (7 : Nat) (Option.some Jvm.ClassFile.FieldType.int)) ∈ lw_all := lw_g (lw_at lw_m5 186 rfl) rfl
theorem q1207 : (Jvm.Cond.methodLink "RentedViewsModel" (216 : Nat) ({ cls := "RentedViewsModel", name := "mayBe", desc := "(III)Z" } : Jvm.MethodName)) ∈ lw_all := lw_g (lw_at lw_m5 187 rfl) rfl
theorem q1208 : (Jvm.Cond.privateMethod ({ cls := "RentedViewsModel", name := "mayBe", desc := "(III)Z" } : Jvm.MethodName)) ∈ lw_tbl := lw_at lw_m5 188 rfl
theorem q1209 : (Jvm.Cond.instanceMethod ({ cls := "RentedViewsModel", name := "mayBe", desc := "(III)Z" } : Jvm.MethodName)) ∈ lw_all := lw_g (lw_at lw_m5 189 rfl) rfl
theorem q1210 : (Jvm.Cond.code ({ cls := "RentedViewsModel", name := "mayBe", desc := "(III)Z" } : Jvm.MethodName) prog_14_method_60_code (7 : Nat) (Option.some Jvm.ClassFile.FieldType.boolean)) ∈ lw_all := lw_g (lw_at lw_m5 190 rfl) rfl
theorem q1212 : (Jvm.Cond.instanceMethod ({ cls := "RentedViewsModel", name := "look", desc := "(I)I" } : Jvm.MethodName)) ∈ lw_all := lw_g (lw_at lw_m5 192 rfl) rfl
theorem q1213 : (Jvm.Cond.selects "RentedViewsModel" ({ cls := "RentedViewsModel", name := "look", desc := "(I)I" } : Jvm.MethodName) ({ cls := "RentedViewsModel", name := "look", desc := "(I)I" } : Jvm.MethodName)) ∈ lw_all := lw_g (lw_at lw_m5 193 rfl) rfl
theorem q1214 : (Jvm.Cond.code ({ cls := "RentedViewsModel", name := "look", desc := "(I)I" } : Jvm.MethodName) prog_14_method_63_code (6 : Nat) (Option.some Jvm.ClassFile.FieldType.int)) ∈ lw_all := lw_g (lw_at lw_m5 194 rfl) rfl
theorem q1215 : (Jvm.Cond.methodLink "RentedViewsModel" (219 : Nat) ({ cls := "RentedViewsModel", name := "mostLike", desc := "(II)I" } : Jvm.MethodName)) ∈ lw_all := lw_g (lw_at lw_m5 195 rfl) rfl
theorem q1216 : (Jvm.Cond.privateMethod ({ cls := "RentedViewsModel", name := "mostLike", desc := "(II)I" } : Jvm.MethodName)) ∈ lw_tbl := lw_at lw_m5 196 rfl
theorem q1217 : (Jvm.Cond.instanceMethod ({ cls := "RentedViewsModel", name := "mostLike", desc := "(II)I" } : Jvm.MethodName)) ∈ lw_all := lw_g (lw_at lw_m5 197 rfl) rfl
theorem q1218 : (Jvm.Cond.code ({ cls := "RentedViewsModel", name := "mostLike", desc := "(II)I" } : Jvm.MethodName) prog_14_method_62_code (6 : Nat) (Option.some Jvm.ClassFile.FieldType.int)) ∈ lw_all := lw_g (lw_at lw_m5 198 rfl) rfl
theorem q1220 : (Jvm.Cond.instanceMethod ({ cls := "RentedViewsModel", name := "odds", desc := "(I)I" } : Jvm.MethodName)) ∈ lw_all := lw_g (lw_at lw_m5 200 rfl) rfl
theorem q1221 : (Jvm.Cond.selects "RentedViewsModel" ({ cls := "RentedViewsModel", name := "odds", desc := "(I)I" } : Jvm.MethodName) ({ cls := "RentedViewsModel", name := "odds", desc := "(I)I" } : Jvm.MethodName)) ∈ lw_all := lw_g (lw_at lw_m5 201 rfl) rfl
theorem q1222 : (Jvm.Cond.code ({ cls := "RentedViewsModel", name := "odds", desc := "(I)I" } : Jvm.MethodName) prog_14_method_65_code (10 : Nat) (Option.some Jvm.ClassFile.FieldType.int)) ∈ lw_all := lw_g (lw_at lw_m5 202 rfl) rfl
theorem q1223 : (Jvm.Cond.constantLong "RentedViewsModel" (225 : Nat) (10 : Int64)) ∈ lw_all := lw_g (lw_at lw_m5 203 rfl) rfl
theorem q1224 : (Jvm.Cond.methodLink "RentedViewsModel" (227 : Nat) ({ cls := "RentedViewsModel", name := "fraction", desc := "(JJ)V" } : Jvm.MethodName)) ∈ lw_all := lw_g (lw_at lw_m5 204 rfl) rfl
theorem q1225 : (Jvm.Cond.privateMethod ({ cls := "RentedViewsModel", name := "fraction", desc := "(JJ)V" } : Jvm.MethodName)) ∈ lw_tbl := lw_at lw_m5 205 rfl
theorem q1226 : (Jvm.Cond.instanceMethod ({ cls := "RentedViewsModel", name := "fraction", desc := "(JJ)V" } : Jvm.MethodName)) ∈ lw_all := lw_g (lw_at lw_m5 206 rfl) rfl
theorem q1227 : (Jvm.Cond.code ({ cls := "RentedViewsModel", name := "fraction", desc := "(JJ)V" } : Jvm.MethodName) prog_14_method_64_code (11 : Nat) (Option.none : Option Jvm.ClassFile.FieldType)) ∈ lw_all := lw_g (lw_at lw_m5 207 rfl) rfl
theorem q1229 : (Jvm.Cond.instanceMethod ({ cls := "RentedViewsModel", name := "drawn", desc := "(III)I" } : Jvm.MethodName)) ∈ lw_all := lw_g (lw_at lw_m5 209 rfl) rfl
theorem q1230 : (Jvm.Cond.selects "RentedViewsModel" ({ cls := "RentedViewsModel", name := "drawn", desc := "(III)I" } : Jvm.MethodName) ({ cls := "RentedViewsModel", name := "drawn", desc := "(III)I" } : Jvm.MethodName)) ∈ lw_all := lw_g (lw_at lw_m5 210 rfl) rfl
theorem q1231 : (Jvm.Cond.code ({ cls := "RentedViewsModel", name := "drawn", desc := "(III)I" } : Jvm.MethodName) prog_14_method_66_code (10 : Nat) (Option.some Jvm.ClassFile.FieldType.int)) ∈ lw_all := lw_g (lw_at lw_m5 211 rfl) rfl
theorem q1232 : (Jvm.Cond.constantLong "RentedViewsModel" (231 : Nat) (999999 : Int64)) ∈ lw_all := lw_g (lw_at lw_m5 212 rfl) rfl
theorem q1233 : (Jvm.Cond.constantLong "RentedViewsModel" (233 : Nat) (30 : Int64)) ∈ lw_all := lw_g (lw_at lw_m5 213 rfl) rfl
theorem q1234 : (Jvm.Cond.constantLong "RentedViewsModel" (235 : Nat) (100 : Int64)) ∈ lw_all := lw_g (lw_at lw_m5 214 rfl) rfl
theorem q1235 : (Jvm.Cond.constantLong "RentedViewsModel" (237 : Nat) (1103515245 : Int64)) ∈ lw_all := lw_g (lw_at lw_m5 215 rfl) rfl
theorem q1236 : (Jvm.Cond.constantLong "RentedViewsModel" (239 : Nat) (12345 : Int64)) ∈ lw_all := lw_g (lw_at lw_m5 216 rfl) rfl
theorem q1237 : (Jvm.Cond.constantLong "RentedViewsModel" (241 : Nat) (2147483648 : Int64)) ∈ lw_all := lw_g (lw_at lw_m5 217 rfl) rfl
theorem q1238 : (Jvm.Cond.constantLong "RentedViewsModel" (243 : Nat) (65536 : Int64)) ∈ lw_all := lw_g (lw_at lw_m5 218 rfl) rfl
theorem q1240 : (Jvm.Cond.instanceMethod ({ cls := "RentedViewsModel", name := "type", desc := "(I)I" } : Jvm.MethodName)) ∈ lw_all := lw_g (lw_at lw_m5 220 rfl) rfl
theorem q1241 : (Jvm.Cond.selects "RentedViewsModel" ({ cls := "RentedViewsModel", name := "type", desc := "(I)I" } : Jvm.MethodName) ({ cls := "RentedViewsModel", name := "type", desc := "(I)I" } : Jvm.MethodName)) ∈ lw_all := lw_g (lw_at lw_m5 221 rfl) rfl
theorem q1242 : (Jvm.Cond.code ({ cls := "RentedViewsModel", name := "type", desc := "(I)I" } : Jvm.MethodName) prog_14_method_67_code (2 : Nat) (Option.some Jvm.ClassFile.FieldType.int)) ∈ lw_all := lw_g (lw_at lw_m5 222 rfl) rfl
theorem q1243 : (Jvm.Cond.constantLong "RentedViewsModel" (245 : Nat) (127 : Int64)) ∈ lw_all := lw_g (lw_at lw_m5 223 rfl) rfl
theorem q1245 : (Jvm.Cond.instanceMethod ({ cls := "RentedViewsModel", name := "clear", desc := "()I" } : Jvm.MethodName)) ∈ lw_all := lw_g (lw_at lw_m5 225 rfl) rfl
theorem q1246 : (Jvm.Cond.selects "RentedViewsModel" ({ cls := "RentedViewsModel", name := "clear", desc := "()I" } : Jvm.MethodName) ({ cls := "RentedViewsModel", name := "clear", desc := "()I" } : Jvm.MethodName)) ∈ lw_all := lw_g (lw_at lw_m5 226 rfl) rfl
theorem q1247 : (Jvm.Cond.code ({ cls := "RentedViewsModel", name := "clear", desc := "()I" } : Jvm.MethodName) prog_14_method_68_code (2 : Nat) (Option.some Jvm.ClassFile.FieldType.int)) ∈ lw_all := lw_g (lw_at lw_m5 227 rfl) rfl
theorem q1249 : (Jvm.Cond.instanceMethod ({ cls := "RentedViewsModel", name := "read", desc := "()I" } : Jvm.MethodName)) ∈ lw_all := lw_g (lw_at lw_m5 229 rfl) rfl
theorem q1250 : (Jvm.Cond.selects "RentedViewsModel" ({ cls := "RentedViewsModel", name := "read", desc := "()I" } : Jvm.MethodName) ({ cls := "RentedViewsModel", name := "read", desc := "()I" } : Jvm.MethodName)) ∈ lw_all := lw_g (lw_at lw_m5 230 rfl) rfl
theorem q1251 : (Jvm.Cond.code ({ cls := "RentedViewsModel", name := "read", desc := "()I" } : Jvm.MethodName) prog_14_method_79_code (3 : Nat) (Option.some Jvm.ClassFile.FieldType.int)) ∈ lw_all := lw_g (lw_at lw_m5 231 rfl) rfl
theorem q1252 : (Jvm.Cond.methodLink "RentedViewsModel" (276 : Nat) ({ cls := "RentedViewsModel", name := "lookAt", desc := "(I)V" } : Jvm.MethodName)) ∈ lw_all := lw_g (lw_at lw_m5 232 rfl) rfl
theorem q1253 : (Jvm.Cond.privateMethod ({ cls := "RentedViewsModel", name := "lookAt", desc := "(I)V" } : Jvm.MethodName)) ∈ lw_tbl := lw_at lw_m5 233 rfl
theorem q1254 : (Jvm.Cond.instanceMethod ({ cls := "RentedViewsModel", name := "lookAt", desc := "(I)V" } : Jvm.MethodName)) ∈ lw_all := lw_g (lw_at lw_m5 234 rfl) rfl
theorem q1255 : (Jvm.Cond.code ({ cls := "RentedViewsModel", name := "lookAt", desc := "(I)V" } : Jvm.MethodName) prog_14_method_71_code (5 : Nat) (Option.none : Option Jvm.ClassFile.FieldType)) ∈ lw_all := lw_g (lw_at lw_m5 235 rfl) rfl
theorem q1256 : (Jvm.Cond.methodLink "RentedViewsModel" (270 : Nat) ({ cls := "RentedViewsModel", name := "isSmall", desc := "(I)Z" } : Jvm.MethodName)) ∈ lw_all := lw_g (lw_at lw_m5 236 rfl) rfl
theorem q1257 : (Jvm.Cond.static ({ cls := "RentedViewsModel", name := "isSmall", desc := "(I)Z" } : Jvm.MethodName)) ∈ lw_all := lw_g (lw_at lw_m5 237 rfl) rfl
theorem q1258 : (Jvm.Cond.code ({ cls := "RentedViewsModel", name := "isSmall", desc := "(I)Z" } : Jvm.MethodName) prog_14_method_69_code (1 : Nat) (Option.some Jvm.ClassFile.FieldType.boolean)) ∈ lw_all := lw_g (lw_at lw_m5 238 rfl) rfl
theorem q1259 : (Jvm.Cond.constantLong "RentedViewsModel" (250 : Nat) (97 : Int64)) ∈ lw_all := lw_g (lw_at lw_m5 239 rfl) rfl
theorem q1260 : (Jvm.Cond.constantLong "RentedViewsModel" (252 : Nat) (122 : Int64)) ∈ lw_all := lw_g (lw_at lw_m6 0 rfl) rfl
theorem q1261 : (Jvm.Cond.methodLink "RentedViewsModel" (273 : Nat) ({ cls := "RentedViewsModel", name := "isFigure", desc := "(I)Z" } : Jvm.MethodName)) ∈ lw_all := lw_g (lw_at lw_m6 1 rfl) rfl
theorem q1262 : (Jvm.Cond.static ({ cls := "RentedViewsModel", name := "isFigure", desc := "(I)Z" } : Jvm.MethodName)) ∈ lw_all := lw_g (lw_at lw_m6 2 rfl) rfl
theorem q1263 : (Jvm.Cond.code ({ cls := "RentedViewsModel", name := "isFigure", desc := "(I)Z" } : Jvm.MethodName) prog_14_method_70_code (1 : Nat) (Option.some Jvm.ClassFile.FieldType.boolean)) ∈ lw_all := lw_g (lw_at lw_m6 3 rfl) rfl
theorem q1264 : (Jvm.Cond.constantLong "RentedViewsModel" (254 : Nat) (48 : Int64)) ∈ lw_all := lw_g (lw_at lw_m6 4 rfl) rfl
theorem q1265 : (Jvm.Cond.constantLong "RentedViewsModel" (256 : Nat) (57 : Int64)) ∈ lw_all := lw_g (lw_at lw_m6 5 rfl) rfl
theorem q1266 : (Jvm.Cond.methodLink "RentedViewsModel" (285 : Nat) ({ cls := "RentedViewsModel", name := "isCalled", desc := "(IIIIIII)Z" } : Jvm.MethodName)) ∈ lw_all := lw_g (lw_at lw_m6 6 rfl) rfl
theorem q1267 : (Jvm.Cond.privateMethod ({ cls := "RentedViewsModel", name := "isCalled", desc := "(IIIIIII)Z" } : Jvm.MethodName)) ∈ lw_tbl := lw_at lw_m6 7 rfl
theorem q1268 : (Jvm.Cond.instanceMethod ({ cls := "RentedViewsModel", name := "isCalled", desc := "(IIIIIII)Z" } : Jvm.MethodName)) ∈ lw_all := lw_g (lw_at lw_m6 8 rfl) rfl
theorem q1269 : (Jvm.Cond.code ({ cls := "RentedViewsModel", name := "isCalled", desc := "(IIIIIII)Z" } : Jvm.MethodName) prog_14_method_73_code (10 : Nat) (Option.some Jvm.ClassFile.FieldType.boolean)) ∈ lw_all := lw_g (lw_at lw_m6 9 rfl) rfl
theorem q1270 : (Jvm.Cond.methodLink "RentedViewsModel" (279 : Nat) ({ cls := "RentedViewsModel", name := "goBehind", desc := "()V" } : Jvm.MethodName)) ∈ lw_all := lw_g (lw_at lw_m6 10 rfl) rfl
theorem q1271 : (Jvm.Cond.privateMethod ({ cls := "RentedViewsModel", name := "goBehind", desc := "()V" } : Jvm.MethodName)) ∈ lw_tbl := lw_at lw_m6 11 rfl
theorem q1272 : (Jvm.Cond.instanceMethod ({ cls := "RentedViewsModel", name := "goBehind", desc := "()V" } : Jvm.MethodName)) ∈ lw_all := lw_g (lw_at lw_m6 12 rfl) rfl
theorem q1273 : (Jvm.Cond.code ({ cls := "RentedViewsModel", name := "goBehind", desc := "()V" } : Jvm.MethodName) prog_14_method_72_code (1 : Nat) (Option.none : Option Jvm.ClassFile.FieldType)) ∈ lw_all := lw_g (lw_at lw_m6 13 rfl) rfl
theorem q1274 : (Jvm.Cond.methodLink "RentedViewsModel" (299 : Nat) ({ cls := "RentedViewsModel", name := "takesItem", desc := "()Z" } : Jvm.MethodName)) ∈ lw_all := lw_g (lw_at lw_m6 14 rfl) rfl
theorem q1275 : (Jvm.Cond.privateMethod ({ cls := "RentedViewsModel", name := "takesItem", desc := "()Z" } : Jvm.MethodName)) ∈ lw_tbl := lw_at lw_m6 15 rfl
theorem q1276 : (Jvm.Cond.instanceMethod ({ cls := "RentedViewsModel", name := "takesItem", desc := "()Z" } : Jvm.MethodName)) ∈ lw_all := lw_g (lw_at lw_m6 16 rfl) rfl
theorem q1277 : (Jvm.Cond.code ({ cls := "RentedViewsModel", name := "takesItem", desc := "()Z" } : Jvm.MethodName) prog_14_method_78_code (1 : Nat) (Option.some Jvm.ClassFile.FieldType.boolean)) ∈ lw_all := lw_g (lw_at lw_m6 17 rfl) rfl
theorem q1278 : (Jvm.Cond.methodLink "RentedViewsModel" (289 : Nat) ({ cls := "RentedViewsModel", name := "takesView", desc := "()Z" } : Jvm.MethodName)) ∈ lw_all := lw_g (lw_at lw_m6 18 rfl) rfl
theorem q1279 : (Jvm.Cond.privateMethod ({ cls := "RentedViewsModel", name := "takesView", desc := "()Z" } : Jvm.MethodName)) ∈ lw_tbl := lw_at lw_m6 19 rfl
theorem q1280 : (Jvm.Cond.instanceMethod ({ cls := "RentedViewsModel", name := "takesView", desc := "()Z" } : Jvm.MethodName)) ∈ lw_all := lw_g (lw_at lw_m6 20 rfl) rfl
theorem q1281 : (Jvm.Cond.code ({ cls := "RentedViewsModel", name := "takesView", desc := "()Z" } : Jvm.MethodName) prog_14_method_75_code (1 : Nat) (Option.some Jvm.ClassFile.FieldType.boolean)) ∈ lw_all := lw_g (lw_at lw_m6 21 rfl) rfl
theorem q1282 : (Jvm.Cond.methodLink "RentedViewsModel" (282 : Nat) ({ cls := "RentedViewsModel", name := "takes", desc := "(III)Z" } : Jvm.MethodName)) ∈ lw_all := lw_g (lw_at lw_m6 22 rfl) rfl
theorem q1283 : (Jvm.Cond.privateMethod ({ cls := "RentedViewsModel", name := "takes", desc := "(III)Z" } : Jvm.MethodName)) ∈ lw_tbl := lw_at lw_m6 23 rfl
theorem q1284 : (Jvm.Cond.instanceMethod ({ cls := "RentedViewsModel", name := "takes", desc := "(III)Z" } : Jvm.MethodName)) ∈ lw_all := lw_g (lw_at lw_m6 24 rfl) rfl
theorem q1285 : (Jvm.Cond.code ({ cls := "RentedViewsModel", name := "takes", desc := "(III)Z" } : Jvm.MethodName) prog_14_method_74_code (4 : Nat) (Option.some Jvm.ClassFile.FieldType.boolean)) ∈ lw_all := lw_g (lw_at lw_m6 25 rfl) rfl
theorem q1286 : (Jvm.Cond.methodLink "RentedViewsModel" (293 : Nat) ({ cls := "RentedViewsModel", name := "takesRenter", desc := "()Z" } : Jvm.MethodName)) ∈ lw_all := lw_g (lw_at lw_m6 26 rfl) rfl
theorem q1287 : (Jvm.Cond.privateMethod ({ cls := "RentedViewsModel", name := "takesRenter", desc := "()Z" } : Jvm.MethodName)) ∈ lw_tbl := lw_at lw_m6 27 rfl
theorem q1288 : (Jvm.Cond.instanceMethod ({ cls := "RentedViewsModel", name := "takesRenter", desc := "()Z" } : Jvm.MethodName)) ∈ lw_all := lw_g (lw_at lw_m6 28 rfl) rfl
theorem q1289 : (Jvm.Cond.code ({ cls := "RentedViewsModel", name := "takesRenter", desc := "()Z" } : Jvm.MethodName) prog_14_method_76_code (1 : Nat) (Option.some Jvm.ClassFile.FieldType.boolean)) ∈ lw_all := lw_g (lw_at lw_m6 29 rfl) rfl
theorem q1290 : (Jvm.Cond.methodLink "RentedViewsModel" (296 : Nat) ({ cls := "RentedViewsModel", name := "takesThing", desc := "()Z" } : Jvm.MethodName)) ∈ lw_all := lw_g (lw_at lw_m6 30 rfl) rfl
theorem q1291 : (Jvm.Cond.privateMethod ({ cls := "RentedViewsModel", name := "takesThing", desc := "()Z" } : Jvm.MethodName)) ∈ lw_tbl := lw_at lw_m6 31 rfl
theorem q1292 : (Jvm.Cond.instanceMethod ({ cls := "RentedViewsModel", name := "takesThing", desc := "()Z" } : Jvm.MethodName)) ∈ lw_all := lw_g (lw_at lw_m6 32 rfl) rfl
theorem q1293 : (Jvm.Cond.code ({ cls := "RentedViewsModel", name := "takesThing", desc := "()Z" } : Jvm.MethodName) prog_14_method_77_code (1 : Nat) (Option.some Jvm.ClassFile.FieldType.boolean)) ∈ lw_all := lw_g (lw_at lw_m6 33 rfl) rfl
theorem q1295 : (Jvm.Cond.instanceMethod ({ cls := "RentedViewsModel", name := "part", desc := "(I)J" } : Jvm.MethodName)) ∈ lw_all := lw_g (lw_at lw_m6 35 rfl) rfl
theorem q1296 : (Jvm.Cond.selects "RentedViewsModel" ({ cls := "RentedViewsModel", name := "part", desc := "(I)J" } : Jvm.MethodName) ({ cls := "RentedViewsModel", name := "part", desc := "(I)J" } : Jvm.MethodName)) ∈ lw_all := lw_g (lw_at lw_m6 36 rfl) rfl
theorem q1297 : (Jvm.Cond.code ({ cls := "RentedViewsModel", name := "part", desc := "(I)J" } : Jvm.MethodName) prog_14_method_80_code (2 : Nat) (Option.some Jvm.ClassFile.FieldType.long)) ∈ lw_all := lw_g (lw_at lw_m6 37 rfl) rfl
theorem q1299 : (Jvm.Cond.instanceMethod ({ cls := "RentedViewsModel", name := "image", desc := "(I)I" } : Jvm.MethodName)) ∈ lw_all := lw_g (lw_at lw_m6 39 rfl) rfl
theorem q1300 : (Jvm.Cond.selects "RentedViewsModel" ({ cls := "RentedViewsModel", name := "image", desc := "(I)I" } : Jvm.MethodName) ({ cls := "RentedViewsModel", name := "image", desc := "(I)I" } : Jvm.MethodName)) ∈ lw_all := lw_g (lw_at lw_m6 40 rfl) rfl
theorem q1301 : (Jvm.Cond.code ({ cls := "RentedViewsModel", name := "image", desc := "(I)I" } : Jvm.MethodName) prog_14_method_81_code (3 : Nat) (Option.some Jvm.ClassFile.FieldType.int)) ∈ lw_all := lw_g (lw_at lw_m6 41 rfl) rfl
theorem q1303 : (Jvm.Cond.instanceMethod ({ cls := "RentedViewsModel", name := "from", desc := "(I)I" } : Jvm.MethodName)) ∈ lw_all := lw_g (lw_at lw_m6 43 rfl) rfl
theorem q1304 : (Jvm.Cond.selects "RentedViewsModel" ({ cls := "RentedViewsModel", name := "from", desc := "(I)I" } : Jvm.MethodName) ({ cls := "RentedViewsModel", name := "from", desc := "(I)I" } : Jvm.MethodName)) ∈ lw_all := lw_g (lw_at lw_m6 44 rfl) rfl
theorem q1305 : (Jvm.Cond.code ({ cls := "RentedViewsModel", name := "from", desc := "(I)I" } : Jvm.MethodName) prog_14_method_82_code (3 : Nat) (Option.some Jvm.ClassFile.FieldType.int)) ∈ lw_all := lw_g (lw_at lw_m6 45 rfl) rfl
theorem q1307 : (Jvm.Cond.instanceMethod ({ cls := "RentedViewsModel", name := "status", desc := "(I)I" } : Jvm.MethodName)) ∈ lw_all := lw_g (lw_at lw_m6 47 rfl) rfl
theorem q1308 : (Jvm.Cond.selects "RentedViewsModel" ({ cls := "RentedViewsModel", name := "status", desc := "(I)I" } : Jvm.MethodName) ({ cls := "RentedViewsModel", name := "status", desc := "(I)I" } : Jvm.MethodName)) ∈ lw_all := lw_g (lw_at lw_m6 48 rfl) rfl
theorem q1309 : (Jvm.Cond.code ({ cls := "RentedViewsModel", name := "status", desc := "(I)I" } : Jvm.MethodName) prog_14_method_83_code (2 : Nat) (Option.some Jvm.ClassFile.FieldType.int)) ∈ lw_all := lw_g (lw_at lw_m6 49 rfl) rfl
theorem q1311 : (Jvm.Cond.instanceMethod ({ cls := "RentedViewsModel", name := "count", desc := "(I)I" } : Jvm.MethodName)) ∈ lw_all := lw_g (lw_at lw_m6 51 rfl) rfl
theorem q1312 : (Jvm.Cond.selects "RentedViewsModel" ({ cls := "RentedViewsModel", name := "count", desc := "(I)I" } : Jvm.MethodName) ({ cls := "RentedViewsModel", name := "count", desc := "(I)I" } : Jvm.MethodName)) ∈ lw_all := lw_g (lw_at lw_m6 52 rfl) rfl
theorem q1313 : (Jvm.Cond.code ({ cls := "RentedViewsModel", name := "count", desc := "(I)I" } : Jvm.MethodName) prog_14_method_86_code (2 : Nat) (Option.some Jvm.ClassFile.FieldType.int)) ∈ lw_all := lw_g (lw_at lw_m6 53 rfl) rfl
theorem q1314 : (Jvm.Cond.constantLong "RentedViewsModel" (305 : Nat) (8 : Int64)) ∈ lw_all := lw_g (lw_at lw_m6 54 rfl) rfl
theorem q1315 : (Jvm.Cond.methodLink "RentedViewsModel" (307 : Nat) ({ cls := "RentedViewsModel", name := "counted", desc := "(I)I" } : Jvm.MethodName)) ∈ lw_all := lw_g (lw_at lw_m6 55 rfl) rfl
theorem q1316 : (Jvm.Cond.privateMethod ({ cls := "RentedViewsModel", name := "counted", desc := "(I)I" } : Jvm.MethodName)) ∈ lw_tbl := lw_at lw_m6 56 rfl
theorem q1317 : (Jvm.Cond.instanceMethod ({ cls := "RentedViewsModel", name := "counted", desc := "(I)I" } : Jvm.MethodName)) ∈ lw_all := lw_g (lw_at lw_m6 57 rfl) rfl
theorem q1318 : (Jvm.Cond.code ({ cls := "RentedViewsModel", name := "counted", desc := "(I)I" } : Jvm.MethodName) prog_14_method_85_code (2 : Nat) (Option.some Jvm.ClassFile.FieldType.int)) ∈ lw_all := lw_g (lw_at lw_m6 58 rfl) rfl
theorem q1319 : (Jvm.Cond.methodLink "RentedViewsModel" (302 : Nat) ({ cls := "RentedViewsModel", name := "manyLet", desc := "()I" } : Jvm.MethodName)) ∈ lw_all := lw_g (lw_at lw_m6 59 rfl) rfl
theorem q1320 : (Jvm.Cond.privateMethod ({ cls := "RentedViewsModel", name := "manyLet", desc := "()I" } : Jvm.MethodName)) ∈ lw_tbl := lw_at lw_m6 60 rfl
theorem q1321 : (Jvm.Cond.instanceMethod ({ cls := "RentedViewsModel", name := "manyLet", desc := "()I" } : Jvm.MethodName)) ∈ lw_all := lw_g (lw_at lw_m6 61 rfl) rfl
theorem q1322 : (Jvm.Cond.code ({ cls := "RentedViewsModel", name := "manyLet", desc := "()I" } : Jvm.MethodName) prog_14_method_84_code (3 : Nat) (Option.some Jvm.ClassFile.FieldType.int)) ∈ lw_all := lw_g (lw_at lw_m6 62 rfl) rfl
theorem q1324 : (Jvm.Cond.instanceMethod ({ cls := "RentedViewsModel", name := "digest", desc := "()J" } : Jvm.MethodName)) ∈ lw_all := lw_g (lw_at lw_m6 64 rfl) rfl
theorem q1325 : (Jvm.Cond.selects "RentedViewsModel" ({ cls := "RentedViewsModel", name := "digest", desc := "()J" } : Jvm.MethodName) ({ cls := "RentedViewsModel", name := "digest", desc := "()J" } : Jvm.MethodName)) ∈ lw_all := lw_g (lw_at lw_m6 65 rfl) rfl
theorem q1326 : (Jvm.Cond.code ({ cls := "RentedViewsModel", name := "digest", desc := "()J" } : Jvm.MethodName) prog_14_method_88_code (4 : Nat) (Option.some Jvm.ClassFile.FieldType.long)) ∈ lw_all := lw_g (lw_at lw_m6 66 rfl) rfl
theorem q1327 : (Jvm.Cond.constantLong "RentedViewsModel" (312 : Nat) (997 : Int64)) ∈ lw_all := lw_g (lw_at lw_m6 67 rfl) rfl
theorem q1328 : (Jvm.Cond.constantLong "RentedViewsModel" (310 : Nat) (31 : Int64)) ∈ lw_all := lw_g (lw_at lw_m6 68 rfl) rfl
theorem q1329 : (Jvm.Cond.methodLink "RentedViewsModel" (314 : Nat) ({ cls := "RentedViewsModel", name := "sums", desc := "(JII)J" } : Jvm.MethodName)) ∈ lw_all := lw_g (lw_at lw_m6 69 rfl) rfl
theorem q1330 : (Jvm.Cond.privateMethod ({ cls := "RentedViewsModel", name := "sums", desc := "(JII)J" } : Jvm.MethodName)) ∈ lw_tbl := lw_at lw_m6 70 rfl
theorem q1331 : (Jvm.Cond.instanceMethod ({ cls := "RentedViewsModel", name := "sums", desc := "(JII)J" } : Jvm.MethodName)) ∈ lw_all := lw_g (lw_at lw_m6 71 rfl) rfl
theorem q1332 : (Jvm.Cond.code ({ cls := "RentedViewsModel", name := "sums", desc := "(JII)J" } : Jvm.MethodName) prog_14_method_87_code (8 : Nat) (Option.some Jvm.ClassFile.FieldType.long)) ∈ lw_all := lw_g (lw_at lw_m6 72 rfl) rfl
theorem in_X5 : ∀ w ∈ wsX50, w ∈ lw_all := lw_in wsX50 [924, 926, 928, 930, 932, 934, 936, 938, 940, 942, 944, 946, 948, 950, 952, 954, 956, 958, 960, 962, 964, 966, 968, 970, 972, 974, 976] (by decide +kernel) (by decide +kernel)
