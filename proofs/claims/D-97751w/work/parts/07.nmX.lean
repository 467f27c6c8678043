/-! RentedViews -/
set_option maxRecDepth 100000
def RX0 : String := "RentedViews"
def TX0 : u_T := fun k => match k with
  | 0 => ("RentedViews", "shop", "LRentedViews$Shop;", true)
  | 1 => ("RentedViews", "aside", "LRentedViews$Shop;", true)
  | 2 => ("RentedViews", "images", "[LRentedViews$Shop;", true)
  | 3 => ("RentedViews", "text", "[B", true)
  | 4 => ("RentedViews", "typed", "I", false)
  | 5 => ("RentedViews", "refused", "[I", true)
  | 6 => ("RentedViews", "above", "J", false)
  | 7 => ("RentedViews", "below", "J", false)
  | 8 => ("RentedViews", "reader", "LRentedViews$Reader;", true)
  | 9 => ("RentedViews", "best", "LRentedViews$Best;", true)
  | 10 => ("RentedViews", "suited", "I", false)
  | 11 => ("RentedViews", "paid", "I", false)
  | 12 => ("RentedViews", "pairs", "[Z", true)
  | _ => ("RentedViews", "alike", "[I", true)
def tyX0 : Nat → FieldType := fun k => match k with
  | 0 => .object "RentedViews$Shop"
  | 1 => .object "RentedViews$Shop"
  | 2 => .array (.object "RentedViews$Shop")
  | 3 => .array .byte
  | 4 => .int
  | 5 => .array .int
  | 6 => .long
  | 7 => .long
  | 8 => .object "RentedViews$Reader"
  | 9 => .object "RentedViews$Best"
  | 10 => .int
  | 11 => .int
  | 12 => .array .boolean
  | _ => .array .int
abbrev wsX00 : List Cond := u_ws RX0 TX0 14
set_option maxRecDepth 100000 in
theorem nmX0 : ∀ a, a < 14 → ∀ b, b < 14 → a ≠ b → (TX0 a).2.1 ≠ (TX0 b).2.1 := by decide +kernel
set_option maxRecDepth 100000 in
theorem tyX0_ok : ∀ k, k < 14 → parseFieldDescriptor (TX0 k).2.2.1 = some (tyX0 k) := by decide +kernel
abbrev cX0_init : ByteArray := prog_1_method_3_code
def yX0_init : MethodName := ⟨RX0, "<init>", "()V"⟩
def dkwX0_init_4 : List UInt8 := [42, 180, 0, 30, 182, 0, 78, 177]
abbrev dktX0_init_4 : List UInt8 := dkwX0_init_4 ++ []
def dkwX0_init_3 : List UInt8 := [89, 42, 183, 0, 66, 181, 0, 67, 42, 16, 36, 188, 4, 181, 0, 71, 42, 16, 6, 188, 10, 181, 0, 75]
abbrev dktX0_init_3 : List UInt8 := dkwX0_init_3 ++ dktX0_init_4
def dkwX0_init_2 : List UInt8 := [181, 0, 47, 42, 10, 181, 0, 51, 42, 187, 0, 55, 89, 42, 183, 0, 57, 181, 0, 60, 42, 187, 0, 64]
abbrev dktX0_init_2 : List UInt8 := dkwX0_init_2 ++ dktX0_init_3
def dkwX0_init_1 : List UInt8 := [181, 0, 36, 42, 5, 189, 0, 27, 181, 0, 39, 42, 17, 0, 150, 188, 8, 181, 0, 43, 42, 6, 188, 10]
abbrev dktX0_init_1 : List UInt8 := dkwX0_init_1 ++ dktX0_init_2
def dkwX0_init_0 : List UInt8 := [42, 183, 0, 22, 42, 187, 0, 27, 89, 183, 0, 29, 181, 0, 30, 42, 187, 0, 27, 89, 183, 0, 29]
abbrev dktX0_init_0 : List UInt8 := dkwX0_init_0 ++ dktX0_init_1
theorem dksX0_init_0 : cX0_init.data.toList.drop 0 = dktX0_init_0 := by decide +kernel
theorem dksX0_init_1 : cX0_init.data.toList.drop 23 = dktX0_init_1 := dk_seg dksX0_init_0 23 rfl rfl
theorem dksX0_init_2 : cX0_init.data.toList.drop 47 = dktX0_init_2 := dk_seg dksX0_init_1 24 rfl rfl
theorem dksX0_init_3 : cX0_init.data.toList.drop 71 = dktX0_init_3 := dk_seg dksX0_init_2 24 rfl rfl
theorem dksX0_init_4 : cX0_init.data.toList.drop 95 = dktX0_init_4 := dk_seg dksX0_init_3 24 rfl rfl
theorem dX0_init_0 : decode cX0_init 0 = .ok (.aload_n 0, 1) := dk_42 (dk_at dksX0_init_0 0 rfl rfl)
theorem dX0_init_1 : decode cX0_init 1 = .ok (.invokespecial 22, 3) := dk_183 0 22 (dk_at dksX0_init_0 1 rfl rfl)
theorem dX0_init_4 : decode cX0_init 4 = .ok (.aload_n 0, 1) := dk_42 (dk_at dksX0_init_0 4 rfl rfl)
theorem dX0_init_5 : decode cX0_init 5 = .ok (.new 27, 3) := dk_187 0 27 (dk_at dksX0_init_0 5 rfl rfl)
theorem dX0_init_8 : decode cX0_init 8 = .ok (.dup, 1) := dk_89 (dk_at dksX0_init_0 8 rfl rfl)
theorem dX0_init_9 : decode cX0_init 9 = .ok (.invokespecial 29, 3) := dk_183 0 29 (dk_at dksX0_init_0 9 rfl rfl)
theorem dX0_init_12 : decode cX0_init 12 = .ok (.putfield 30, 3) := dk_181 0 30 (dk_at dksX0_init_0 12 rfl rfl)
theorem dX0_init_15 : decode cX0_init 15 = .ok (.aload_n 0, 1) := dk_42 (dk_at dksX0_init_0 15 rfl rfl)
theorem dX0_init_16 : decode cX0_init 16 = .ok (.new 27, 3) := dk_187 0 27 (dk_at dksX0_init_0 16 rfl rfl)
theorem dX0_init_19 : decode cX0_init 19 = .ok (.dup, 1) := dk_89 (dk_at dksX0_init_0 19 rfl rfl)
theorem dX0_init_20 : decode cX0_init 20 = .ok (.invokespecial 29, 3) := dk_183 0 29 (dk_at dksX0_init_0 20 rfl rfl)
theorem dX0_init_23 : decode cX0_init 23 = .ok (.putfield 36, 3) := dk_181 0 36 (dk_at dksX0_init_1 0 rfl rfl)
theorem dX0_init_26 : decode cX0_init 26 = .ok (.aload_n 0, 1) := dk_42 (dk_at dksX0_init_1 3 rfl rfl)
theorem dX0_init_27 : decode cX0_init 27 = .ok (.iconst 2, 1) := dk_5 (dk_at dksX0_init_1 4 rfl rfl)
theorem dX0_init_28 : decode cX0_init 28 = .ok (.anewarray 27, 3) := dk_189 0 27 (dk_at dksX0_init_1 5 rfl rfl)
theorem dX0_init_31 : decode cX0_init 31 = .ok (.putfield 39, 3) := dk_181 0 39 (dk_at dksX0_init_1 8 rfl rfl)
theorem dX0_init_34 : decode cX0_init 34 = .ok (.aload_n 0, 1) := dk_42 (dk_at dksX0_init_1 11 rfl rfl)
theorem dX0_init_35 : decode cX0_init 35 = .ok (.sipush 150, 3) := dk_17 0 150 (dk_at dksX0_init_1 12 rfl rfl)
theorem dX0_init_38 : decode cX0_init 38 = .ok (.newarray .byte, 2) := dk_188_8 (dk_at dksX0_init_1 15 rfl rfl)
theorem dX0_init_40 : decode cX0_init 40 = .ok (.putfield 43, 3) := dk_181 0 43 (dk_at dksX0_init_1 17 rfl rfl)
theorem dX0_init_43 : decode cX0_init 43 = .ok (.aload_n 0, 1) := dk_42 (dk_at dksX0_init_1 20 rfl rfl)
theorem dX0_init_44 : decode cX0_init 44 = .ok (.iconst 3, 1) := dk_6 (dk_at dksX0_init_1 21 rfl rfl)
theorem dX0_init_45 : decode cX0_init 45 = .ok (.newarray .int, 2) := dk_188_10 (dk_at dksX0_init_1 22 rfl rfl)
theorem dX0_init_47 : decode cX0_init 47 = .ok (.putfield 47, 3) := dk_181 0 47 (dk_at dksX0_init_2 0 rfl rfl)
theorem dX0_init_50 : decode cX0_init 50 = .ok (.aload_n 0, 1) := dk_42 (dk_at dksX0_init_2 3 rfl rfl)
theorem dX0_init_51 : decode cX0_init 51 = .ok (.lconst 1, 1) := dk_10 (dk_at dksX0_init_2 4 rfl rfl)
theorem dX0_init_52 : decode cX0_init 52 = .ok (.putfield 51, 3) := dk_181 0 51 (dk_at dksX0_init_2 5 rfl rfl)
theorem dX0_init_55 : decode cX0_init 55 = .ok (.aload_n 0, 1) := dk_42 (dk_at dksX0_init_2 8 rfl rfl)
theorem dX0_init_56 : decode cX0_init 56 = .ok (.new 55, 3) := dk_187 0 55 (dk_at dksX0_init_2 9 rfl rfl)
theorem dX0_init_59 : decode cX0_init 59 = .ok (.dup, 1) := dk_89 (dk_at dksX0_init_2 12 rfl rfl)
theorem dX0_init_60 : decode cX0_init 60 = .ok (.aload_n 0, 1) := dk_42 (dk_at dksX0_init_2 13 rfl rfl)
theorem dX0_init_61 : decode cX0_init 61 = .ok (.invokespecial 57, 3) := dk_183 0 57 (dk_at dksX0_init_2 14 rfl rfl)
theorem dX0_init_64 : decode cX0_init 64 = .ok (.putfield 60, 3) := dk_181 0 60 (dk_at dksX0_init_2 17 rfl rfl)
theorem dX0_init_67 : decode cX0_init 67 = .ok (.aload_n 0, 1) := dk_42 (dk_at dksX0_init_2 20 rfl rfl)
theorem dX0_init_68 : decode cX0_init 68 = .ok (.new 64, 3) := dk_187 0 64 (dk_at dksX0_init_2 21 rfl rfl)
theorem dX0_init_71 : decode cX0_init 71 = .ok (.dup, 1) := dk_89 (dk_at dksX0_init_3 0 rfl rfl)
theorem dX0_init_72 : decode cX0_init 72 = .ok (.aload_n 0, 1) := dk_42 (dk_at dksX0_init_3 1 rfl rfl)
theorem dX0_init_73 : decode cX0_init 73 = .ok (.invokespecial 66, 3) := dk_183 0 66 (dk_at dksX0_init_3 2 rfl rfl)
theorem dX0_init_76 : decode cX0_init 76 = .ok (.putfield 67, 3) := dk_181 0 67 (dk_at dksX0_init_3 5 rfl rfl)
theorem dX0_init_79 : decode cX0_init 79 = .ok (.aload_n 0, 1) := dk_42 (dk_at dksX0_init_3 8 rfl rfl)
theorem dX0_init_80 : decode cX0_init 80 = .ok (.bipush 36, 2) := dk_16 36 (dk_at dksX0_init_3 9 rfl rfl)
theorem dX0_init_82 : decode cX0_init 82 = .ok (.newarray .boolean, 2) := dk_188_4 (dk_at dksX0_init_3 11 rfl rfl)
theorem dX0_init_84 : decode cX0_init 84 = .ok (.putfield 71, 3) := dk_181 0 71 (dk_at dksX0_init_3 13 rfl rfl)
theorem dX0_init_87 : decode cX0_init 87 = .ok (.aload_n 0, 1) := dk_42 (dk_at dksX0_init_3 16 rfl rfl)
theorem dX0_init_88 : decode cX0_init 88 = .ok (.bipush 6, 2) := dk_16 6 (dk_at dksX0_init_3 17 rfl rfl)
theorem dX0_init_90 : decode cX0_init 90 = .ok (.newarray .int, 2) := dk_188_10 (dk_at dksX0_init_3 19 rfl rfl)
theorem dX0_init_92 : decode cX0_init 92 = .ok (.putfield 75, 3) := dk_181 0 75 (dk_at dksX0_init_3 21 rfl rfl)
theorem dX0_init_95 : decode cX0_init 95 = .ok (.aload_n 0, 1) := dk_42 (dk_at dksX0_init_4 0 rfl rfl)
theorem dX0_init_96 : decode cX0_init 96 = .ok (.getfield 30, 3) := dk_180 0 30 (dk_at dksX0_init_4 1 rfl rfl)
theorem dX0_init_99 : decode cX0_init 99 = .ok (.invokevirtual 78, 3) := dk_182 0 78 (dk_at dksX0_init_4 4 rfl rfl)
theorem dX0_init_102 : decode cX0_init 102 = .ok (.return_, 1) := dk_177 (dk_at dksX0_init_4 7 rfl rfl)
abbrev cX0_shop : ByteArray := prog_1_method_14_code
def yX0_shop : MethodName := ⟨RX0, "shop", "()I"⟩
def dkwX0_shop_0 : List UInt8 := [42, 180, 0, 30, 180, 0, 85, 60, 42, 180, 0, 30, 182, 0, 78, 27, 172]
abbrev dktX0_shop_0 : List UInt8 := dkwX0_shop_0 ++ []
theorem dksX0_shop_0 : cX0_shop.data.toList.drop 0 = dktX0_shop_0 := by decide +kernel
theorem dX0_shop_0 : decode cX0_shop 0 = .ok (.aload_n 0, 1) := dk_42 (dk_at dksX0_shop_0 0 rfl rfl)
theorem dX0_shop_1 : decode cX0_shop 1 = .ok (.getfield 30, 3) := dk_180 0 30 (dk_at dksX0_shop_0 1 rfl rfl)
theorem dX0_shop_4 : decode cX0_shop 4 = .ok (.getfield 85, 3) := dk_180 0 85 (dk_at dksX0_shop_0 4 rfl rfl)
theorem dX0_shop_7 : decode cX0_shop 7 = .ok (.istore_n 1, 1) := dk_60 (dk_at dksX0_shop_0 7 rfl rfl)
theorem dX0_shop_8 : decode cX0_shop 8 = .ok (.aload_n 0, 1) := dk_42 (dk_at dksX0_shop_0 8 rfl rfl)
theorem dX0_shop_9 : decode cX0_shop 9 = .ok (.getfield 30, 3) := dk_180 0 30 (dk_at dksX0_shop_0 9 rfl rfl)
theorem dX0_shop_12 : decode cX0_shop 12 = .ok (.invokevirtual 78, 3) := dk_182 0 78 (dk_at dksX0_shop_0 12 rfl rfl)
theorem dX0_shop_15 : decode cX0_shop 15 = .ok (.iload_n 1, 1) := dk_27 (dk_at dksX0_shop_0 15 rfl rfl)
theorem dX0_shop_16 : decode cX0_shop 16 = .ok (.ireturn, 1) := dk_172 (dk_at dksX0_shop_0 16 rfl rfl)
abbrev cX0_view : ByteArray := prog_1_method_15_code
def yX0_view : MethodName := ⟨RX0, "view", "(IIII)I"⟩
def dkwX0_view_3 : List UInt8 := [29, 21, 4, 184, 0, 117, 182, 0, 121, 42, 180, 0, 30, 180, 0, 85, 4, 100, 172]
abbrev dktX0_view_3 : List UInt8 := dkwX0_view_3 ++ []
def dkwX0_view_2 : List UInt8 := [172, 42, 180, 0, 30, 180, 0, 85, 16, 6, 160, 0, 8, 42, 182, 0, 114, 172, 42, 180, 0, 30, 27, 28]
abbrev dktX0_view_2 : List UInt8 := dkwX0_view_2 ++ dktX0_view_3
def dkwX0_view_1 : List UInt8 := [29, 133, 9, 20, 0, 96, 184, 0, 89, 153, 0, 11, 21, 4, 184, 0, 106, 154, 0, 8, 42, 182, 0, 110]
abbrev dktX0_view_1 : List UInt8 := dkwX0_view_1 ++ dktX0_view_2
def dkwX0_view_0 : List UInt8 := [27, 133, 9, 20, 0, 98, 184, 0, 89, 153, 0, 35, 28, 133, 10, 20, 0, 100, 184, 0, 89, 153, 0, 23]
abbrev dktX0_view_0 : List UInt8 := dkwX0_view_0 ++ dktX0_view_1
theorem dksX0_view_0 : cX0_view.data.toList.drop 0 = dktX0_view_0 := by decide +kernel
theorem dksX0_view_1 : cX0_view.data.toList.drop 24 = dktX0_view_1 := dk_seg dksX0_view_0 24 rfl rfl
theorem dksX0_view_2 : cX0_view.data.toList.drop 48 = dktX0_view_2 := dk_seg dksX0_view_1 24 rfl rfl
theorem dksX0_view_3 : cX0_view.data.toList.drop 72 = dktX0_view_3 := dk_seg dksX0_view_2 24 rfl rfl
theorem dX0_view_0 : decode cX0_view 0 = .ok (.iload_n 1, 1) := dk_27 (dk_at dksX0_view_0 0 rfl rfl)
theorem dX0_view_1 : decode cX0_view 1 = .ok (.i2l, 1) := dk_133 (dk_at dksX0_view_0 1 rfl rfl)
theorem dX0_view_2 : decode cX0_view 2 = .ok (.lconst 0, 1) := dk_9 (dk_at dksX0_view_0 2 rfl rfl)
theorem dX0_view_3 : decode cX0_view 3 = .ok (.ldc2_w 98, 3) := dk_20 0 98 (dk_at dksX0_view_0 3 rfl rfl)
theorem dX0_view_6 : decode cX0_view 6 = .ok (.invokestatic 89, 3) := dk_184 0 89 (dk_at dksX0_view_0 6 rfl rfl)
theorem dX0_view_9 : decode cX0_view 9 = .ok (.ifCond .eq 35, 3) := dk_153 0 35 (dk_at dksX0_view_0 9 rfl rfl)
theorem dX0_view_12 : decode cX0_view 12 = .ok (.iload_n 2, 1) := dk_28 (dk_at dksX0_view_0 12 rfl rfl)
theorem dX0_view_13 : decode cX0_view 13 = .ok (.i2l, 1) := dk_133 (dk_at dksX0_view_0 13 rfl rfl)
theorem dX0_view_14 : decode cX0_view 14 = .ok (.lconst 1, 1) := dk_10 (dk_at dksX0_view_0 14 rfl rfl)
theorem dX0_view_15 : decode cX0_view 15 = .ok (.ldc2_w 100, 3) := dk_20 0 100 (dk_at dksX0_view_0 15 rfl rfl)
theorem dX0_view_18 : decode cX0_view 18 = .ok (.invokestatic 89, 3) := dk_184 0 89 (dk_at dksX0_view_0 18 rfl rfl)
theorem dX0_view_21 : decode cX0_view 21 = .ok (.ifCond .eq 23, 3) := dk_153 0 23 (dk_at dksX0_view_0 21 rfl rfl)
theorem dX0_view_24 : decode cX0_view 24 = .ok (.iload_n 3, 1) := dk_29 (dk_at dksX0_view_1 0 rfl rfl)
theorem dX0_view_25 : decode cX0_view 25 = .ok (.i2l, 1) := dk_133 (dk_at dksX0_view_1 1 rfl rfl)
theorem dX0_view_26 : decode cX0_view 26 = .ok (.lconst 0, 1) := dk_9 (dk_at dksX0_view_1 2 rfl rfl)
theorem dX0_view_27 : decode cX0_view 27 = .ok (.ldc2_w 96, 3) := dk_20 0 96 (dk_at dksX0_view_1 3 rfl rfl)
theorem dX0_view_30 : decode cX0_view 30 = .ok (.invokestatic 89, 3) := dk_184 0 89 (dk_at dksX0_view_1 6 rfl rfl)
theorem dX0_view_33 : decode cX0_view 33 = .ok (.ifCond .eq 11, 3) := dk_153 0 11 (dk_at dksX0_view_1 9 rfl rfl)
theorem dX0_view_36 : decode cX0_view 36 = .ok (.iload 4, 2) := dk_21 4 (dk_at dksX0_view_1 12 rfl rfl)
theorem dX0_view_38 : decode cX0_view 38 = .ok (.invokestatic 106, 3) := dk_184 0 106 (dk_at dksX0_view_1 14 rfl rfl)
theorem dX0_view_41 : decode cX0_view 41 = .ok (.ifCond .ne 8, 3) := dk_154 0 8 (dk_at dksX0_view_1 17 rfl rfl)
theorem dX0_view_44 : decode cX0_view 44 = .ok (.aload_n 0, 1) := dk_42 (dk_at dksX0_view_1 20 rfl rfl)
theorem dX0_view_45 : decode cX0_view 45 = .ok (.invokevirtual 110, 3) := dk_182 0 110 (dk_at dksX0_view_1 21 rfl rfl)
theorem dX0_view_48 : decode cX0_view 48 = .ok (.ireturn, 1) := dk_172 (dk_at dksX0_view_2 0 rfl rfl)
theorem dX0_view_49 : decode cX0_view 49 = .ok (.aload_n 0, 1) := dk_42 (dk_at dksX0_view_2 1 rfl rfl)
theorem dX0_view_50 : decode cX0_view 50 = .ok (.getfield 30, 3) := dk_180 0 30 (dk_at dksX0_view_2 2 rfl rfl)
theorem dX0_view_53 : decode cX0_view 53 = .ok (.getfield 85, 3) := dk_180 0 85 (dk_at dksX0_view_2 5 rfl rfl)
theorem dX0_view_56 : decode cX0_view 56 = .ok (.bipush 6, 2) := dk_16 6 (dk_at dksX0_view_2 8 rfl rfl)
theorem dX0_view_58 : decode cX0_view 58 = .ok (.if_icmp .ne 8, 3) := dk_160 0 8 (dk_at dksX0_view_2 10 rfl rfl)
theorem dX0_view_61 : decode cX0_view 61 = .ok (.aload_n 0, 1) := dk_42 (dk_at dksX0_view_2 13 rfl rfl)
theorem dX0_view_62 : decode cX0_view 62 = .ok (.invokevirtual 114, 3) := dk_182 0 114 (dk_at dksX0_view_2 14 rfl rfl)
theorem dX0_view_65 : decode cX0_view 65 = .ok (.ireturn, 1) := dk_172 (dk_at dksX0_view_2 17 rfl rfl)
theorem dX0_view_66 : decode cX0_view 66 = .ok (.aload_n 0, 1) := dk_42 (dk_at dksX0_view_2 18 rfl rfl)
theorem dX0_view_67 : decode cX0_view 67 = .ok (.getfield 30, 3) := dk_180 0 30 (dk_at dksX0_view_2 19 rfl rfl)
theorem dX0_view_70 : decode cX0_view 70 = .ok (.iload_n 1, 1) := dk_27 (dk_at dksX0_view_2 22 rfl rfl)
theorem dX0_view_71 : decode cX0_view 71 = .ok (.iload_n 2, 1) := dk_28 (dk_at dksX0_view_2 23 rfl rfl)
theorem dX0_view_72 : decode cX0_view 72 = .ok (.iload_n 3, 1) := dk_29 (dk_at dksX0_view_3 0 rfl rfl)
theorem dX0_view_73 : decode cX0_view 73 = .ok (.iload 4, 2) := dk_21 4 (dk_at dksX0_view_3 1 rfl rfl)
theorem dX0_view_75 : decode cX0_view 75 = .ok (.invokestatic 117, 3) := dk_184 0 117 (dk_at dksX0_view_3 3 rfl rfl)
theorem dX0_view_78 : decode cX0_view 78 = .ok (.invokevirtual 121, 3) := dk_182 0 121 (dk_at dksX0_view_3 6 rfl rfl)
theorem dX0_view_81 : decode cX0_view 81 = .ok (.aload_n 0, 1) := dk_42 (dk_at dksX0_view_3 9 rfl rfl)
theorem dX0_view_82 : decode cX0_view 82 = .ok (.getfield 30, 3) := dk_180 0 30 (dk_at dksX0_view_3 10 rfl rfl)
theorem dX0_view_85 : decode cX0_view 85 = .ok (.getfield 85, 3) := dk_180 0 85 (dk_at dksX0_view_3 13 rfl rfl)
theorem dX0_view_88 : decode cX0_view 88 = .ok (.iconst 1, 1) := dk_4 (dk_at dksX0_view_3 16 rfl rfl)
theorem dX0_view_89 : decode cX0_view 89 = .ok (.isub, 1) := dk_100 (dk_at dksX0_view_3 17 rfl rfl)
theorem dX0_view_90 : decode cX0_view 90 = .ok (.ireturn, 1) := dk_172 (dk_at dksX0_view_3 18 rfl rfl)
abbrev cX0_in : ByteArray := prog_1_method_1_code
def yX0_in : MethodName := ⟨RX0, "in", "(JJJ)Z"⟩
def dkwX0_in_0 : List UInt8 := [30, 32, 148, 155, 0, 14, 30, 22, 4, 148, 157, 0, 7, 4, 167, 0, 4, 3, 172]
abbrev dktX0_in_0 : List UInt8 := dkwX0_in_0 ++ []
theorem dksX0_in_0 : cX0_in.data.toList.drop 0 = dktX0_in_0 := by decide +kernel
theorem dX0_in_0 : decode cX0_in 0 = .ok (.lload_n 0, 1) := dk_30 (dk_at dksX0_in_0 0 rfl rfl)
theorem dX0_in_1 : decode cX0_in 1 = .ok (.lload_n 2, 1) := dk_32 (dk_at dksX0_in_0 1 rfl rfl)
theorem dX0_in_2 : decode cX0_in 2 = .ok (.lcmp, 1) := dk_148 (dk_at dksX0_in_0 2 rfl rfl)
theorem dX0_in_3 : decode cX0_in 3 = .ok (.ifCond .lt 14, 3) := dk_155 0 14 (dk_at dksX0_in_0 3 rfl rfl)
theorem dX0_in_6 : decode cX0_in 6 = .ok (.lload_n 0, 1) := dk_30 (dk_at dksX0_in_0 6 rfl rfl)
theorem dX0_in_7 : decode cX0_in 7 = .ok (.lload 4, 2) := dk_22 4 (dk_at dksX0_in_0 7 rfl rfl)
theorem dX0_in_9 : decode cX0_in 9 = .ok (.lcmp, 1) := dk_148 (dk_at dksX0_in_0 9 rfl rfl)
theorem dX0_in_10 : decode cX0_in 10 = .ok (.ifCond .gt 7, 3) := dk_157 0 7 (dk_at dksX0_in_0 10 rfl rfl)
theorem dX0_in_13 : decode cX0_in 13 = .ok (.iconst 1, 1) := dk_4 (dk_at dksX0_in_0 13 rfl rfl)
theorem dX0_in_14 : decode cX0_in 14 = .ok (.goto 4, 3) := dk_167 0 4 (dk_at dksX0_in_0 14 rfl rfl)
theorem dX0_in_17 : decode cX0_in 17 = .ok (.iconst 0, 1) := dk_3 (dk_at dksX0_in_0 17 rfl rfl)
theorem dX0_in_18 : decode cX0_in 18 = .ok (.ireturn, 1) := dk_172 (dk_at dksX0_in_0 18 rfl rfl)
abbrev cX0_isWeather : ByteArray := prog_1_method_12_code
def yX0_isWeather : MethodName := ⟨RX0, "isWeather", "(I)Z"⟩
def dkwX0_isWeather_0 : List UInt8 := [26, 133, 9, 20, 0, 98, 184, 0, 89, 172]
abbrev dktX0_isWeather_0 : List UInt8 := dkwX0_isWeather_0 ++ []
theorem dksX0_isWeather_0 : cX0_isWeather.data.toList.drop 0 = dktX0_isWeather_0 := by decide +kernel
theorem dX0_isWeather_0 : decode cX0_isWeather 0 = .ok (.iload_n 0, 1) := dk_26 (dk_at dksX0_isWeather_0 0 rfl rfl)
theorem dX0_isWeather_1 : decode cX0_isWeather 1 = .ok (.i2l, 1) := dk_133 (dk_at dksX0_isWeather_0 1 rfl rfl)
theorem dX0_isWeather_2 : decode cX0_isWeather 2 = .ok (.lconst 0, 1) := dk_9 (dk_at dksX0_isWeather_0 2 rfl rfl)
theorem dX0_isWeather_3 : decode cX0_isWeather 3 = .ok (.ldc2_w 98, 3) := dk_20 0 98 (dk_at dksX0_isWeather_0 3 rfl rfl)
theorem dX0_isWeather_6 : decode cX0_isWeather 6 = .ok (.invokestatic 89, 3) := dk_184 0 89 (dk_at dksX0_isWeather_0 6 rfl rfl)
theorem dX0_isWeather_9 : decode cX0_isWeather 9 = .ok (.ireturn, 1) := dk_172 (dk_at dksX0_isWeather_0 9 rfl rfl)
abbrev cX0_bad : ByteArray := prog_1_method_5_code
def yX0_bad : MethodName := ⟨RX0, "bad", "()I"⟩
def dkwX0_bad_0 : List UInt8 := [42, 3, 16, 254, 182, 0, 81, 172]
abbrev dktX0_bad_0 : List UInt8 := dkwX0_bad_0 ++ []
theorem dksX0_bad_0 : cX0_bad.data.toList.drop 0 = dktX0_bad_0 := by decide +kernel
theorem dX0_bad_0 : decode cX0_bad 0 = .ok (.aload_n 0, 1) := dk_42 (dk_at dksX0_bad_0 0 rfl rfl)
theorem dX0_bad_1 : decode cX0_bad 1 = .ok (.iconst 0, 1) := dk_3 (dk_at dksX0_bad_0 1 rfl rfl)
theorem dX0_bad_2 : decode cX0_bad 2 = .ok (.bipush (-2), 2) := dk_16 254 (dk_at dksX0_bad_0 2 rfl rfl)
theorem dX0_bad_4 : decode cX0_bad 4 = .ok (.invokevirtual 81, 3) := dk_182 0 81 (dk_at dksX0_bad_0 4 rfl rfl)
theorem dX0_bad_7 : decode cX0_bad 7 = .ok (.ireturn, 1) := dk_172 (dk_at dksX0_bad_0 7 rfl rfl)
abbrev cX0_refuses : ByteArray := prog_1_method_4_code
def yX0_refuses : MethodName := ⟨RX0, "refuses", "(II)I"⟩
def dkwX0_refuses_0 : List UInt8 := [42, 180, 0, 47, 27, 92, 46, 4, 96, 79, 28, 172]
abbrev dktX0_refuses_0 : List UInt8 := dkwX0_refuses_0 ++ []
theorem dksX0_refuses_0 : cX0_refuses.data.toList.drop 0 = dktX0_refuses_0 := by decide +kernel
theorem dX0_refuses_0 : decode cX0_refuses 0 = .ok (.aload_n 0, 1) := dk_42 (dk_at dksX0_refuses_0 0 rfl rfl)
theorem dX0_refuses_1 : decode cX0_refuses 1 = .ok (.getfield 47, 3) := dk_180 0 47 (dk_at dksX0_refuses_0 1 rfl rfl)
theorem dX0_refuses_4 : decode cX0_refuses 4 = .ok (.iload_n 1, 1) := dk_27 (dk_at dksX0_refuses_0 4 rfl rfl)
theorem dX0_refuses_5 : decode cX0_refuses 5 = .ok (.dup2, 1) := dk_92 (dk_at dksX0_refuses_0 5 rfl rfl)
theorem dX0_refuses_6 : decode cX0_refuses 6 = .ok (.iaload, 1) := dk_46 (dk_at dksX0_refuses_0 6 rfl rfl)
theorem dX0_refuses_7 : decode cX0_refuses 7 = .ok (.iconst 1, 1) := dk_4 (dk_at dksX0_refuses_0 7 rfl rfl)
theorem dX0_refuses_8 : decode cX0_refuses 8 = .ok (.iadd, 1) := dk_96 (dk_at dksX0_refuses_0 8 rfl rfl)
theorem dX0_refuses_9 : decode cX0_refuses 9 = .ok (.iastore, 1) := dk_79 (dk_at dksX0_refuses_0 9 rfl rfl)
theorem dX0_refuses_10 : decode cX0_refuses 10 = .ok (.iload_n 2, 1) := dk_28 (dk_at dksX0_refuses_0 10 rfl rfl)
theorem dX0_refuses_11 : decode cX0_refuses 11 = .ok (.ireturn, 1) := dk_172 (dk_at dksX0_refuses_0 11 rfl rfl)
abbrev cX0_full : ByteArray := prog_1_method_7_code
def yX0_full : MethodName := ⟨RX0, "full", "()I"⟩
def dkwX0_full_0 : List UInt8 := [42, 5, 16, 252, 182, 0, 81, 172]
abbrev dktX0_full_0 : List UInt8 := dkwX0_full_0 ++ []
theorem dksX0_full_0 : cX0_full.data.toList.drop 0 = dktX0_full_0 := by decide +kernel
theorem dX0_full_0 : decode cX0_full 0 = .ok (.aload_n 0, 1) := dk_42 (dk_at dksX0_full_0 0 rfl rfl)
theorem dX0_full_1 : decode cX0_full 1 = .ok (.iconst 2, 1) := dk_5 (dk_at dksX0_full_0 1 rfl rfl)
theorem dX0_full_2 : decode cX0_full 2 = .ok (.bipush (-4), 2) := dk_16 252 (dk_at dksX0_full_0 2 rfl rfl)
theorem dX0_full_4 : decode cX0_full 4 = .ok (.invokevirtual 81, 3) := dk_182 0 81 (dk_at dksX0_full_0 4 rfl rfl)
theorem dX0_full_7 : decode cX0_full 7 = .ok (.ireturn, 1) := dk_172 (dk_at dksX0_full_0 7 rfl rfl)
abbrev cX0_made : ByteArray := prog_1_method_2_code
def yX0_made : MethodName := ⟨RX0, "made", "(IIII)LRentedViews$View;"⟩
def dkwX0_made_4 : List UInt8 := [187, 0, 16, 89, 27, 28, 29, 183, 0, 18, 176, 187, 0, 19, 89, 27, 28, 29, 183, 0, 21, 176]
abbrev dktX0_made_4 : List UInt8 := dkwX0_made_4 ++ []
def dkwX0_made_3 : List UInt8 := [187, 0, 10, 89, 27, 28, 29, 183, 0, 12, 176, 187, 0, 13, 89, 27, 28, 29, 183, 0, 15, 176]
abbrev dktX0_made_3 : List UInt8 := dkwX0_made_3 ++ dktX0_made_4
def dkwX0_made_2 : List UInt8 := [187, 0, 1, 89, 27, 28, 29, 183, 0, 3, 176, 187, 0, 7, 89, 27, 28, 29, 183, 0, 9, 176]
abbrev dktX0_made_2 : List UInt8 := dkwX0_made_2 ++ dktX0_made_3
def dkwX0_made_1 : List UInt8 := [170, 0, 0, 0, 0, 0, 90, 0, 0, 0, 1, 0, 0, 0, 5, 0, 0, 0, 35, 0, 0, 0, 46, 0, 0, 0, 57, 0, 0, 0, 68, 0, 0, 0, 79]
abbrev dktX0_made_1 : List UInt8 := dkwX0_made_1 ++ dktX0_made_2
def dkwX0_made_0 : List UInt8 := [26]
abbrev dktX0_made_0 : List UInt8 := dkwX0_made_0 ++ dktX0_made_1
theorem dksX0_made_0 : cX0_made.data.toList.drop 0 = dktX0_made_0 := by decide +kernel
theorem dksX0_made_1 : cX0_made.data.toList.drop 1 = dktX0_made_1 := dk_seg dksX0_made_0 1 rfl rfl
theorem dksX0_made_2 : cX0_made.data.toList.drop 36 = dktX0_made_2 := dk_seg dksX0_made_1 35 rfl rfl
theorem dksX0_made_3 : cX0_made.data.toList.drop 58 = dktX0_made_3 := dk_seg dksX0_made_2 22 rfl rfl
theorem dksX0_made_4 : cX0_made.data.toList.drop 80 = dktX0_made_4 := dk_seg dksX0_made_3 22 rfl rfl
theorem dX0_made_0 : decode cX0_made 0 = .ok (.iload_n 0, 1) := dk_26 (dk_at dksX0_made_0 0 rfl rfl)
theorem dX0_made_1 : decode cX0_made 1 = .ok (.tableswitch 90 1 5 #[35, 46, 57, 68, 79], 35) := by decide +kernel
theorem dX0_made_36 : decode cX0_made 36 = .ok (.new 1, 3) := dk_187 0 1 (dk_at dksX0_made_2 0 rfl rfl)
theorem dX0_made_39 : decode cX0_made 39 = .ok (.dup, 1) := dk_89 (dk_at dksX0_made_2 3 rfl rfl)
theorem dX0_made_40 : decode cX0_made 40 = .ok (.iload_n 1, 1) := dk_27 (dk_at dksX0_made_2 4 rfl rfl)
theorem dX0_made_41 : decode cX0_made 41 = .ok (.iload_n 2, 1) := dk_28 (dk_at dksX0_made_2 5 rfl rfl)
theorem dX0_made_42 : decode cX0_made 42 = .ok (.iload_n 3, 1) := dk_29 (dk_at dksX0_made_2 6 rfl rfl)
theorem dX0_made_43 : decode cX0_made 43 = .ok (.invokespecial 3, 3) := dk_183 0 3 (dk_at dksX0_made_2 7 rfl rfl)
theorem dX0_made_46 : decode cX0_made 46 = .ok (.areturn, 1) := dk_176 (dk_at dksX0_made_2 10 rfl rfl)
theorem dX0_made_47 : decode cX0_made 47 = .ok (.new 7, 3) := dk_187 0 7 (dk_at dksX0_made_2 11 rfl rfl)
theorem dX0_made_50 : decode cX0_made 50 = .ok (.dup, 1) := dk_89 (dk_at dksX0_made_2 14 rfl rfl)
theorem dX0_made_51 : decode cX0_made 51 = .ok (.iload_n 1, 1) := dk_27 (dk_at dksX0_made_2 15 rfl rfl)
theorem dX0_made_52 : decode cX0_made 52 = .ok (.iload_n 2, 1) := dk_28 (dk_at dksX0_made_2 16 rfl rfl)
theorem dX0_made_53 : decode cX0_made 53 = .ok (.iload_n 3, 1) := dk_29 (dk_at dksX0_made_2 17 rfl rfl)
theorem dX0_made_54 : decode cX0_made 54 = .ok (.invokespecial 9, 3) := dk_183 0 9 (dk_at dksX0_made_2 18 rfl rfl)
theorem dX0_made_57 : decode cX0_made 57 = .ok (.areturn, 1) := dk_176 (dk_at dksX0_made_2 21 rfl rfl)
theorem dX0_made_58 : decode cX0_made 58 = .ok (.new 10, 3) := dk_187 0 10 (dk_at dksX0_made_3 0 rfl rfl)
theorem dX0_made_61 : decode cX0_made 61 = .ok (.dup, 1) := dk_89 (dk_at dksX0_made_3 3 rfl rfl)
theorem dX0_made_62 : decode cX0_made 62 = .ok (.iload_n 1, 1) := dk_27 (dk_at dksX0_made_3 4 rfl rfl)
theorem dX0_made_63 : decode cX0_made 63 = .ok (.iload_n 2, 1) := dk_28 (dk_at dksX0_made_3 5 rfl rfl)
theorem dX0_made_64 : decode cX0_made 64 = .ok (.iload_n 3, 1) := dk_29 (dk_at dksX0_made_3 6 rfl rfl)
theorem dX0_made_65 : decode cX0_made 65 = .ok (.invokespecial 12, 3) := dk_183 0 12 (dk_at dksX0_made_3 7 rfl rfl)
theorem dX0_made_68 : decode cX0_made 68 = .ok (.areturn, 1) := dk_176 (dk_at dksX0_made_3 10 rfl rfl)
theorem dX0_made_69 : decode cX0_made 69 = .ok (.new 13, 3) := dk_187 0 13 (dk_at dksX0_made_3 11 rfl rfl)
theorem dX0_made_72 : decode cX0_made 72 = .ok (.dup, 1) := dk_89 (dk_at dksX0_made_3 14 rfl rfl)
theorem dX0_made_73 : decode cX0_made 73 = .ok (.iload_n 1, 1) := dk_27 (dk_at dksX0_made_3 15 rfl rfl)
theorem dX0_made_74 : decode cX0_made 74 = .ok (.iload_n 2, 1) := dk_28 (dk_at dksX0_made_3 16 rfl rfl)
theorem dX0_made_75 : decode cX0_made 75 = .ok (.iload_n 3, 1) := dk_29 (dk_at dksX0_made_3 17 rfl rfl)
theorem dX0_made_76 : decode cX0_made 76 = .ok (.invokespecial 15, 3) := dk_183 0 15 (dk_at dksX0_made_3 18 rfl rfl)
theorem dX0_made_79 : decode cX0_made 79 = .ok (.areturn, 1) := dk_176 (dk_at dksX0_made_3 21 rfl rfl)
theorem dX0_made_80 : decode cX0_made 80 = .ok (.new 16, 3) := dk_187 0 16 (dk_at dksX0_made_4 0 rfl rfl)
theorem dX0_made_83 : decode cX0_made 83 = .ok (.dup, 1) := dk_89 (dk_at dksX0_made_4 3 rfl rfl)
theorem dX0_made_84 : decode cX0_made 84 = .ok (.iload_n 1, 1) := dk_27 (dk_at dksX0_made_4 4 rfl rfl)
theorem dX0_made_85 : decode cX0_made 85 = .ok (.iload_n 2, 1) := dk_28 (dk_at dksX0_made_4 5 rfl rfl)
theorem dX0_made_86 : decode cX0_made 86 = .ok (.iload_n 3, 1) := dk_29 (dk_at dksX0_made_4 6 rfl rfl)
theorem dX0_made_87 : decode cX0_made 87 = .ok (.invokespecial 18, 3) := dk_183 0 18 (dk_at dksX0_made_4 7 rfl rfl)
theorem dX0_made_90 : decode cX0_made 90 = .ok (.areturn, 1) := dk_176 (dk_at dksX0_made_4 10 rfl rfl)
theorem dX0_made_91 : decode cX0_made 91 = .ok (.new 19, 3) := dk_187 0 19 (dk_at dksX0_made_4 11 rfl rfl)
theorem dX0_made_94 : decode cX0_made 94 = .ok (.dup, 1) := dk_89 (dk_at dksX0_made_4 14 rfl rfl)
theorem dX0_made_95 : decode cX0_made 95 = .ok (.iload_n 1, 1) := dk_27 (dk_at dksX0_made_4 15 rfl rfl)
theorem dX0_made_96 : decode cX0_made 96 = .ok (.iload_n 2, 1) := dk_28 (dk_at dksX0_made_4 16 rfl rfl)
theorem dX0_made_97 : decode cX0_made 97 = .ok (.iload_n 3, 1) := dk_29 (dk_at dksX0_made_4 17 rfl rfl)
theorem dX0_made_98 : decode cX0_made 98 = .ok (.invokespecial 21, 3) := dk_183 0 21 (dk_at dksX0_made_4 18 rfl rfl)
theorem dX0_made_101 : decode cX0_made 101 = .ok (.areturn, 1) := dk_176 (dk_at dksX0_made_4 21 rfl rfl)
abbrev cX0_renter : ByteArray := prog_1_method_16_code
def yX0_renter : MethodName := ⟨RX0, "renter", "(III)I"⟩
def dkwX0_renter_2 : List UInt8 := [180, 0, 93, 4, 100, 172]
abbrev dktX0_renter_2 : List UInt8 := dkwX0_renter_2 ++ []
def dkwX0_renter_1 : List UInt8 := [160, 0, 8, 42, 182, 0, 114, 172, 42, 180, 0, 30, 27, 28, 29, 182, 0, 129, 42, 180, 0, 30]
abbrev dktX0_renter_1 : List UInt8 := dkwX0_renter_1 ++ dktX0_renter_2
def dkwX0_renter_0 : List UInt8 := [27, 28, 29, 184, 0, 125, 154, 0, 8, 42, 182, 0, 110, 172, 42, 180, 0, 30, 180, 0, 93, 16, 6]
abbrev dktX0_renter_0 : List UInt8 := dkwX0_renter_0 ++ dktX0_renter_1
theorem dksX0_renter_0 : cX0_renter.data.toList.drop 0 = dktX0_renter_0 := by decide +kernel
theorem dksX0_renter_1 : cX0_renter.data.toList.drop 23 = dktX0_renter_1 := dk_seg dksX0_renter_0 23 rfl rfl
theorem dksX0_renter_2 : cX0_renter.data.toList.drop 45 = dktX0_renter_2 := dk_seg dksX0_renter_1 22 rfl rfl
theorem dX0_renter_0 : decode cX0_renter 0 = .ok (.iload_n 1, 1) := dk_27 (dk_at dksX0_renter_0 0 rfl rfl)
theorem dX0_renter_1 : decode cX0_renter 1 = .ok (.iload_n 2, 1) := dk_28 (dk_at dksX0_renter_0 1 rfl rfl)
theorem dX0_renter_2 : decode cX0_renter 2 = .ok (.iload_n 3, 1) := dk_29 (dk_at dksX0_renter_0 2 rfl rfl)
theorem dX0_renter_3 : decode cX0_renter 3 = .ok (.invokestatic 125, 3) := dk_184 0 125 (dk_at dksX0_renter_0 3 rfl rfl)
theorem dX0_renter_6 : decode cX0_renter 6 = .ok (.ifCond .ne 8, 3) := dk_154 0 8 (dk_at dksX0_renter_0 6 rfl rfl)
theorem dX0_renter_9 : decode cX0_renter 9 = .ok (.aload_n 0, 1) := dk_42 (dk_at dksX0_renter_0 9 rfl rfl)
theorem dX0_renter_10 : decode cX0_renter 10 = .ok (.invokevirtual 110, 3) := dk_182 0 110 (dk_at dksX0_renter_0 10 rfl rfl)
theorem dX0_renter_13 : decode cX0_renter 13 = .ok (.ireturn, 1) := dk_172 (dk_at dksX0_renter_0 13 rfl rfl)
theorem dX0_renter_14 : decode cX0_renter 14 = .ok (.aload_n 0, 1) := dk_42 (dk_at dksX0_renter_0 14 rfl rfl)
theorem dX0_renter_15 : decode cX0_renter 15 = .ok (.getfield 30, 3) := dk_180 0 30 (dk_at dksX0_renter_0 15 rfl rfl)
theorem dX0_renter_18 : decode cX0_renter 18 = .ok (.getfield 93, 3) := dk_180 0 93 (dk_at dksX0_renter_0 18 rfl rfl)
theorem dX0_renter_21 : decode cX0_renter 21 = .ok (.bipush 6, 2) := dk_16 6 (dk_at dksX0_renter_0 21 rfl rfl)
theorem dX0_renter_23 : decode cX0_renter 23 = .ok (.if_icmp .ne 8, 3) := dk_160 0 8 (dk_at dksX0_renter_1 0 rfl rfl)
theorem dX0_renter_26 : decode cX0_renter 26 = .ok (.aload_n 0, 1) := dk_42 (dk_at dksX0_renter_1 3 rfl rfl)
theorem dX0_renter_27 : decode cX0_renter 27 = .ok (.invokevirtual 114, 3) := dk_182 0 114 (dk_at dksX0_renter_1 4 rfl rfl)
theorem dX0_renter_30 : decode cX0_renter 30 = .ok (.ireturn, 1) := dk_172 (dk_at dksX0_renter_1 7 rfl rfl)
theorem dX0_renter_31 : decode cX0_renter 31 = .ok (.aload_n 0, 1) := dk_42 (dk_at dksX0_renter_1 8 rfl rfl)
theorem dX0_renter_32 : decode cX0_renter 32 = .ok (.getfield 30, 3) := dk_180 0 30 (dk_at dksX0_renter_1 9 rfl rfl)
theorem dX0_renter_35 : decode cX0_renter 35 = .ok (.iload_n 1, 1) := dk_27 (dk_at dksX0_renter_1 12 rfl rfl)
theorem dX0_renter_36 : decode cX0_renter 36 = .ok (.iload_n 2, 1) := dk_28 (dk_at dksX0_renter_1 13 rfl rfl)
theorem dX0_renter_37 : decode cX0_renter 37 = .ok (.iload_n 3, 1) := dk_29 (dk_at dksX0_renter_1 14 rfl rfl)
theorem dX0_renter_38 : decode cX0_renter 38 = .ok (.invokevirtual 129, 3) := dk_182 0 129 (dk_at dksX0_renter_1 15 rfl rfl)
theorem dX0_renter_41 : decode cX0_renter 41 = .ok (.aload_n 0, 1) := dk_42 (dk_at dksX0_renter_1 18 rfl rfl)
theorem dX0_renter_42 : decode cX0_renter 42 = .ok (.getfield 30, 3) := dk_180 0 30 (dk_at dksX0_renter_1 19 rfl rfl)
theorem dX0_renter_45 : decode cX0_renter 45 = .ok (.getfield 93, 3) := dk_180 0 93 (dk_at dksX0_renter_2 0 rfl rfl)
theorem dX0_renter_48 : decode cX0_renter 48 = .ok (.iconst 1, 1) := dk_4 (dk_at dksX0_renter_2 3 rfl rfl)
theorem dX0_renter_49 : decode cX0_renter 49 = .ok (.isub, 1) := dk_100 (dk_at dksX0_renter_2 4 rfl rfl)
theorem dX0_renter_50 : decode cX0_renter 50 = .ok (.ireturn, 1) := dk_172 (dk_at dksX0_renter_2 5 rfl rfl)
abbrev cX0_isOne : ByteArray := prog_1_method_13_code
def yX0_isOne : MethodName := ⟨RX0, "isOne", "(III)Z"⟩
def dkwX0_isOne_1 : List UInt8 := [28, 133, 9, 20, 0, 104, 184, 0, 89, 153, 0, 7, 4, 167, 0, 4, 3, 172]
abbrev dktX0_isOne_1 : List UInt8 := dkwX0_isOne_1 ++ []
def dkwX0_isOne_0 : List UInt8 := [26, 133, 10, 20, 0, 100, 184, 0, 89, 153, 0, 31, 27, 133, 9, 20, 0, 102, 184, 0, 89, 153, 0, 19]
abbrev dktX0_isOne_0 : List UInt8 := dkwX0_isOne_0 ++ dktX0_isOne_1
theorem dksX0_isOne_0 : cX0_isOne.data.toList.drop 0 = dktX0_isOne_0 := by decide +kernel
theorem dksX0_isOne_1 : cX0_isOne.data.toList.drop 24 = dktX0_isOne_1 := dk_seg dksX0_isOne_0 24 rfl rfl
theorem dX0_isOne_0 : decode cX0_isOne 0 = .ok (.iload_n 0, 1) := dk_26 (dk_at dksX0_isOne_0 0 rfl rfl)
theorem dX0_isOne_1 : decode cX0_isOne 1 = .ok (.i2l, 1) := dk_133 (dk_at dksX0_isOne_0 1 rfl rfl)
theorem dX0_isOne_2 : decode cX0_isOne 2 = .ok (.lconst 1, 1) := dk_10 (dk_at dksX0_isOne_0 2 rfl rfl)
theorem dX0_isOne_3 : decode cX0_isOne 3 = .ok (.ldc2_w 100, 3) := dk_20 0 100 (dk_at dksX0_isOne_0 3 rfl rfl)
theorem dX0_isOne_6 : decode cX0_isOne 6 = .ok (.invokestatic 89, 3) := dk_184 0 89 (dk_at dksX0_isOne_0 6 rfl rfl)
theorem dX0_isOne_9 : decode cX0_isOne 9 = .ok (.ifCond .eq 31, 3) := dk_153 0 31 (dk_at dksX0_isOne_0 9 rfl rfl)
theorem dX0_isOne_12 : decode cX0_isOne 12 = .ok (.iload_n 1, 1) := dk_27 (dk_at dksX0_isOne_0 12 rfl rfl)
theorem dX0_isOne_13 : decode cX0_isOne 13 = .ok (.i2l, 1) := dk_133 (dk_at dksX0_isOne_0 13 rfl rfl)
theorem dX0_isOne_14 : decode cX0_isOne 14 = .ok (.lconst 0, 1) := dk_9 (dk_at dksX0_isOne_0 14 rfl rfl)
theorem dX0_isOne_15 : decode cX0_isOne 15 = .ok (.ldc2_w 102, 3) := dk_20 0 102 (dk_at dksX0_isOne_0 15 rfl rfl)
theorem dX0_isOne_18 : decode cX0_isOne 18 = .ok (.invokestatic 89, 3) := dk_184 0 89 (dk_at dksX0_isOne_0 18 rfl rfl)
theorem dX0_isOne_21 : decode cX0_isOne 21 = .ok (.ifCond .eq 19, 3) := dk_153 0 19 (dk_at dksX0_isOne_0 21 rfl rfl)
theorem dX0_isOne_24 : decode cX0_isOne 24 = .ok (.iload_n 2, 1) := dk_28 (dk_at dksX0_isOne_1 0 rfl rfl)
theorem dX0_isOne_25 : decode cX0_isOne 25 = .ok (.i2l, 1) := dk_133 (dk_at dksX0_isOne_1 1 rfl rfl)
theorem dX0_isOne_26 : decode cX0_isOne 26 = .ok (.lconst 0, 1) := dk_9 (dk_at dksX0_isOne_1 2 rfl rfl)
theorem dX0_isOne_27 : decode cX0_isOne 27 = .ok (.ldc2_w 104, 3) := dk_20 0 104 (dk_at dksX0_isOne_1 3 rfl rfl)
theorem dX0_isOne_30 : decode cX0_isOne 30 = .ok (.invokestatic 89, 3) := dk_184 0 89 (dk_at dksX0_isOne_1 6 rfl rfl)
theorem dX0_isOne_33 : decode cX0_isOne 33 = .ok (.ifCond .eq 7, 3) := dk_153 0 7 (dk_at dksX0_isOne_1 9 rfl rfl)
theorem dX0_isOne_36 : decode cX0_isOne 36 = .ok (.iconst 1, 1) := dk_4 (dk_at dksX0_isOne_1 12 rfl rfl)
theorem dX0_isOne_37 : decode cX0_isOne 37 = .ok (.goto 4, 3) := dk_167 0 4 (dk_at dksX0_isOne_1 13 rfl rfl)
theorem dX0_isOne_40 : decode cX0_isOne 40 = .ok (.iconst 0, 1) := dk_3 (dk_at dksX0_isOne_1 16 rfl rfl)
theorem dX0_isOne_41 : decode cX0_isOne 41 = .ok (.ireturn, 1) := dk_172 (dk_at dksX0_isOne_1 17 rfl rfl)
abbrev cX0_things : ByteArray := prog_1_method_17_code
def yX0_things : MethodName := ⟨RX0, "things", "(II)I"⟩
def dkwX0_things_1 : List UInt8 := [172, 42, 180, 0, 30, 180, 0, 137, 27, 46, 62, 42, 180, 0, 30, 180, 0, 137, 27, 28, 79, 29, 172]
abbrev dktX0_things_1 : List UInt8 := dkwX0_things_1 ++ []
def dkwX0_things_0 : List UInt8 := [42, 27, 182, 0, 132, 153, 0, 15, 28, 133, 9, 20, 0, 135, 184, 0, 89, 154, 0, 8, 42, 182, 0, 110]
abbrev dktX0_things_0 : List UInt8 := dkwX0_things_0 ++ dktX0_things_1
theorem dksX0_things_0 : cX0_things.data.toList.drop 0 = dktX0_things_0 := by decide +kernel
theorem dksX0_things_1 : cX0_things.data.toList.drop 24 = dktX0_things_1 := dk_seg dksX0_things_0 24 rfl rfl
theorem dX0_things_0 : decode cX0_things 0 = .ok (.aload_n 0, 1) := dk_42 (dk_at dksX0_things_0 0 rfl rfl)
theorem dX0_things_1 : decode cX0_things 1 = .ok (.iload_n 1, 1) := dk_27 (dk_at dksX0_things_0 1 rfl rfl)
theorem dX0_things_2 : decode cX0_things 2 = .ok (.invokevirtual 132, 3) := dk_182 0 132 (dk_at dksX0_things_0 2 rfl rfl)
theorem dX0_things_5 : decode cX0_things 5 = .ok (.ifCond .eq 15, 3) := dk_153 0 15 (dk_at dksX0_things_0 5 rfl rfl)
theorem dX0_things_8 : decode cX0_things 8 = .ok (.iload_n 2, 1) := dk_28 (dk_at dksX0_things_0 8 rfl rfl)
theorem dX0_things_9 : decode cX0_things 9 = .ok (.i2l, 1) := dk_133 (dk_at dksX0_things_0 9 rfl rfl)
theorem dX0_things_10 : decode cX0_things 10 = .ok (.lconst 0, 1) := dk_9 (dk_at dksX0_things_0 10 rfl rfl)
theorem dX0_things_11 : decode cX0_things 11 = .ok (.ldc2_w 135, 3) := dk_20 0 135 (dk_at dksX0_things_0 11 rfl rfl)
theorem dX0_things_14 : decode cX0_things 14 = .ok (.invokestatic 89, 3) := dk_184 0 89 (dk_at dksX0_things_0 14 rfl rfl)
theorem dX0_things_17 : decode cX0_things 17 = .ok (.ifCond .ne 8, 3) := dk_154 0 8 (dk_at dksX0_things_0 17 rfl rfl)
theorem dX0_things_20 : decode cX0_things 20 = .ok (.aload_n 0, 1) := dk_42 (dk_at dksX0_things_0 20 rfl rfl)
theorem dX0_things_21 : decode cX0_things 21 = .ok (.invokevirtual 110, 3) := dk_182 0 110 (dk_at dksX0_things_0 21 rfl rfl)
theorem dX0_things_24 : decode cX0_things 24 = .ok (.ireturn, 1) := dk_172 (dk_at dksX0_things_1 0 rfl rfl)
theorem dX0_things_25 : decode cX0_things 25 = .ok (.aload_n 0, 1) := dk_42 (dk_at dksX0_things_1 1 rfl rfl)
theorem dX0_things_26 : decode cX0_things 26 = .ok (.getfield 30, 3) := dk_180 0 30 (dk_at dksX0_things_1 2 rfl rfl)
theorem dX0_things_29 : decode cX0_things 29 = .ok (.getfield 137, 3) := dk_180 0 137 (dk_at dksX0_things_1 5 rfl rfl)
theorem dX0_things_32 : decode cX0_things 32 = .ok (.iload_n 1, 1) := dk_27 (dk_at dksX0_things_1 8 rfl rfl)
theorem dX0_things_33 : decode cX0_things 33 = .ok (.iaload, 1) := dk_46 (dk_at dksX0_things_1 9 rfl rfl)
theorem dX0_things_34 : decode cX0_things 34 = .ok (.istore_n 3, 1) := dk_62 (dk_at dksX0_things_1 10 rfl rfl)
theorem dX0_things_35 : decode cX0_things 35 = .ok (.aload_n 0, 1) := dk_42 (dk_at dksX0_things_1 11 rfl rfl)
theorem dX0_things_36 : decode cX0_things 36 = .ok (.getfield 30, 3) := dk_180 0 30 (dk_at dksX0_things_1 12 rfl rfl)
theorem dX0_things_39 : decode cX0_things 39 = .ok (.getfield 137, 3) := dk_180 0 137 (dk_at dksX0_things_1 15 rfl rfl)
theorem dX0_things_42 : decode cX0_things 42 = .ok (.iload_n 1, 1) := dk_27 (dk_at dksX0_things_1 18 rfl rfl)
theorem dX0_things_43 : decode cX0_things 43 = .ok (.iload_n 2, 1) := dk_28 (dk_at dksX0_things_1 19 rfl rfl)
theorem dX0_things_44 : decode cX0_things 44 = .ok (.iastore, 1) := dk_79 (dk_at dksX0_things_1 20 rfl rfl)
theorem dX0_things_45 : decode cX0_things 45 = .ok (.iload_n 3, 1) := dk_29 (dk_at dksX0_things_1 21 rfl rfl)
theorem dX0_things_46 : decode cX0_things 46 = .ok (.ireturn, 1) := dk_172 (dk_at dksX0_things_1 22 rfl rfl)
abbrev cX0_isView : ByteArray := prog_1_method_9_code
def yX0_isView : MethodName := ⟨RX0, "isView", "(I)Z"⟩
def dkwX0_isView_0 : List UInt8 := [27, 133, 9, 42, 180, 0, 30, 180, 0, 85, 4, 100, 133, 184, 0, 89, 172]
abbrev dktX0_isView_0 : List UInt8 := dkwX0_isView_0 ++ []
theorem dksX0_isView_0 : cX0_isView.data.toList.drop 0 = dktX0_isView_0 := by decide +kernel
theorem dX0_isView_0 : decode cX0_isView 0 = .ok (.iload_n 1, 1) := dk_27 (dk_at dksX0_isView_0 0 rfl rfl)
theorem dX0_isView_1 : decode cX0_isView 1 = .ok (.i2l, 1) := dk_133 (dk_at dksX0_isView_0 1 rfl rfl)
theorem dX0_isView_2 : decode cX0_isView 2 = .ok (.lconst 0, 1) := dk_9 (dk_at dksX0_isView_0 2 rfl rfl)
theorem dX0_isView_3 : decode cX0_isView 3 = .ok (.aload_n 0, 1) := dk_42 (dk_at dksX0_isView_0 3 rfl rfl)
theorem dX0_isView_4 : decode cX0_isView 4 = .ok (.getfield 30, 3) := dk_180 0 30 (dk_at dksX0_isView_0 4 rfl rfl)
theorem dX0_isView_7 : decode cX0_isView 7 = .ok (.getfield 85, 3) := dk_180 0 85 (dk_at dksX0_isView_0 7 rfl rfl)
theorem dX0_isView_10 : decode cX0_isView 10 = .ok (.iconst 1, 1) := dk_4 (dk_at dksX0_isView_0 10 rfl rfl)
theorem dX0_isView_11 : decode cX0_isView 11 = .ok (.isub, 1) := dk_100 (dk_at dksX0_isView_0 11 rfl rfl)
theorem dX0_isView_12 : decode cX0_isView 12 = .ok (.i2l, 1) := dk_133 (dk_at dksX0_isView_0 12 rfl rfl)
theorem dX0_isView_13 : decode cX0_isView 13 = .ok (.invokestatic 89, 3) := dk_184 0 89 (dk_at dksX0_isView_0 13 rfl rfl)
theorem dX0_isView_16 : decode cX0_isView 16 = .ok (.ireturn, 1) := dk_172 (dk_at dksX0_isView_0 16 rfl rfl)
abbrev cX0_type : ByteArray := prog_1_method_18_code
def yX0_type : MethodName := ⟨RX0, "type", "(I)I"⟩
def dkwX0_type_2 : List UInt8 := [4, 96, 181, 0, 142, 42, 180, 0, 142, 172]
abbrev dktX0_type_2 : List UInt8 := dkwX0_type_2 ++ []
def dkwX0_type_1 : List UInt8 := [160, 0, 8, 42, 182, 0, 114, 172, 42, 180, 0, 43, 42, 180, 0, 142, 27, 145, 84, 42, 89, 180, 0, 142]
abbrev dktX0_type_1 : List UInt8 := dkwX0_type_1 ++ dktX0_type_2
def dkwX0_type_0 : List UInt8 := [27, 133, 9, 20, 0, 140, 184, 0, 89, 154, 0, 8, 42, 182, 0, 110, 172, 42, 180, 0, 142, 17, 0, 150]
abbrev dktX0_type_0 : List UInt8 := dkwX0_type_0 ++ dktX0_type_1
theorem dksX0_type_0 : cX0_type.data.toList.drop 0 = dktX0_type_0 := by decide +kernel
theorem dksX0_type_1 : cX0_type.data.toList.drop 24 = dktX0_type_1 := dk_seg dksX0_type_0 24 rfl rfl
theorem dksX0_type_2 : cX0_type.data.toList.drop 48 = dktX0_type_2 := dk_seg dksX0_type_1 24 rfl rfl
theorem dX0_type_0 : decode cX0_type 0 = .ok (.iload_n 1, 1) := dk_27 (dk_at dksX0_type_0 0 rfl rfl)
theorem dX0_type_1 : decode cX0_type 1 = .ok (.i2l, 1) := dk_133 (dk_at dksX0_type_0 1 rfl rfl)
theorem dX0_type_2 : decode cX0_type 2 = .ok (.lconst 0, 1) := dk_9 (dk_at dksX0_type_0 2 rfl rfl)
theorem dX0_type_3 : decode cX0_type 3 = .ok (.ldc2_w 140, 3) := dk_20 0 140 (dk_at dksX0_type_0 3 rfl rfl)
theorem dX0_type_6 : decode cX0_type 6 = .ok (.invokestatic 89, 3) := dk_184 0 89 (dk_at dksX0_type_0 6 rfl rfl)
theorem dX0_type_9 : decode cX0_type 9 = .ok (.ifCond .ne 8, 3) := dk_154 0 8 (dk_at dksX0_type_0 9 rfl rfl)
theorem dX0_type_12 : decode cX0_type 12 = .ok (.aload_n 0, 1) := dk_42 (dk_at dksX0_type_0 12 rfl rfl)
theorem dX0_type_13 : decode cX0_type 13 = .ok (.invokevirtual 110, 3) := dk_182 0 110 (dk_at dksX0_type_0 13 rfl rfl)
theorem dX0_type_16 : decode cX0_type 16 = .ok (.ireturn, 1) := dk_172 (dk_at dksX0_type_0 16 rfl rfl)
theorem dX0_type_17 : decode cX0_type 17 = .ok (.aload_n 0, 1) := dk_42 (dk_at dksX0_type_0 17 rfl rfl)
theorem dX0_type_18 : decode cX0_type 18 = .ok (.getfield 142, 3) := dk_180 0 142 (dk_at dksX0_type_0 18 rfl rfl)
theorem dX0_type_21 : decode cX0_type 21 = .ok (.sipush 150, 3) := dk_17 0 150 (dk_at dksX0_type_0 21 rfl rfl)
theorem dX0_type_24 : decode cX0_type 24 = .ok (.if_icmp .ne 8, 3) := dk_160 0 8 (dk_at dksX0_type_1 0 rfl rfl)
theorem dX0_type_27 : decode cX0_type 27 = .ok (.aload_n 0, 1) := dk_42 (dk_at dksX0_type_1 3 rfl rfl)
theorem dX0_type_28 : decode cX0_type 28 = .ok (.invokevirtual 114, 3) := dk_182 0 114 (dk_at dksX0_type_1 4 rfl rfl)
theorem dX0_type_31 : decode cX0_type 31 = .ok (.ireturn, 1) := dk_172 (dk_at dksX0_type_1 7 rfl rfl)
theorem dX0_type_32 : decode cX0_type 32 = .ok (.aload_n 0, 1) := dk_42 (dk_at dksX0_type_1 8 rfl rfl)
theorem dX0_type_33 : decode cX0_type 33 = .ok (.getfield 43, 3) := dk_180 0 43 (dk_at dksX0_type_1 9 rfl rfl)
theorem dX0_type_36 : decode cX0_type 36 = .ok (.aload_n 0, 1) := dk_42 (dk_at dksX0_type_1 12 rfl rfl)
theorem dX0_type_37 : decode cX0_type 37 = .ok (.getfield 142, 3) := dk_180 0 142 (dk_at dksX0_type_1 13 rfl rfl)
theorem dX0_type_40 : decode cX0_type 40 = .ok (.iload_n 1, 1) := dk_27 (dk_at dksX0_type_1 16 rfl rfl)
theorem dX0_type_41 : decode cX0_type 41 = .ok (.i2b, 1) := dk_145 (dk_at dksX0_type_1 17 rfl rfl)
theorem dX0_type_42 : decode cX0_type 42 = .ok (.bastore, 1) := dk_84 (dk_at dksX0_type_1 18 rfl rfl)
theorem dX0_type_43 : decode cX0_type 43 = .ok (.aload_n 0, 1) := dk_42 (dk_at dksX0_type_1 19 rfl rfl)
theorem dX0_type_44 : decode cX0_type 44 = .ok (.dup, 1) := dk_89 (dk_at dksX0_type_1 20 rfl rfl)
theorem dX0_type_45 : decode cX0_type 45 = .ok (.getfield 142, 3) := dk_180 0 142 (dk_at dksX0_type_1 21 rfl rfl)
theorem dX0_type_48 : decode cX0_type 48 = .ok (.iconst 1, 1) := dk_4 (dk_at dksX0_type_2 0 rfl rfl)
theorem dX0_type_49 : decode cX0_type 49 = .ok (.iadd, 1) := dk_96 (dk_at dksX0_type_2 1 rfl rfl)
theorem dX0_type_50 : decode cX0_type 50 = .ok (.putfield 142, 3) := dk_181 0 142 (dk_at dksX0_type_2 2 rfl rfl)
theorem dX0_type_53 : decode cX0_type 53 = .ok (.aload_n 0, 1) := dk_42 (dk_at dksX0_type_2 5 rfl rfl)
theorem dX0_type_54 : decode cX0_type 54 = .ok (.getfield 142, 3) := dk_180 0 142 (dk_at dksX0_type_2 6 rfl rfl)
theorem dX0_type_57 : decode cX0_type 57 = .ok (.ireturn, 1) := dk_172 (dk_at dksX0_type_2 9 rfl rfl)
abbrev cX0_clear : ByteArray := prog_1_method_19_code
def yX0_clear : MethodName := ⟨RX0, "clear", "()I"⟩
def dkwX0_clear_0 : List UInt8 := [42, 180, 0, 142, 60, 42, 3, 181, 0, 142, 27, 172]
abbrev dktX0_clear_0 : List UInt8 := dkwX0_clear_0 ++ []
theorem dksX0_clear_0 : cX0_clear.data.toList.drop 0 = dktX0_clear_0 := by decide +kernel
theorem dX0_clear_0 : decode cX0_clear 0 = .ok (.aload_n 0, 1) := dk_42 (dk_at dksX0_clear_0 0 rfl rfl)
theorem dX0_clear_1 : decode cX0_clear 1 = .ok (.getfield 142, 3) := dk_180 0 142 (dk_at dksX0_clear_0 1 rfl rfl)
theorem dX0_clear_4 : decode cX0_clear 4 = .ok (.istore_n 1, 1) := dk_60 (dk_at dksX0_clear_0 4 rfl rfl)
theorem dX0_clear_5 : decode cX0_clear 5 = .ok (.aload_n 0, 1) := dk_42 (dk_at dksX0_clear_0 5 rfl rfl)
theorem dX0_clear_6 : decode cX0_clear 6 = .ok (.iconst 0, 1) := dk_3 (dk_at dksX0_clear_0 6 rfl rfl)
theorem dX0_clear_7 : decode cX0_clear 7 = .ok (.putfield 142, 3) := dk_181 0 142 (dk_at dksX0_clear_0 7 rfl rfl)
theorem dX0_clear_10 : decode cX0_clear 10 = .ok (.iload_n 1, 1) := dk_27 (dk_at dksX0_clear_0 10 rfl rfl)
theorem dX0_clear_11 : decode cX0_clear 11 = .ok (.ireturn, 1) := dk_172 (dk_at dksX0_clear_0 11 rfl rfl)
abbrev cX0_read : ByteArray := prog_1_method_20_code
def yX0_read : MethodName := ⟨RX0, "read", "()I"⟩
def dkwX0_read_1 : List UInt8 := [43, 180, 0, 154, 100, 172]
abbrev dktX0_read_1 : List UInt8 := dkwX0_read_1 ++ []
def dkwX0_read_0 : List UInt8 := [42, 180, 0, 60, 182, 0, 145, 60, 42, 180, 0, 30, 42, 180, 0, 36, 182, 0, 148, 27, 172, 76, 16, 246]
abbrev dktX0_read_0 : List UInt8 := dkwX0_read_0 ++ dktX0_read_1
theorem dksX0_read_0 : cX0_read.data.toList.drop 0 = dktX0_read_0 := by decide +kernel
theorem dksX0_read_1 : cX0_read.data.toList.drop 24 = dktX0_read_1 := dk_seg dksX0_read_0 24 rfl rfl
theorem dX0_read_0 : decode cX0_read 0 = .ok (.aload_n 0, 1) := dk_42 (dk_at dksX0_read_0 0 rfl rfl)
theorem dX0_read_1 : decode cX0_read 1 = .ok (.getfield 60, 3) := dk_180 0 60 (dk_at dksX0_read_0 1 rfl rfl)
theorem dX0_read_4 : decode cX0_read 4 = .ok (.invokevirtual 145, 3) := dk_182 0 145 (dk_at dksX0_read_0 4 rfl rfl)
theorem dX0_read_7 : decode cX0_read 7 = .ok (.istore_n 1, 1) := dk_60 (dk_at dksX0_read_0 7 rfl rfl)
theorem dX0_read_8 : decode cX0_read 8 = .ok (.aload_n 0, 1) := dk_42 (dk_at dksX0_read_0 8 rfl rfl)
theorem dX0_read_9 : decode cX0_read 9 = .ok (.getfield 30, 3) := dk_180 0 30 (dk_at dksX0_read_0 9 rfl rfl)
theorem dX0_read_12 : decode cX0_read 12 = .ok (.aload_n 0, 1) := dk_42 (dk_at dksX0_read_0 12 rfl rfl)
theorem dX0_read_13 : decode cX0_read 13 = .ok (.getfield 36, 3) := dk_180 0 36 (dk_at dksX0_read_0 13 rfl rfl)
theorem dX0_read_16 : decode cX0_read 16 = .ok (.invokevirtual 148, 3) := dk_182 0 148 (dk_at dksX0_read_0 16 rfl rfl)
theorem dX0_read_19 : decode cX0_read 19 = .ok (.iload_n 1, 1) := dk_27 (dk_at dksX0_read_0 19 rfl rfl)
theorem dX0_read_20 : decode cX0_read 20 = .ok (.ireturn, 1) := dk_172 (dk_at dksX0_read_0 20 rfl rfl)
theorem dX0_read_21 : decode cX0_read 21 = .ok (.astore_n 1, 1) := dk_76 (dk_at dksX0_read_0 21 rfl rfl)
theorem dX0_read_22 : decode cX0_read 22 = .ok (.bipush (-10), 2) := dk_16 246 (dk_at dksX0_read_0 22 rfl rfl)
theorem dX0_read_24 : decode cX0_read 24 = .ok (.aload_n 1, 1) := dk_43 (dk_at dksX0_read_1 0 rfl rfl)
theorem dX0_read_25 : decode cX0_read 25 = .ok (.getfield 154, 3) := dk_180 0 154 (dk_at dksX0_read_1 1 rfl rfl)
theorem dX0_read_28 : decode cX0_read 28 = .ok (.isub, 1) := dk_100 (dk_at dksX0_read_1 4 rfl rfl)
theorem dX0_read_29 : decode cX0_read 29 = .ok (.ireturn, 1) := dk_172 (dk_at dksX0_read_1 5 rfl rfl)
abbrev cX0_let : ByteArray := prog_1_method_21_code
def yX0_let : MethodName := ⟨RX0, "let", "(II)I"⟩
def dkwX0_let_6 : List UInt8 := [180, 0, 195, 25, 4, 182, 0, 183, 96, 181, 0, 195, 45, 27, 28, 182, 0, 198, 25, 4, 182, 0, 183, 172]
abbrev dktX0_let_6 : List UInt8 := dkwX0_let_6 ++ []
def dkwX0_let_5 : List UInt8 := [45, 180, 0, 168, 27, 28, 79, 45, 180, 0, 186, 28, 92, 46, 25, 4, 182, 0, 183, 100, 79, 45, 89]
abbrev dktX0_let_5 : List UInt8 := dkwX0_let_5 ++ dktX0_let_6
def dkwX0_let_4 : List UInt8 := [182, 0, 183, 45, 180, 0, 186, 28, 46, 164, 0, 8, 42, 182, 0, 189, 172, 42, 180, 0, 30, 182, 0, 192]
abbrev dktX0_let_4 : List UInt8 := dkwX0_let_4 ++ dktX0_let_5
def dkwX0_let_3 : List UInt8 := [21, 5, 153, 0, 34, 25, 4, 42, 180, 0, 30, 180, 0, 177, 28, 46, 182, 0, 180, 153, 0, 17, 25, 4]
abbrev dktX0_let_3 : List UInt8 := dkwX0_let_3 ++ dktX0_let_4
def dkwX0_let_2 : List UInt8 := [2, 160, 0, 19, 42, 180, 0, 30, 28, 182, 0, 173, 2, 160, 0, 7, 4, 167, 0, 4, 3, 54, 5]
abbrev dktX0_let_2 : List UInt8 := dkwX0_let_2 ++ dktX0_let_3
def dkwX0_let_1 : List UInt8 := [180, 0, 30, 180, 0, 160, 78, 42, 180, 0, 30, 180, 0, 164, 27, 50, 58, 4, 45, 180, 0, 168, 27, 46]
abbrev dktX0_let_1 : List UInt8 := dkwX0_let_1 ++ dktX0_let_2
def dkwX0_let_0 : List UInt8 := [42, 27, 182, 0, 132, 153, 0, 11, 42, 28, 182, 0, 157, 154, 0, 8, 42, 182, 0, 110, 172, 42]
abbrev dktX0_let_0 : List UInt8 := dkwX0_let_0 ++ dktX0_let_1
theorem dksX0_let_0 : cX0_let.data.toList.drop 0 = dktX0_let_0 := by decide +kernel
theorem dksX0_let_1 : cX0_let.data.toList.drop 22 = dktX0_let_1 := dk_seg dksX0_let_0 22 rfl rfl
theorem dksX0_let_2 : cX0_let.data.toList.drop 46 = dktX0_let_2 := dk_seg dksX0_let_1 24 rfl rfl
theorem dksX0_let_3 : cX0_let.data.toList.drop 69 = dktX0_let_3 := dk_seg dksX0_let_2 23 rfl rfl
theorem dksX0_let_4 : cX0_let.data.toList.drop 93 = dktX0_let_4 := dk_seg dksX0_let_3 24 rfl rfl
theorem dksX0_let_5 : cX0_let.data.toList.drop 117 = dktX0_let_5 := dk_seg dksX0_let_4 24 rfl rfl
theorem dksX0_let_6 : cX0_let.data.toList.drop 140 = dktX0_let_6 := dk_seg dksX0_let_5 23 rfl rfl
theorem dX0_let_0 : decode cX0_let 0 = .ok (.aload_n 0, 1) := dk_42 (dk_at dksX0_let_0 0 rfl rfl)
theorem dX0_let_1 : decode cX0_let 1 = .ok (.iload_n 1, 1) := dk_27 (dk_at dksX0_let_0 1 rfl rfl)
theorem dX0_let_2 : decode cX0_let 2 = .ok (.invokevirtual 132, 3) := dk_182 0 132 (dk_at dksX0_let_0 2 rfl rfl)
theorem dX0_let_5 : decode cX0_let 5 = .ok (.ifCond .eq 11, 3) := dk_153 0 11 (dk_at dksX0_let_0 5 rfl rfl)
theorem dX0_let_8 : decode cX0_let 8 = .ok (.aload_n 0, 1) := dk_42 (dk_at dksX0_let_0 8 rfl rfl)
theorem dX0_let_9 : decode cX0_let 9 = .ok (.iload_n 2, 1) := dk_28 (dk_at dksX0_let_0 9 rfl rfl)
theorem dX0_let_10 : decode cX0_let 10 = .ok (.invokevirtual 157, 3) := dk_182 0 157 (dk_at dksX0_let_0 10 rfl rfl)
theorem dX0_let_13 : decode cX0_let 13 = .ok (.ifCond .ne 8, 3) := dk_154 0 8 (dk_at dksX0_let_0 13 rfl rfl)
theorem dX0_let_16 : decode cX0_let 16 = .ok (.aload_n 0, 1) := dk_42 (dk_at dksX0_let_0 16 rfl rfl)
theorem dX0_let_17 : decode cX0_let 17 = .ok (.invokevirtual 110, 3) := dk_182 0 110 (dk_at dksX0_let_0 17 rfl rfl)
theorem dX0_let_20 : decode cX0_let 20 = .ok (.ireturn, 1) := dk_172 (dk_at dksX0_let_0 20 rfl rfl)
theorem dX0_let_21 : decode cX0_let 21 = .ok (.aload_n 0, 1) := dk_42 (dk_at dksX0_let_0 21 rfl rfl)
theorem dX0_let_22 : decode cX0_let 22 = .ok (.getfield 30, 3) := dk_180 0 30 (dk_at dksX0_let_1 0 rfl rfl)
theorem dX0_let_25 : decode cX0_let 25 = .ok (.getfield 160, 3) := dk_180 0 160 (dk_at dksX0_let_1 3 rfl rfl)
theorem dX0_let_28 : decode cX0_let 28 = .ok (.astore_n 3, 1) := dk_78 (dk_at dksX0_let_1 6 rfl rfl)
theorem dX0_let_29 : decode cX0_let 29 = .ok (.aload_n 0, 1) := dk_42 (dk_at dksX0_let_1 7 rfl rfl)
theorem dX0_let_30 : decode cX0_let 30 = .ok (.getfield 30, 3) := dk_180 0 30 (dk_at dksX0_let_1 8 rfl rfl)
theorem dX0_let_33 : decode cX0_let 33 = .ok (.getfield 164, 3) := dk_180 0 164 (dk_at dksX0_let_1 11 rfl rfl)
theorem dX0_let_36 : decode cX0_let 36 = .ok (.iload_n 1, 1) := dk_27 (dk_at dksX0_let_1 14 rfl rfl)
theorem dX0_let_37 : decode cX0_let 37 = .ok (.aaload, 1) := dk_50 (dk_at dksX0_let_1 15 rfl rfl)
theorem dX0_let_38 : decode cX0_let 38 = .ok (.astore 4, 2) := dk_58 4 (dk_at dksX0_let_1 16 rfl rfl)
theorem dX0_let_40 : decode cX0_let 40 = .ok (.aload_n 3, 1) := dk_45 (dk_at dksX0_let_1 18 rfl rfl)
theorem dX0_let_41 : decode cX0_let 41 = .ok (.getfield 168, 3) := dk_180 0 168 (dk_at dksX0_let_1 19 rfl rfl)
theorem dX0_let_44 : decode cX0_let 44 = .ok (.iload_n 1, 1) := dk_27 (dk_at dksX0_let_1 22 rfl rfl)
theorem dX0_let_45 : decode cX0_let 45 = .ok (.iaload, 1) := dk_46 (dk_at dksX0_let_1 23 rfl rfl)
theorem dX0_let_46 : decode cX0_let 46 = .ok (.iconst (-1), 1) := dk_2 (dk_at dksX0_let_2 0 rfl rfl)
theorem dX0_let_47 : decode cX0_let 47 = .ok (.if_icmp .ne 19, 3) := dk_160 0 19 (dk_at dksX0_let_2 1 rfl rfl)
theorem dX0_let_50 : decode cX0_let 50 = .ok (.aload_n 0, 1) := dk_42 (dk_at dksX0_let_2 4 rfl rfl)
theorem dX0_let_51 : decode cX0_let 51 = .ok (.getfield 30, 3) := dk_180 0 30 (dk_at dksX0_let_2 5 rfl rfl)
theorem dX0_let_54 : decode cX0_let 54 = .ok (.iload_n 2, 1) := dk_28 (dk_at dksX0_let_2 8 rfl rfl)
theorem dX0_let_55 : decode cX0_let 55 = .ok (.invokevirtual 173, 3) := dk_182 0 173 (dk_at dksX0_let_2 9 rfl rfl)
theorem dX0_let_58 : decode cX0_let 58 = .ok (.iconst (-1), 1) := dk_2 (dk_at dksX0_let_2 12 rfl rfl)
theorem dX0_let_59 : decode cX0_let 59 = .ok (.if_icmp .ne 7, 3) := dk_160 0 7 (dk_at dksX0_let_2 13 rfl rfl)
theorem dX0_let_62 : decode cX0_let 62 = .ok (.iconst 1, 1) := dk_4 (dk_at dksX0_let_2 16 rfl rfl)
theorem dX0_let_63 : decode cX0_let 63 = .ok (.goto 4, 3) := dk_167 0 4 (dk_at dksX0_let_2 17 rfl rfl)
theorem dX0_let_66 : decode cX0_let 66 = .ok (.iconst 0, 1) := dk_3 (dk_at dksX0_let_2 20 rfl rfl)
theorem dX0_let_67 : decode cX0_let 67 = .ok (.istore 5, 2) := dk_54 5 (dk_at dksX0_let_2 21 rfl rfl)
theorem dX0_let_69 : decode cX0_let 69 = .ok (.iload 5, 2) := dk_21 5 (dk_at dksX0_let_3 0 rfl rfl)
theorem dX0_let_71 : decode cX0_let 71 = .ok (.ifCond .eq 34, 3) := dk_153 0 34 (dk_at dksX0_let_3 2 rfl rfl)
theorem dX0_let_74 : decode cX0_let 74 = .ok (.aload 4, 2) := dk_25 4 (dk_at dksX0_let_3 5 rfl rfl)
theorem dX0_let_76 : decode cX0_let 76 = .ok (.aload_n 0, 1) := dk_42 (dk_at dksX0_let_3 7 rfl rfl)
theorem dX0_let_77 : decode cX0_let 77 = .ok (.getfield 30, 3) := dk_180 0 30 (dk_at dksX0_let_3 8 rfl rfl)
theorem dX0_let_80 : decode cX0_let 80 = .ok (.getfield 177, 3) := dk_180 0 177 (dk_at dksX0_let_3 11 rfl rfl)
theorem dX0_let_83 : decode cX0_let 83 = .ok (.iload_n 2, 1) := dk_28 (dk_at dksX0_let_3 14 rfl rfl)
theorem dX0_let_84 : decode cX0_let 84 = .ok (.iaload, 1) := dk_46 (dk_at dksX0_let_3 15 rfl rfl)
theorem dX0_let_85 : decode cX0_let 85 = .ok (.invokevirtual 180, 3) := dk_182 0 180 (dk_at dksX0_let_3 16 rfl rfl)
theorem dX0_let_88 : decode cX0_let 88 = .ok (.ifCond .eq 17, 3) := dk_153 0 17 (dk_at dksX0_let_3 19 rfl rfl)
theorem dX0_let_91 : decode cX0_let 91 = .ok (.aload 4, 2) := dk_25 4 (dk_at dksX0_let_3 22 rfl rfl)
theorem dX0_let_93 : decode cX0_let 93 = .ok (.invokevirtual 183, 3) := dk_182 0 183 (dk_at dksX0_let_4 0 rfl rfl)
theorem dX0_let_96 : decode cX0_let 96 = .ok (.aload_n 3, 1) := dk_45 (dk_at dksX0_let_4 3 rfl rfl)
theorem dX0_let_97 : decode cX0_let 97 = .ok (.getfield 186, 3) := dk_180 0 186 (dk_at dksX0_let_4 4 rfl rfl)
theorem dX0_let_100 : decode cX0_let 100 = .ok (.iload_n 2, 1) := dk_28 (dk_at dksX0_let_4 7 rfl rfl)
theorem dX0_let_101 : decode cX0_let 101 = .ok (.iaload, 1) := dk_46 (dk_at dksX0_let_4 8 rfl rfl)
theorem dX0_let_102 : decode cX0_let 102 = .ok (.if_icmp .le 8, 3) := dk_164 0 8 (dk_at dksX0_let_4 9 rfl rfl)
theorem dX0_let_105 : decode cX0_let 105 = .ok (.aload_n 0, 1) := dk_42 (dk_at dksX0_let_4 12 rfl rfl)
theorem dX0_let_106 : decode cX0_let 106 = .ok (.invokevirtual 189, 3) := dk_182 0 189 (dk_at dksX0_let_4 13 rfl rfl)
theorem dX0_let_109 : decode cX0_let 109 = .ok (.ireturn, 1) := dk_172 (dk_at dksX0_let_4 16 rfl rfl)
theorem dX0_let_110 : decode cX0_let 110 = .ok (.aload_n 0, 1) := dk_42 (dk_at dksX0_let_4 17 rfl rfl)
theorem dX0_let_111 : decode cX0_let 111 = .ok (.getfield 30, 3) := dk_180 0 30 (dk_at dksX0_let_4 18 rfl rfl)
theorem dX0_let_114 : decode cX0_let 114 = .ok (.invokevirtual 192, 3) := dk_182 0 192 (dk_at dksX0_let_4 21 rfl rfl)
theorem dX0_let_117 : decode cX0_let 117 = .ok (.aload_n 3, 1) := dk_45 (dk_at dksX0_let_5 0 rfl rfl)
theorem dX0_let_118 : decode cX0_let 118 = .ok (.getfield 168, 3) := dk_180 0 168 (dk_at dksX0_let_5 1 rfl rfl)
theorem dX0_let_121 : decode cX0_let 121 = .ok (.iload_n 1, 1) := dk_27 (dk_at dksX0_let_5 4 rfl rfl)
theorem dX0_let_122 : decode cX0_let 122 = .ok (.iload_n 2, 1) := dk_28 (dk_at dksX0_let_5 5 rfl rfl)
theorem dX0_let_123 : decode cX0_let 123 = .ok (.iastore, 1) := dk_79 (dk_at dksX0_let_5 6 rfl rfl)
theorem dX0_let_124 : decode cX0_let 124 = .ok (.aload_n 3, 1) := dk_45 (dk_at dksX0_let_5 7 rfl rfl)
theorem dX0_let_125 : decode cX0_let 125 = .ok (.getfield 186, 3) := dk_180 0 186 (dk_at dksX0_let_5 8 rfl rfl)
theorem dX0_let_128 : decode cX0_let 128 = .ok (.iload_n 2, 1) := dk_28 (dk_at dksX0_let_5 11 rfl rfl)
theorem dX0_let_129 : decode cX0_let 129 = .ok (.dup2, 1) := dk_92 (dk_at dksX0_let_5 12 rfl rfl)
theorem dX0_let_130 : decode cX0_let 130 = .ok (.iaload, 1) := dk_46 (dk_at dksX0_let_5 13 rfl rfl)
theorem dX0_let_131 : decode cX0_let 131 = .ok (.aload 4, 2) := dk_25 4 (dk_at dksX0_let_5 14 rfl rfl)
theorem dX0_let_133 : decode cX0_let 133 = .ok (.invokevirtual 183, 3) := dk_182 0 183 (dk_at dksX0_let_5 16 rfl rfl)
theorem dX0_let_136 : decode cX0_let 136 = .ok (.isub, 1) := dk_100 (dk_at dksX0_let_5 19 rfl rfl)
theorem dX0_let_137 : decode cX0_let 137 = .ok (.iastore, 1) := dk_79 (dk_at dksX0_let_5 20 rfl rfl)
theorem dX0_let_138 : decode cX0_let 138 = .ok (.aload_n 3, 1) := dk_45 (dk_at dksX0_let_5 21 rfl rfl)
theorem dX0_let_139 : decode cX0_let 139 = .ok (.dup, 1) := dk_89 (dk_at dksX0_let_5 22 rfl rfl)
theorem dX0_let_140 : decode cX0_let 140 = .ok (.getfield 195, 3) := dk_180 0 195 (dk_at dksX0_let_6 0 rfl rfl)
theorem dX0_let_143 : decode cX0_let 143 = .ok (.aload 4, 2) := dk_25 4 (dk_at dksX0_let_6 3 rfl rfl)
theorem dX0_let_145 : decode cX0_let 145 = .ok (.invokevirtual 183, 3) := dk_182 0 183 (dk_at dksX0_let_6 5 rfl rfl)
theorem dX0_let_148 : decode cX0_let 148 = .ok (.iadd, 1) := dk_96 (dk_at dksX0_let_6 8 rfl rfl)
theorem dX0_let_149 : decode cX0_let 149 = .ok (.putfield 195, 3) := dk_181 0 195 (dk_at dksX0_let_6 9 rfl rfl)
theorem dX0_let_152 : decode cX0_let 152 = .ok (.aload_n 3, 1) := dk_45 (dk_at dksX0_let_6 12 rfl rfl)
theorem dX0_let_153 : decode cX0_let 153 = .ok (.iload_n 1, 1) := dk_27 (dk_at dksX0_let_6 13 rfl rfl)
theorem dX0_let_154 : decode cX0_let 154 = .ok (.iload_n 2, 1) := dk_28 (dk_at dksX0_let_6 14 rfl rfl)
theorem dX0_let_155 : decode cX0_let 155 = .ok (.invokevirtual 198, 3) := dk_182 0 198 (dk_at dksX0_let_6 15 rfl rfl)
theorem dX0_let_158 : decode cX0_let 158 = .ok (.aload 4, 2) := dk_25 4 (dk_at dksX0_let_6 18 rfl rfl)
theorem dX0_let_160 : decode cX0_let 160 = .ok (.invokevirtual 183, 3) := dk_182 0 183 (dk_at dksX0_let_6 20 rfl rfl)
theorem dX0_let_163 : decode cX0_let 163 = .ok (.ireturn, 1) := dk_172 (dk_at dksX0_let_6 23 rfl rfl)
abbrev cX0_isRenter : ByteArray := prog_1_method_10_code
def yX0_isRenter : MethodName := ⟨RX0, "isRenter", "(I)Z"⟩
def dkwX0_isRenter_0 : List UInt8 := [27, 133, 9, 42, 180, 0, 30, 180, 0, 93, 4, 100, 133, 184, 0, 89, 172]
abbrev dktX0_isRenter_0 : List UInt8 := dkwX0_isRenter_0 ++ []
theorem dksX0_isRenter_0 : cX0_isRenter.data.toList.drop 0 = dktX0_isRenter_0 := by decide +kernel
theorem dX0_isRenter_0 : decode cX0_isRenter 0 = .ok (.iload_n 1, 1) := dk_27 (dk_at dksX0_isRenter_0 0 rfl rfl)
theorem dX0_isRenter_1 : decode cX0_isRenter 1 = .ok (.i2l, 1) := dk_133 (dk_at dksX0_isRenter_0 1 rfl rfl)
theorem dX0_isRenter_2 : decode cX0_isRenter 2 = .ok (.lconst 0, 1) := dk_9 (dk_at dksX0_isRenter_0 2 rfl rfl)
theorem dX0_isRenter_3 : decode cX0_isRenter 3 = .ok (.aload_n 0, 1) := dk_42 (dk_at dksX0_isRenter_0 3 rfl rfl)
theorem dX0_isRenter_4 : decode cX0_isRenter 4 = .ok (.getfield 30, 3) := dk_180 0 30 (dk_at dksX0_isRenter_0 4 rfl rfl)
theorem dX0_isRenter_7 : decode cX0_isRenter 7 = .ok (.getfield 93, 3) := dk_180 0 93 (dk_at dksX0_isRenter_0 7 rfl rfl)
theorem dX0_isRenter_10 : decode cX0_isRenter 10 = .ok (.iconst 1, 1) := dk_4 (dk_at dksX0_isRenter_0 10 rfl rfl)
theorem dX0_isRenter_11 : decode cX0_isRenter 11 = .ok (.isub, 1) := dk_100 (dk_at dksX0_isRenter_0 11 rfl rfl)
theorem dX0_isRenter_12 : decode cX0_isRenter 12 = .ok (.i2l, 1) := dk_133 (dk_at dksX0_isRenter_0 12 rfl rfl)
theorem dX0_isRenter_13 : decode cX0_isRenter 13 = .ok (.invokestatic 89, 3) := dk_184 0 89 (dk_at dksX0_isRenter_0 13 rfl rfl)
theorem dX0_isRenter_16 : decode cX0_isRenter 16 = .ok (.ireturn, 1) := dk_172 (dk_at dksX0_isRenter_0 16 rfl rfl)
abbrev cX0_no : ByteArray := prog_1_method_6_code
def yX0_no : MethodName := ⟨RX0, "no", "()I"⟩
def dkwX0_no_0 : List UInt8 := [42, 4, 16, 253, 182, 0, 81, 172]
abbrev dktX0_no_0 : List UInt8 := dkwX0_no_0 ++ []
theorem dksX0_no_0 : cX0_no.data.toList.drop 0 = dktX0_no_0 := by decide +kernel
theorem dX0_no_0 : decode cX0_no 0 = .ok (.aload_n 0, 1) := dk_42 (dk_at dksX0_no_0 0 rfl rfl)
theorem dX0_no_1 : decode cX0_no 1 = .ok (.iconst 1, 1) := dk_4 (dk_at dksX0_no_0 1 rfl rfl)
theorem dX0_no_2 : decode cX0_no 2 = .ok (.bipush (-3), 2) := dk_16 253 (dk_at dksX0_no_0 2 rfl rfl)
theorem dX0_no_4 : decode cX0_no 4 = .ok (.invokevirtual 81, 3) := dk_182 0 81 (dk_at dksX0_no_0 4 rfl rfl)
theorem dX0_no_7 : decode cX0_no 7 = .ok (.ireturn, 1) := dk_172 (dk_at dksX0_no_0 7 rfl rfl)
abbrev cX0_night : ByteArray := prog_1_method_22_code
def yX0_night : MethodName := ⟨RX0, "night", "()I"⟩
def dkwX0_night_2 : List UInt8 := [180, 0, 208, 172]
abbrev dktX0_night_2 : List UInt8 := dkwX0_night_2 ++ []
def dkwX0_night_1 : List UInt8 := [180, 0, 30, 180, 0, 160, 89, 180, 0, 208, 4, 96, 181, 0, 208, 42, 180, 0, 30, 180, 0, 160]
abbrev dktX0_night_1 : List UInt8 := dkwX0_night_1 ++ dktX0_night_2
def dkwX0_night_0 : List UInt8 := [42, 180, 0, 30, 182, 0, 192, 42, 180, 0, 30, 180, 0, 160, 180, 0, 168, 2, 184, 0, 202, 42]
abbrev dktX0_night_0 : List UInt8 := dkwX0_night_0 ++ dktX0_night_1
theorem dksX0_night_0 : cX0_night.data.toList.drop 0 = dktX0_night_0 := by decide +kernel
theorem dksX0_night_1 : cX0_night.data.toList.drop 22 = dktX0_night_1 := dk_seg dksX0_night_0 22 rfl rfl
theorem dksX0_night_2 : cX0_night.data.toList.drop 44 = dktX0_night_2 := dk_seg dksX0_night_1 22 rfl rfl
theorem dX0_night_0 : decode cX0_night 0 = .ok (.aload_n 0, 1) := dk_42 (dk_at dksX0_night_0 0 rfl rfl)
theorem dX0_night_1 : decode cX0_night 1 = .ok (.getfield 30, 3) := dk_180 0 30 (dk_at dksX0_night_0 1 rfl rfl)
theorem dX0_night_4 : decode cX0_night 4 = .ok (.invokevirtual 192, 3) := dk_182 0 192 (dk_at dksX0_night_0 4 rfl rfl)
theorem dX0_night_7 : decode cX0_night 7 = .ok (.aload_n 0, 1) := dk_42 (dk_at dksX0_night_0 7 rfl rfl)
theorem dX0_night_8 : decode cX0_night 8 = .ok (.getfield 30, 3) := dk_180 0 30 (dk_at dksX0_night_0 8 rfl rfl)
theorem dX0_night_11 : decode cX0_night 11 = .ok (.getfield 160, 3) := dk_180 0 160 (dk_at dksX0_night_0 11 rfl rfl)
theorem dX0_night_14 : decode cX0_night 14 = .ok (.getfield 168, 3) := dk_180 0 168 (dk_at dksX0_night_0 14 rfl rfl)
theorem dX0_night_17 : decode cX0_night 17 = .ok (.iconst (-1), 1) := dk_2 (dk_at dksX0_night_0 17 rfl rfl)
theorem dX0_night_18 : decode cX0_night 18 = .ok (.invokestatic 202, 3) := dk_184 0 202 (dk_at dksX0_night_0 18 rfl rfl)
theorem dX0_night_21 : decode cX0_night 21 = .ok (.aload_n 0, 1) := dk_42 (dk_at dksX0_night_0 21 rfl rfl)
theorem dX0_night_22 : decode cX0_night 22 = .ok (.getfield 30, 3) := dk_180 0 30 (dk_at dksX0_night_1 0 rfl rfl)
theorem dX0_night_25 : decode cX0_night 25 = .ok (.getfield 160, 3) := dk_180 0 160 (dk_at dksX0_night_1 3 rfl rfl)
theorem dX0_night_28 : decode cX0_night 28 = .ok (.dup, 1) := dk_89 (dk_at dksX0_night_1 6 rfl rfl)
theorem dX0_night_29 : decode cX0_night 29 = .ok (.getfield 208, 3) := dk_180 0 208 (dk_at dksX0_night_1 7 rfl rfl)
theorem dX0_night_32 : decode cX0_night 32 = .ok (.iconst 1, 1) := dk_4 (dk_at dksX0_night_1 10 rfl rfl)
theorem dX0_night_33 : decode cX0_night 33 = .ok (.iadd, 1) := dk_96 (dk_at dksX0_night_1 11 rfl rfl)
theorem dX0_night_34 : decode cX0_night 34 = .ok (.putfield 208, 3) := dk_181 0 208 (dk_at dksX0_night_1 12 rfl rfl)
theorem dX0_night_37 : decode cX0_night 37 = .ok (.aload_n 0, 1) := dk_42 (dk_at dksX0_night_1 15 rfl rfl)
theorem dX0_night_38 : decode cX0_night 38 = .ok (.getfield 30, 3) := dk_180 0 30 (dk_at dksX0_night_1 16 rfl rfl)
theorem dX0_night_41 : decode cX0_night 41 = .ok (.getfield 160, 3) := dk_180 0 160 (dk_at dksX0_night_1 19 rfl rfl)
theorem dX0_night_44 : decode cX0_night 44 = .ok (.getfield 208, 3) := dk_180 0 208 (dk_at dksX0_night_2 0 rfl rfl)
theorem dX0_night_47 : decode cX0_night 47 = .ok (.ireturn, 1) := dk_172 (dk_at dksX0_night_2 3 rfl rfl)
abbrev cX0_undo : ByteArray := prog_1_method_23_code
def yX0_undo : MethodName := ⟨RX0, "undo", "()I"⟩
def dkwX0_undo_2 : List UInt8 := [180, 0, 211, 50, 182, 0, 218, 42, 180, 0, 30, 180, 0, 160, 180, 0, 195, 172]
abbrev dktX0_undo_2 : List UInt8 := dkwX0_undo_2 ++ []
def dkwX0_undo_1 : List UInt8 := [100, 181, 0, 211, 42, 180, 0, 30, 180, 0, 160, 42, 180, 0, 30, 180, 0, 214, 42, 180, 0, 30]
abbrev dktX0_undo_1 : List UInt8 := dkwX0_undo_1 ++ dktX0_undo_2
def dkwX0_undo_0 : List UInt8 := [42, 180, 0, 30, 180, 0, 211, 154, 0, 8, 42, 182, 0, 189, 172, 42, 180, 0, 30, 89, 180, 0, 211, 4]
abbrev dktX0_undo_0 : List UInt8 := dkwX0_undo_0 ++ dktX0_undo_1
theorem dksX0_undo_0 : cX0_undo.data.toList.drop 0 = dktX0_undo_0 := by decide +kernel
theorem dksX0_undo_1 : cX0_undo.data.toList.drop 24 = dktX0_undo_1 := dk_seg dksX0_undo_0 24 rfl rfl
theorem dksX0_undo_2 : cX0_undo.data.toList.drop 46 = dktX0_undo_2 := dk_seg dksX0_undo_1 22 rfl rfl
theorem dX0_undo_0 : decode cX0_undo 0 = .ok (.aload_n 0, 1) := dk_42 (dk_at dksX0_undo_0 0 rfl rfl)
theorem dX0_undo_1 : decode cX0_undo 1 = .ok (.getfield 30, 3) := dk_180 0 30 (dk_at dksX0_undo_0 1 rfl rfl)
theorem dX0_undo_4 : decode cX0_undo 4 = .ok (.getfield 211, 3) := dk_180 0 211 (dk_at dksX0_undo_0 4 rfl rfl)
theorem dX0_undo_7 : decode cX0_undo 7 = .ok (.ifCond .ne 8, 3) := dk_154 0 8 (dk_at dksX0_undo_0 7 rfl rfl)
theorem dX0_undo_10 : decode cX0_undo 10 = .ok (.aload_n 0, 1) := dk_42 (dk_at dksX0_undo_0 10 rfl rfl)
theorem dX0_undo_11 : decode cX0_undo 11 = .ok (.invokevirtual 189, 3) := dk_182 0 189 (dk_at dksX0_undo_0 11 rfl rfl)
theorem dX0_undo_14 : decode cX0_undo 14 = .ok (.ireturn, 1) := dk_172 (dk_at dksX0_undo_0 14 rfl rfl)
theorem dX0_undo_15 : decode cX0_undo 15 = .ok (.aload_n 0, 1) := dk_42 (dk_at dksX0_undo_0 15 rfl rfl)
theorem dX0_undo_16 : decode cX0_undo 16 = .ok (.getfield 30, 3) := dk_180 0 30 (dk_at dksX0_undo_0 16 rfl rfl)
theorem dX0_undo_19 : decode cX0_undo 19 = .ok (.dup, 1) := dk_89 (dk_at dksX0_undo_0 19 rfl rfl)
theorem dX0_undo_20 : decode cX0_undo 20 = .ok (.getfield 211, 3) := dk_180 0 211 (dk_at dksX0_undo_0 20 rfl rfl)
theorem dX0_undo_23 : decode cX0_undo 23 = .ok (.iconst 1, 1) := dk_4 (dk_at dksX0_undo_0 23 rfl rfl)
theorem dX0_undo_24 : decode cX0_undo 24 = .ok (.isub, 1) := dk_100 (dk_at dksX0_undo_1 0 rfl rfl)
theorem dX0_undo_25 : decode cX0_undo 25 = .ok (.putfield 211, 3) := dk_181 0 211 (dk_at dksX0_undo_1 1 rfl rfl)
theorem dX0_undo_28 : decode cX0_undo 28 = .ok (.aload_n 0, 1) := dk_42 (dk_at dksX0_undo_1 4 rfl rfl)
theorem dX0_undo_29 : decode cX0_undo 29 = .ok (.getfield 30, 3) := dk_180 0 30 (dk_at dksX0_undo_1 5 rfl rfl)
theorem dX0_undo_32 : decode cX0_undo 32 = .ok (.getfield 160, 3) := dk_180 0 160 (dk_at dksX0_undo_1 8 rfl rfl)
theorem dX0_undo_35 : decode cX0_undo 35 = .ok (.aload_n 0, 1) := dk_42 (dk_at dksX0_undo_1 11 rfl rfl)
theorem dX0_undo_36 : decode cX0_undo 36 = .ok (.getfield 30, 3) := dk_180 0 30 (dk_at dksX0_undo_1 12 rfl rfl)
theorem dX0_undo_39 : decode cX0_undo 39 = .ok (.getfield 214, 3) := dk_180 0 214 (dk_at dksX0_undo_1 15 rfl rfl)
theorem dX0_undo_42 : decode cX0_undo 42 = .ok (.aload_n 0, 1) := dk_42 (dk_at dksX0_undo_1 18 rfl rfl)
theorem dX0_undo_43 : decode cX0_undo 43 = .ok (.getfield 30, 3) := dk_180 0 30 (dk_at dksX0_undo_1 19 rfl rfl)
theorem dX0_undo_46 : decode cX0_undo 46 = .ok (.getfield 211, 3) := dk_180 0 211 (dk_at dksX0_undo_2 0 rfl rfl)
theorem dX0_undo_49 : decode cX0_undo 49 = .ok (.aaload, 1) := dk_50 (dk_at dksX0_undo_2 3 rfl rfl)
theorem dX0_undo_50 : decode cX0_undo 50 = .ok (.invokevirtual 218, 3) := dk_182 0 218 (dk_at dksX0_undo_2 4 rfl rfl)
theorem dX0_undo_53 : decode cX0_undo 53 = .ok (.aload_n 0, 1) := dk_42 (dk_at dksX0_undo_2 7 rfl rfl)
theorem dX0_undo_54 : decode cX0_undo 54 = .ok (.getfield 30, 3) := dk_180 0 30 (dk_at dksX0_undo_2 8 rfl rfl)
theorem dX0_undo_57 : decode cX0_undo 57 = .ok (.getfield 160, 3) := dk_180 0 160 (dk_at dksX0_undo_2 11 rfl rfl)
theorem dX0_undo_60 : decode cX0_undo 60 = .ok (.getfield 195, 3) := dk_180 0 195 (dk_at dksX0_undo_2 14 rfl rfl)
theorem dX0_undo_63 : decode cX0_undo 63 = .ok (.ireturn, 1) := dk_172 (dk_at dksX0_undo_2 17 rfl rfl)
abbrev cX0_of : ByteArray := prog_1_method_24_code
def yX0_of : MethodName := ⟨RX0, "of", "(II)I"⟩
def dkwX0_of_4 : List UInt8 := [180, 0, 160, 180, 0, 168, 27, 46, 172, 42, 180, 0, 30, 180, 0, 137, 27, 46, 172, 42, 182, 0, 221, 172]
abbrev dktX0_of_4 : List UInt8 := dkwX0_of_4 ++ []
def dkwX0_of_3 : List UInt8 := [180, 0, 30, 180, 0, 160, 180, 0, 208, 182, 0, 236, 172, 45, 182, 0, 183, 172, 42, 180, 0, 30]
abbrev dktX0_of_3 : List UInt8 := dkwX0_of_3 ++ dktX0_of_4
def dkwX0_of_2 : List UInt8 := [45, 182, 0, 224, 172, 45, 180, 0, 227, 172, 45, 180, 0, 230, 172, 45, 180, 0, 233, 172, 45, 42]
abbrev dktX0_of_2 : List UInt8 := dkwX0_of_2 ++ dktX0_of_3
def dkwX0_of_1 : List UInt8 := [170, 0, 0, 0, 0, 0, 0, 111, 0, 0, 0, 0, 0, 0, 0, 7, 0, 0, 0, 48, 0, 0, 0, 53, 0, 0, 0, 58, 0, 0, 0, 63, 0, 0, 0, 68, 0, 0, 0, 83, 0, 0, 0, 88, 0, 0, 0, 101]
abbrev dktX0_of_1 : List UInt8 := dkwX0_of_1 ++ dktX0_of_2
def dkwX0_of_0 : List UInt8 := [42, 27, 182, 0, 132, 154, 0, 8, 42, 182, 0, 221, 172, 42, 180, 0, 30, 180, 0, 164, 27, 50, 78, 28]
abbrev dktX0_of_0 : List UInt8 := dkwX0_of_0 ++ dktX0_of_1
theorem dksX0_of_0 : cX0_of.data.toList.drop 0 = dktX0_of_0 := by decide +kernel
theorem dksX0_of_1 : cX0_of.data.toList.drop 24 = dktX0_of_1 := dk_seg dksX0_of_0 24 rfl rfl
theorem dksX0_of_2 : cX0_of.data.toList.drop 72 = dktX0_of_2 := dk_seg dksX0_of_1 48 rfl rfl
theorem dksX0_of_3 : cX0_of.data.toList.drop 94 = dktX0_of_3 := dk_seg dksX0_of_2 22 rfl rfl
theorem dksX0_of_4 : cX0_of.data.toList.drop 116 = dktX0_of_4 := dk_seg dksX0_of_3 22 rfl rfl
theorem dX0_of_0 : decode cX0_of 0 = .ok (.aload_n 0, 1) := dk_42 (dk_at dksX0_of_0 0 rfl rfl)
theorem dX0_of_1 : decode cX0_of 1 = .ok (.iload_n 1, 1) := dk_27 (dk_at dksX0_of_0 1 rfl rfl)
theorem dX0_of_2 : decode cX0_of 2 = .ok (.invokevirtual 132, 3) := dk_182 0 132 (dk_at dksX0_of_0 2 rfl rfl)
theorem dX0_of_5 : decode cX0_of 5 = .ok (.ifCond .ne 8, 3) := dk_154 0 8 (dk_at dksX0_of_0 5 rfl rfl)
theorem dX0_of_8 : decode cX0_of 8 = .ok (.aload_n 0, 1) := dk_42 (dk_at dksX0_of_0 8 rfl rfl)
theorem dX0_of_9 : decode cX0_of 9 = .ok (.invokevirtual 221, 3) := dk_182 0 221 (dk_at dksX0_of_0 9 rfl rfl)
theorem dX0_of_12 : decode cX0_of 12 = .ok (.ireturn, 1) := dk_172 (dk_at dksX0_of_0 12 rfl rfl)
theorem dX0_of_13 : decode cX0_of 13 = .ok (.aload_n 0, 1) := dk_42 (dk_at dksX0_of_0 13 rfl rfl)
theorem dX0_of_14 : decode cX0_of 14 = .ok (.getfield 30, 3) := dk_180 0 30 (dk_at dksX0_of_0 14 rfl rfl)
theorem dX0_of_17 : decode cX0_of 17 = .ok (.getfield 164, 3) := dk_180 0 164 (dk_at dksX0_of_0 17 rfl rfl)
theorem dX0_of_20 : decode cX0_of 20 = .ok (.iload_n 1, 1) := dk_27 (dk_at dksX0_of_0 20 rfl rfl)
theorem dX0_of_21 : decode cX0_of 21 = .ok (.aaload, 1) := dk_50 (dk_at dksX0_of_0 21 rfl rfl)
theorem dX0_of_22 : decode cX0_of 22 = .ok (.astore_n 3, 1) := dk_78 (dk_at dksX0_of_0 22 rfl rfl)
theorem dX0_of_23 : decode cX0_of 23 = .ok (.iload_n 2, 1) := dk_28 (dk_at dksX0_of_0 23 rfl rfl)
theorem dX0_of_24 : decode cX0_of 24 = .ok (.tableswitch 111 0 7 #[48, 53, 58, 63, 68, 83, 88, 101], 48) := by decide +kernel
theorem dX0_of_72 : decode cX0_of 72 = .ok (.aload_n 3, 1) := dk_45 (dk_at dksX0_of_2 0 rfl rfl)
theorem dX0_of_73 : decode cX0_of 73 = .ok (.invokevirtual 224, 3) := dk_182 0 224 (dk_at dksX0_of_2 1 rfl rfl)
theorem dX0_of_76 : decode cX0_of 76 = .ok (.ireturn, 1) := dk_172 (dk_at dksX0_of_2 4 rfl rfl)
theorem dX0_of_77 : decode cX0_of 77 = .ok (.aload_n 3, 1) := dk_45 (dk_at dksX0_of_2 5 rfl rfl)
theorem dX0_of_78 : decode cX0_of 78 = .ok (.getfield 227, 3) := dk_180 0 227 (dk_at dksX0_of_2 6 rfl rfl)
theorem dX0_of_81 : decode cX0_of 81 = .ok (.ireturn, 1) := dk_172 (dk_at dksX0_of_2 9 rfl rfl)
theorem dX0_of_82 : decode cX0_of 82 = .ok (.aload_n 3, 1) := dk_45 (dk_at dksX0_of_2 10 rfl rfl)
theorem dX0_of_83 : decode cX0_of 83 = .ok (.getfield 230, 3) := dk_180 0 230 (dk_at dksX0_of_2 11 rfl rfl)
theorem dX0_of_86 : decode cX0_of 86 = .ok (.ireturn, 1) := dk_172 (dk_at dksX0_of_2 14 rfl rfl)
theorem dX0_of_87 : decode cX0_of 87 = .ok (.aload_n 3, 1) := dk_45 (dk_at dksX0_of_2 15 rfl rfl)
theorem dX0_of_88 : decode cX0_of 88 = .ok (.getfield 233, 3) := dk_180 0 233 (dk_at dksX0_of_2 16 rfl rfl)
theorem dX0_of_91 : decode cX0_of 91 = .ok (.ireturn, 1) := dk_172 (dk_at dksX0_of_2 19 rfl rfl)
theorem dX0_of_92 : decode cX0_of 92 = .ok (.aload_n 3, 1) := dk_45 (dk_at dksX0_of_2 20 rfl rfl)
theorem dX0_of_93 : decode cX0_of 93 = .ok (.aload_n 0, 1) := dk_42 (dk_at dksX0_of_2 21 rfl rfl)
theorem dX0_of_94 : decode cX0_of 94 = .ok (.getfield 30, 3) := dk_180 0 30 (dk_at dksX0_of_3 0 rfl rfl)
theorem dX0_of_97 : decode cX0_of 97 = .ok (.getfield 160, 3) := dk_180 0 160 (dk_at dksX0_of_3 3 rfl rfl)
theorem dX0_of_100 : decode cX0_of 100 = .ok (.getfield 208, 3) := dk_180 0 208 (dk_at dksX0_of_3 6 rfl rfl)
theorem dX0_of_103 : decode cX0_of 103 = .ok (.invokevirtual 236, 3) := dk_182 0 236 (dk_at dksX0_of_3 9 rfl rfl)
theorem dX0_of_106 : decode cX0_of 106 = .ok (.ireturn, 1) := dk_172 (dk_at dksX0_of_3 12 rfl rfl)
theorem dX0_of_107 : decode cX0_of 107 = .ok (.aload_n 3, 1) := dk_45 (dk_at dksX0_of_3 13 rfl rfl)
theorem dX0_of_108 : decode cX0_of 108 = .ok (.invokevirtual 183, 3) := dk_182 0 183 (dk_at dksX0_of_3 14 rfl rfl)
theorem dX0_of_111 : decode cX0_of 111 = .ok (.ireturn, 1) := dk_172 (dk_at dksX0_of_3 17 rfl rfl)
theorem dX0_of_112 : decode cX0_of 112 = .ok (.aload_n 0, 1) := dk_42 (dk_at dksX0_of_3 18 rfl rfl)
theorem dX0_of_113 : decode cX0_of 113 = .ok (.getfield 30, 3) := dk_180 0 30 (dk_at dksX0_of_3 19 rfl rfl)
theorem dX0_of_116 : decode cX0_of 116 = .ok (.getfield 160, 3) := dk_180 0 160 (dk_at dksX0_of_4 0 rfl rfl)
theorem dX0_of_119 : decode cX0_of 119 = .ok (.getfield 168, 3) := dk_180 0 168 (dk_at dksX0_of_4 3 rfl rfl)
theorem dX0_of_122 : decode cX0_of 122 = .ok (.iload_n 1, 1) := dk_27 (dk_at dksX0_of_4 6 rfl rfl)
theorem dX0_of_123 : decode cX0_of 123 = .ok (.iaload, 1) := dk_46 (dk_at dksX0_of_4 7 rfl rfl)
theorem dX0_of_124 : decode cX0_of 124 = .ok (.ireturn, 1) := dk_172 (dk_at dksX0_of_4 8 rfl rfl)
theorem dX0_of_125 : decode cX0_of 125 = .ok (.aload_n 0, 1) := dk_42 (dk_at dksX0_of_4 9 rfl rfl)
theorem dX0_of_126 : decode cX0_of 126 = .ok (.getfield 30, 3) := dk_180 0 30 (dk_at dksX0_of_4 10 rfl rfl)
theorem dX0_of_129 : decode cX0_of 129 = .ok (.getfield 137, 3) := dk_180 0 137 (dk_at dksX0_of_4 13 rfl rfl)
theorem dX0_of_132 : decode cX0_of 132 = .ok (.iload_n 1, 1) := dk_27 (dk_at dksX0_of_4 16 rfl rfl)
theorem dX0_of_133 : decode cX0_of 133 = .ok (.iaload, 1) := dk_46 (dk_at dksX0_of_4 17 rfl rfl)
theorem dX0_of_134 : decode cX0_of 134 = .ok (.ireturn, 1) := dk_172 (dk_at dksX0_of_4 18 rfl rfl)
theorem dX0_of_135 : decode cX0_of 135 = .ok (.aload_n 0, 1) := dk_42 (dk_at dksX0_of_4 19 rfl rfl)
theorem dX0_of_136 : decode cX0_of 136 = .ok (.invokevirtual 221, 3) := dk_182 0 221 (dk_at dksX0_of_4 20 rfl rfl)
theorem dX0_of_139 : decode cX0_of 139 = .ok (.ireturn, 1) := dk_172 (dk_at dksX0_of_4 23 rfl rfl)
abbrev cX0_badAsk : ByteArray := prog_1_method_8_code
def yX0_badAsk : MethodName := ⟨RX0, "badAsk", "()I"⟩
def dkwX0_badAsk_0 : List UInt8 := [42, 3, 16, 246, 182, 0, 81, 172]
abbrev dktX0_badAsk_0 : List UInt8 := dkwX0_badAsk_0 ++ []
theorem dksX0_badAsk_0 : cX0_badAsk.data.toList.drop 0 = dktX0_badAsk_0 := by decide +kernel
theorem dX0_badAsk_0 : decode cX0_badAsk 0 = .ok (.aload_n 0, 1) := dk_42 (dk_at dksX0_badAsk_0 0 rfl rfl)
theorem dX0_badAsk_1 : decode cX0_badAsk 1 = .ok (.iconst 0, 1) := dk_3 (dk_at dksX0_badAsk_0 1 rfl rfl)
theorem dX0_badAsk_2 : decode cX0_badAsk 2 = .ok (.bipush (-10), 2) := dk_16 246 (dk_at dksX0_badAsk_0 2 rfl rfl)
theorem dX0_badAsk_4 : decode cX0_badAsk 4 = .ok (.invokevirtual 81, 3) := dk_182 0 81 (dk_at dksX0_badAsk_0 4 rfl rfl)
theorem dX0_badAsk_7 : decode cX0_badAsk 7 = .ok (.ireturn, 1) := dk_172 (dk_at dksX0_badAsk_0 7 rfl rfl)
abbrev cX0_about : ByteArray := prog_1_method_25_code
def yX0_about : MethodName := ⟨RX0, "about", "(II)I"⟩
def dkwX0_about_3 : List UInt8 := [160, 0, 18, 42, 180, 0, 30, 180, 0, 160, 180, 0, 186, 27, 46, 167, 0, 4, 29, 172]
abbrev dktX0_about_3 : List UInt8 := dkwX0_about_3 ++ []
def dkwX0_about_2 : List UInt8 := [182, 0, 173, 62, 28, 154, 0, 15, 42, 180, 0, 30, 180, 0, 177, 27, 46, 167, 0, 24, 28, 4]
abbrev dktX0_about_2 : List UInt8 := dkwX0_about_2 ++ dktX0_about_3
def dkwX0_about_1 : List UInt8 := [172, 28, 5, 160, 0, 15, 42, 180, 0, 30, 180, 0, 241, 27, 46, 167, 0, 11, 42, 180, 0, 30, 27]
abbrev dktX0_about_1 : List UInt8 := dkwX0_about_1 ++ dktX0_about_2
def dkwX0_about_0 : List UInt8 := [42, 27, 182, 0, 157, 153, 0, 15, 28, 133, 9, 20, 0, 239, 184, 0, 89, 154, 0, 8, 42, 182, 0, 221]
abbrev dktX0_about_0 : List UInt8 := dkwX0_about_0 ++ dktX0_about_1
theorem dksX0_about_0 : cX0_about.data.toList.drop 0 = dktX0_about_0 := by decide +kernel
theorem dksX0_about_1 : cX0_about.data.toList.drop 24 = dktX0_about_1 := dk_seg dksX0_about_0 24 rfl rfl
theorem dksX0_about_2 : cX0_about.data.toList.drop 47 = dktX0_about_2 := dk_seg dksX0_about_1 23 rfl rfl
theorem dksX0_about_3 : cX0_about.data.toList.drop 69 = dktX0_about_3 := dk_seg dksX0_about_2 22 rfl rfl
theorem dX0_about_0 : decode cX0_about 0 = .ok (.aload_n 0, 1) := dk_42 (dk_at dksX0_about_0 0 rfl rfl)
theorem dX0_about_1 : decode cX0_about 1 = .ok (.iload_n 1, 1) := dk_27 (dk_at dksX0_about_0 1 rfl rfl)
theorem dX0_about_2 : decode cX0_about 2 = .ok (.invokevirtual 157, 3) := dk_182 0 157 (dk_at dksX0_about_0 2 rfl rfl)
theorem dX0_about_5 : decode cX0_about 5 = .ok (.ifCond .eq 15, 3) := dk_153 0 15 (dk_at dksX0_about_0 5 rfl rfl)
theorem dX0_about_8 : decode cX0_about 8 = .ok (.iload_n 2, 1) := dk_28 (dk_at dksX0_about_0 8 rfl rfl)
theorem dX0_about_9 : decode cX0_about 9 = .ok (.i2l, 1) := dk_133 (dk_at dksX0_about_0 9 rfl rfl)
theorem dX0_about_10 : decode cX0_about 10 = .ok (.lconst 0, 1) := dk_9 (dk_at dksX0_about_0 10 rfl rfl)
theorem dX0_about_11 : decode cX0_about 11 = .ok (.ldc2_w 239, 3) := dk_20 0 239 (dk_at dksX0_about_0 11 rfl rfl)
theorem dX0_about_14 : decode cX0_about 14 = .ok (.invokestatic 89, 3) := dk_184 0 89 (dk_at dksX0_about_0 14 rfl rfl)
theorem dX0_about_17 : decode cX0_about 17 = .ok (.ifCond .ne 8, 3) := dk_154 0 8 (dk_at dksX0_about_0 17 rfl rfl)
theorem dX0_about_20 : decode cX0_about 20 = .ok (.aload_n 0, 1) := dk_42 (dk_at dksX0_about_0 20 rfl rfl)
theorem dX0_about_21 : decode cX0_about 21 = .ok (.invokevirtual 221, 3) := dk_182 0 221 (dk_at dksX0_about_0 21 rfl rfl)
theorem dX0_about_24 : decode cX0_about 24 = .ok (.ireturn, 1) := dk_172 (dk_at dksX0_about_1 0 rfl rfl)
theorem dX0_about_25 : decode cX0_about 25 = .ok (.iload_n 2, 1) := dk_28 (dk_at dksX0_about_1 1 rfl rfl)
theorem dX0_about_26 : decode cX0_about 26 = .ok (.iconst 2, 1) := dk_5 (dk_at dksX0_about_1 2 rfl rfl)
theorem dX0_about_27 : decode cX0_about 27 = .ok (.if_icmp .ne 15, 3) := dk_160 0 15 (dk_at dksX0_about_1 3 rfl rfl)
theorem dX0_about_30 : decode cX0_about 30 = .ok (.aload_n 0, 1) := dk_42 (dk_at dksX0_about_1 6 rfl rfl)
theorem dX0_about_31 : decode cX0_about 31 = .ok (.getfield 30, 3) := dk_180 0 30 (dk_at dksX0_about_1 7 rfl rfl)
theorem dX0_about_34 : decode cX0_about 34 = .ok (.getfield 241, 3) := dk_180 0 241 (dk_at dksX0_about_1 10 rfl rfl)
theorem dX0_about_37 : decode cX0_about 37 = .ok (.iload_n 1, 1) := dk_27 (dk_at dksX0_about_1 13 rfl rfl)
theorem dX0_about_38 : decode cX0_about 38 = .ok (.iaload, 1) := dk_46 (dk_at dksX0_about_1 14 rfl rfl)
theorem dX0_about_39 : decode cX0_about 39 = .ok (.goto 11, 3) := dk_167 0 11 (dk_at dksX0_about_1 15 rfl rfl)
theorem dX0_about_42 : decode cX0_about 42 = .ok (.aload_n 0, 1) := dk_42 (dk_at dksX0_about_1 18 rfl rfl)
theorem dX0_about_43 : decode cX0_about 43 = .ok (.getfield 30, 3) := dk_180 0 30 (dk_at dksX0_about_1 19 rfl rfl)
theorem dX0_about_46 : decode cX0_about 46 = .ok (.iload_n 1, 1) := dk_27 (dk_at dksX0_about_1 22 rfl rfl)
theorem dX0_about_47 : decode cX0_about 47 = .ok (.invokevirtual 173, 3) := dk_182 0 173 (dk_at dksX0_about_2 0 rfl rfl)
theorem dX0_about_50 : decode cX0_about 50 = .ok (.istore_n 3, 1) := dk_62 (dk_at dksX0_about_2 3 rfl rfl)
theorem dX0_about_51 : decode cX0_about 51 = .ok (.iload_n 2, 1) := dk_28 (dk_at dksX0_about_2 4 rfl rfl)
theorem dX0_about_52 : decode cX0_about 52 = .ok (.ifCond .ne 15, 3) := dk_154 0 15 (dk_at dksX0_about_2 5 rfl rfl)
theorem dX0_about_55 : decode cX0_about 55 = .ok (.aload_n 0, 1) := dk_42 (dk_at dksX0_about_2 8 rfl rfl)
theorem dX0_about_56 : decode cX0_about 56 = .ok (.getfield 30, 3) := dk_180 0 30 (dk_at dksX0_about_2 9 rfl rfl)
theorem dX0_about_59 : decode cX0_about 59 = .ok (.getfield 177, 3) := dk_180 0 177 (dk_at dksX0_about_2 12 rfl rfl)
theorem dX0_about_62 : decode cX0_about 62 = .ok (.iload_n 1, 1) := dk_27 (dk_at dksX0_about_2 15 rfl rfl)
theorem dX0_about_63 : decode cX0_about 63 = .ok (.iaload, 1) := dk_46 (dk_at dksX0_about_2 16 rfl rfl)
theorem dX0_about_64 : decode cX0_about 64 = .ok (.goto 24, 3) := dk_167 0 24 (dk_at dksX0_about_2 17 rfl rfl)
theorem dX0_about_67 : decode cX0_about 67 = .ok (.iload_n 2, 1) := dk_28 (dk_at dksX0_about_2 20 rfl rfl)
theorem dX0_about_68 : decode cX0_about 68 = .ok (.iconst 1, 1) := dk_4 (dk_at dksX0_about_2 21 rfl rfl)
theorem dX0_about_69 : decode cX0_about 69 = .ok (.if_icmp .ne 18, 3) := dk_160 0 18 (dk_at dksX0_about_3 0 rfl rfl)
theorem dX0_about_72 : decode cX0_about 72 = .ok (.aload_n 0, 1) := dk_42 (dk_at dksX0_about_3 3 rfl rfl)
theorem dX0_about_73 : decode cX0_about 73 = .ok (.getfield 30, 3) := dk_180 0 30 (dk_at dksX0_about_3 4 rfl rfl)
theorem dX0_about_76 : decode cX0_about 76 = .ok (.getfield 160, 3) := dk_180 0 160 (dk_at dksX0_about_3 7 rfl rfl)
theorem dX0_about_79 : decode cX0_about 79 = .ok (.getfield 186, 3) := dk_180 0 186 (dk_at dksX0_about_3 10 rfl rfl)
theorem dX0_about_82 : decode cX0_about 82 = .ok (.iload_n 1, 1) := dk_27 (dk_at dksX0_about_3 13 rfl rfl)
theorem dX0_about_83 : decode cX0_about 83 = .ok (.iaload, 1) := dk_46 (dk_at dksX0_about_3 14 rfl rfl)
theorem dX0_about_84 : decode cX0_about 84 = .ok (.goto 4, 3) := dk_167 0 4 (dk_at dksX0_about_3 15 rfl rfl)
theorem dX0_about_87 : decode cX0_about 87 = .ok (.iload_n 3, 1) := dk_29 (dk_at dksX0_about_3 18 rfl rfl)
theorem dX0_about_88 : decode cX0_about 88 = .ok (.ireturn, 1) := dk_172 (dk_at dksX0_about_3 19 rfl rfl)
abbrev cX0_shows : ByteArray := prog_1_method_26_code
def yX0_shows : MethodName := ⟨RX0, "shows", "(II)I"⟩
def dkwX0_shows_1 : List UInt8 := [28, 182, 0, 236, 167, 0, 7, 42, 182, 0, 110, 172]
abbrev dktX0_shows_1 : List UInt8 := dkwX0_shows_1 ++ []
def dkwX0_shows_0 : List UInt8 := [42, 27, 182, 0, 132, 153, 0, 26, 28, 184, 0, 244, 153, 0, 19, 42, 180, 0, 30, 180, 0, 164, 27, 50]
abbrev dktX0_shows_0 : List UInt8 := dkwX0_shows_0 ++ dktX0_shows_1
theorem dksX0_shows_0 : cX0_shows.data.toList.drop 0 = dktX0_shows_0 := by decide +kernel
theorem dksX0_shows_1 : cX0_shows.data.toList.drop 24 = dktX0_shows_1 := dk_seg dksX0_shows_0 24 rfl rfl
theorem dX0_shows_0 : decode cX0_shows 0 = .ok (.aload_n 0, 1) := dk_42 (dk_at dksX0_shows_0 0 rfl rfl)
theorem dX0_shows_1 : decode cX0_shows 1 = .ok (.iload_n 1, 1) := dk_27 (dk_at dksX0_shows_0 1 rfl rfl)
theorem dX0_shows_2 : decode cX0_shows 2 = .ok (.invokevirtual 132, 3) := dk_182 0 132 (dk_at dksX0_shows_0 2 rfl rfl)
theorem dX0_shows_5 : decode cX0_shows 5 = .ok (.ifCond .eq 26, 3) := dk_153 0 26 (dk_at dksX0_shows_0 5 rfl rfl)
theorem dX0_shows_8 : decode cX0_shows 8 = .ok (.iload_n 2, 1) := dk_28 (dk_at dksX0_shows_0 8 rfl rfl)
theorem dX0_shows_9 : decode cX0_shows 9 = .ok (.invokestatic 244, 3) := dk_184 0 244 (dk_at dksX0_shows_0 9 rfl rfl)
theorem dX0_shows_12 : decode cX0_shows 12 = .ok (.ifCond .eq 19, 3) := dk_153 0 19 (dk_at dksX0_shows_0 12 rfl rfl)
theorem dX0_shows_15 : decode cX0_shows 15 = .ok (.aload_n 0, 1) := dk_42 (dk_at dksX0_shows_0 15 rfl rfl)
theorem dX0_shows_16 : decode cX0_shows 16 = .ok (.getfield 30, 3) := dk_180 0 30 (dk_at dksX0_shows_0 16 rfl rfl)
theorem dX0_shows_19 : decode cX0_shows 19 = .ok (.getfield 164, 3) := dk_180 0 164 (dk_at dksX0_shows_0 19 rfl rfl)
theorem dX0_shows_22 : decode cX0_shows 22 = .ok (.iload_n 1, 1) := dk_27 (dk_at dksX0_shows_0 22 rfl rfl)
theorem dX0_shows_23 : decode cX0_shows 23 = .ok (.aaload, 1) := dk_50 (dk_at dksX0_shows_0 23 rfl rfl)
theorem dX0_shows_24 : decode cX0_shows 24 = .ok (.iload_n 2, 1) := dk_28 (dk_at dksX0_shows_1 0 rfl rfl)
theorem dX0_shows_25 : decode cX0_shows 25 = .ok (.invokevirtual 236, 3) := dk_182 0 236 (dk_at dksX0_shows_1 1 rfl rfl)
theorem dX0_shows_28 : decode cX0_shows 28 = .ok (.goto 7, 3) := dk_167 0 7 (dk_at dksX0_shows_1 4 rfl rfl)
theorem dX0_shows_31 : decode cX0_shows 31 = .ok (.aload_n 0, 1) := dk_42 (dk_at dksX0_shows_1 7 rfl rfl)
theorem dX0_shows_32 : decode cX0_shows 32 = .ok (.invokevirtual 110, 3) := dk_182 0 110 (dk_at dksX0_shows_1 8 rfl rfl)
theorem dX0_shows_35 : decode cX0_shows 35 = .ok (.ireturn, 1) := dk_172 (dk_at dksX0_shows_1 11 rfl rfl)
abbrev cX0_isEvening : ByteArray := prog_1_method_11_code
def yX0_isEvening : MethodName := ⟨RX0, "isEvening", "(I)Z"⟩
def dkwX0_isEvening_0 : List UInt8 := [26, 133, 9, 20, 0, 96, 184, 0, 89, 172]
abbrev dktX0_isEvening_0 : List UInt8 := dkwX0_isEvening_0 ++ []
theorem dksX0_isEvening_0 : cX0_isEvening.data.toList.drop 0 = dktX0_isEvening_0 := by decide +kernel
theorem dX0_isEvening_0 : decode cX0_isEvening 0 = .ok (.iload_n 0, 1) := dk_26 (dk_at dksX0_isEvening_0 0 rfl rfl)
theorem dX0_isEvening_1 : decode cX0_isEvening 1 = .ok (.i2l, 1) := dk_133 (dk_at dksX0_isEvening_0 1 rfl rfl)
theorem dX0_isEvening_2 : decode cX0_isEvening 2 = .ok (.lconst 0, 1) := dk_9 (dk_at dksX0_isEvening_0 2 rfl rfl)
theorem dX0_isEvening_3 : decode cX0_isEvening 3 = .ok (.ldc2_w 96, 3) := dk_20 0 96 (dk_at dksX0_isEvening_0 3 rfl rfl)
theorem dX0_isEvening_6 : decode cX0_isEvening 6 = .ok (.invokestatic 89, 3) := dk_184 0 89 (dk_at dksX0_isEvening_0 6 rfl rfl)
theorem dX0_isEvening_9 : decode cX0_isEvening 9 = .ok (.ireturn, 1) := dk_172 (dk_at dksX0_isEvening_0 9 rfl rfl)
abbrev cX0_suits : ByteArray := prog_1_method_27_code
def yX0_suits : MethodName := ⟨RX0, "suits", "(III)I"⟩
def dkwX0_suits_1 : List UInt8 := [182, 0, 110, 172, 42, 180, 0, 30, 27, 28, 29, 182, 0, 247, 153, 0, 7, 4, 167, 0, 4, 3, 172]
abbrev dktX0_suits_1 : List UInt8 := dkwX0_suits_1 ++ []
def dkwX0_suits_0 : List UInt8 := [42, 27, 182, 0, 132, 153, 0, 18, 42, 28, 182, 0, 157, 153, 0, 10, 29, 184, 0, 244, 154, 0, 8, 42]
abbrev dktX0_suits_0 : List UInt8 := dkwX0_suits_0 ++ dktX0_suits_1
theorem dksX0_suits_0 : cX0_suits.data.toList.drop 0 = dktX0_suits_0 := by decide +kernel
theorem dksX0_suits_1 : cX0_suits.data.toList.drop 24 = dktX0_suits_1 := dk_seg dksX0_suits_0 24 rfl rfl
theorem dX0_suits_0 : decode cX0_suits 0 = .ok (.aload_n 0, 1) := dk_42 (dk_at dksX0_suits_0 0 rfl rfl)
theorem dX0_suits_1 : decode cX0_suits 1 = .ok (.iload_n 1, 1) := dk_27 (dk_at dksX0_suits_0 1 rfl rfl)
theorem dX0_suits_2 : decode cX0_suits 2 = .ok (.invokevirtual 132, 3) := dk_182 0 132 (dk_at dksX0_suits_0 2 rfl rfl)
theorem dX0_suits_5 : decode cX0_suits 5 = .ok (.ifCond .eq 18, 3) := dk_153 0 18 (dk_at dksX0_suits_0 5 rfl rfl)
theorem dX0_suits_8 : decode cX0_suits 8 = .ok (.aload_n 0, 1) := dk_42 (dk_at dksX0_suits_0 8 rfl rfl)
theorem dX0_suits_9 : decode cX0_suits 9 = .ok (.iload_n 2, 1) := dk_28 (dk_at dksX0_suits_0 9 rfl rfl)
theorem dX0_suits_10 : decode cX0_suits 10 = .ok (.invokevirtual 157, 3) := dk_182 0 157 (dk_at dksX0_suits_0 10 rfl rfl)
theorem dX0_suits_13 : decode cX0_suits 13 = .ok (.ifCond .eq 10, 3) := dk_153 0 10 (dk_at dksX0_suits_0 13 rfl rfl)
theorem dX0_suits_16 : decode cX0_suits 16 = .ok (.iload_n 3, 1) := dk_29 (dk_at dksX0_suits_0 16 rfl rfl)
theorem dX0_suits_17 : decode cX0_suits 17 = .ok (.invokestatic 244, 3) := dk_184 0 244 (dk_at dksX0_suits_0 17 rfl rfl)
theorem dX0_suits_20 : decode cX0_suits 20 = .ok (.ifCond .ne 8, 3) := dk_154 0 8 (dk_at dksX0_suits_0 20 rfl rfl)
theorem dX0_suits_23 : decode cX0_suits 23 = .ok (.aload_n 0, 1) := dk_42 (dk_at dksX0_suits_0 23 rfl rfl)
theorem dX0_suits_24 : decode cX0_suits 24 = .ok (.invokevirtual 110, 3) := dk_182 0 110 (dk_at dksX0_suits_1 0 rfl rfl)
theorem dX0_suits_27 : decode cX0_suits 27 = .ok (.ireturn, 1) := dk_172 (dk_at dksX0_suits_1 3 rfl rfl)
theorem dX0_suits_28 : decode cX0_suits 28 = .ok (.aload_n 0, 1) := dk_42 (dk_at dksX0_suits_1 4 rfl rfl)
theorem dX0_suits_29 : decode cX0_suits 29 = .ok (.getfield 30, 3) := dk_180 0 30 (dk_at dksX0_suits_1 5 rfl rfl)
theorem dX0_suits_32 : decode cX0_suits 32 = .ok (.iload_n 1, 1) := dk_27 (dk_at dksX0_suits_1 8 rfl rfl)
theorem dX0_suits_33 : decode cX0_suits 33 = .ok (.iload_n 2, 1) := dk_28 (dk_at dksX0_suits_1 9 rfl rfl)
theorem dX0_suits_34 : decode cX0_suits 34 = .ok (.iload_n 3, 1) := dk_29 (dk_at dksX0_suits_1 10 rfl rfl)
theorem dX0_suits_35 : decode cX0_suits 35 = .ok (.invokevirtual 247, 3) := dk_182 0 247 (dk_at dksX0_suits_1 11 rfl rfl)
theorem dX0_suits_38 : decode cX0_suits 38 = .ok (.ifCond .eq 7, 3) := dk_153 0 7 (dk_at dksX0_suits_1 14 rfl rfl)
theorem dX0_suits_41 : decode cX0_suits 41 = .ok (.iconst 1, 1) := dk_4 (dk_at dksX0_suits_1 17 rfl rfl)
theorem dX0_suits_42 : decode cX0_suits 42 = .ok (.goto 4, 3) := dk_167 0 4 (dk_at dksX0_suits_1 18 rfl rfl)
theorem dX0_suits_45 : decode cX0_suits 45 = .ok (.iconst 0, 1) := dk_3 (dk_at dksX0_suits_1 21 rfl rfl)
theorem dX0_suits_46 : decode cX0_suits 46 = .ok (.ireturn, 1) := dk_172 (dk_at dksX0_suits_1 22 rfl rfl)
abbrev cX0_best : ByteArray := prog_1_method_28_code
def yX0_best : MethodName := ⟨RX0, "best", "(II)I"⟩
def dkwX0_best_2 : List UInt8 := [42, 180, 0, 67, 180, 0, 255, 28, 46, 172]
abbrev dktX0_best_2 : List UInt8 := dkwX0_best_2 ++ []
def dkwX0_best_1 : List UInt8 := [172, 42, 180, 0, 67, 27, 182, 0, 250, 28, 2, 160, 0, 13, 42, 180, 0, 67, 180, 0, 254, 167, 0, 12]
abbrev dktX0_best_1 : List UInt8 := dkwX0_best_1 ++ dktX0_best_2
def dkwX0_best_0 : List UInt8 := [27, 184, 0, 244, 153, 0, 16, 28, 2, 159, 0, 16, 42, 28, 182, 0, 157, 154, 0, 8, 42, 182, 0, 221]
abbrev dktX0_best_0 : List UInt8 := dkwX0_best_0 ++ dktX0_best_1
theorem dksX0_best_0 : cX0_best.data.toList.drop 0 = dktX0_best_0 := by decide +kernel
theorem dksX0_best_1 : cX0_best.data.toList.drop 24 = dktX0_best_1 := dk_seg dksX0_best_0 24 rfl rfl
theorem dksX0_best_2 : cX0_best.data.toList.drop 48 = dktX0_best_2 := dk_seg dksX0_best_1 24 rfl rfl
theorem dX0_best_0 : decode cX0_best 0 = .ok (.iload_n 1, 1) := dk_27 (dk_at dksX0_best_0 0 rfl rfl)
theorem dX0_best_1 : decode cX0_best 1 = .ok (.invokestatic 244, 3) := dk_184 0 244 (dk_at dksX0_best_0 1 rfl rfl)
theorem dX0_best_4 : decode cX0_best 4 = .ok (.ifCond .eq 16, 3) := dk_153 0 16 (dk_at dksX0_best_0 4 rfl rfl)
theorem dX0_best_7 : decode cX0_best 7 = .ok (.iload_n 2, 1) := dk_28 (dk_at dksX0_best_0 7 rfl rfl)
theorem dX0_best_8 : decode cX0_best 8 = .ok (.iconst (-1), 1) := dk_2 (dk_at dksX0_best_0 8 rfl rfl)
theorem dX0_best_9 : decode cX0_best 9 = .ok (.if_icmp .eq 16, 3) := dk_159 0 16 (dk_at dksX0_best_0 9 rfl rfl)
theorem dX0_best_12 : decode cX0_best 12 = .ok (.aload_n 0, 1) := dk_42 (dk_at dksX0_best_0 12 rfl rfl)
theorem dX0_best_13 : decode cX0_best 13 = .ok (.iload_n 2, 1) := dk_28 (dk_at dksX0_best_0 13 rfl rfl)
theorem dX0_best_14 : decode cX0_best 14 = .ok (.invokevirtual 157, 3) := dk_182 0 157 (dk_at dksX0_best_0 14 rfl rfl)
theorem dX0_best_17 : decode cX0_best 17 = .ok (.ifCond .ne 8, 3) := dk_154 0 8 (dk_at dksX0_best_0 17 rfl rfl)
theorem dX0_best_20 : decode cX0_best 20 = .ok (.aload_n 0, 1) := dk_42 (dk_at dksX0_best_0 20 rfl rfl)
theorem dX0_best_21 : decode cX0_best 21 = .ok (.invokevirtual 221, 3) := dk_182 0 221 (dk_at dksX0_best_0 21 rfl rfl)
theorem dX0_best_24 : decode cX0_best 24 = .ok (.ireturn, 1) := dk_172 (dk_at dksX0_best_1 0 rfl rfl)
theorem dX0_best_25 : decode cX0_best 25 = .ok (.aload_n 0, 1) := dk_42 (dk_at dksX0_best_1 1 rfl rfl)
theorem dX0_best_26 : decode cX0_best 26 = .ok (.getfield 67, 3) := dk_180 0 67 (dk_at dksX0_best_1 2 rfl rfl)
theorem dX0_best_29 : decode cX0_best 29 = .ok (.iload_n 1, 1) := dk_27 (dk_at dksX0_best_1 5 rfl rfl)
theorem dX0_best_30 : decode cX0_best 30 = .ok (.invokevirtual 250, 3) := dk_182 0 250 (dk_at dksX0_best_1 6 rfl rfl)
theorem dX0_best_33 : decode cX0_best 33 = .ok (.iload_n 2, 1) := dk_28 (dk_at dksX0_best_1 9 rfl rfl)
theorem dX0_best_34 : decode cX0_best 34 = .ok (.iconst (-1), 1) := dk_2 (dk_at dksX0_best_1 10 rfl rfl)
theorem dX0_best_35 : decode cX0_best 35 = .ok (.if_icmp .ne 13, 3) := dk_160 0 13 (dk_at dksX0_best_1 11 rfl rfl)
theorem dX0_best_38 : decode cX0_best 38 = .ok (.aload_n 0, 1) := dk_42 (dk_at dksX0_best_1 14 rfl rfl)
theorem dX0_best_39 : decode cX0_best 39 = .ok (.getfield 67, 3) := dk_180 0 67 (dk_at dksX0_best_1 15 rfl rfl)
theorem dX0_best_42 : decode cX0_best 42 = .ok (.getfield 254, 3) := dk_180 0 254 (dk_at dksX0_best_1 18 rfl rfl)
theorem dX0_best_45 : decode cX0_best 45 = .ok (.goto 12, 3) := dk_167 0 12 (dk_at dksX0_best_1 21 rfl rfl)
theorem dX0_best_48 : decode cX0_best 48 = .ok (.aload_n 0, 1) := dk_42 (dk_at dksX0_best_2 0 rfl rfl)
theorem dX0_best_49 : decode cX0_best 49 = .ok (.getfield 67, 3) := dk_180 0 67 (dk_at dksX0_best_2 1 rfl rfl)
theorem dX0_best_52 : decode cX0_best 52 = .ok (.getfield 255, 3) := dk_180 0 255 (dk_at dksX0_best_2 4 rfl rfl)
theorem dX0_best_55 : decode cX0_best 55 = .ok (.iload_n 2, 1) := dk_28 (dk_at dksX0_best_2 7 rfl rfl)
theorem dX0_best_56 : decode cX0_best 56 = .ok (.iaload, 1) := dk_46 (dk_at dksX0_best_2 8 rfl rfl)
theorem dX0_best_57 : decode cX0_best 57 = .ok (.ireturn, 1) := dk_172 (dk_at dksX0_best_2 9 rfl rfl)
abbrev cX0_money : ByteArray := prog_1_method_29_code
def yX0_money : MethodName := ⟨RX0, "money", "(I)I"⟩
def dkwX0_money_1 : List UInt8 := [180, 1, 2, 172]
abbrev dktX0_money_1 : List UInt8 := dkwX0_money_1 ++ []
def dkwX0_money_0 : List UInt8 := [27, 184, 0, 244, 154, 0, 8, 42, 182, 0, 110, 172, 42, 180, 0, 67, 27, 182, 0, 250, 42, 180, 0, 67]
abbrev dktX0_money_0 : List UInt8 := dkwX0_money_0 ++ dktX0_money_1
theorem dksX0_money_0 : cX0_money.data.toList.drop 0 = dktX0_money_0 := by decide +kernel
theorem dksX0_money_1 : cX0_money.data.toList.drop 24 = dktX0_money_1 := dk_seg dksX0_money_0 24 rfl rfl
theorem dX0_money_0 : decode cX0_money 0 = .ok (.iload_n 1, 1) := dk_27 (dk_at dksX0_money_0 0 rfl rfl)
theorem dX0_money_1 : decode cX0_money 1 = .ok (.invokestatic 244, 3) := dk_184 0 244 (dk_at dksX0_money_0 1 rfl rfl)
theorem dX0_money_4 : decode cX0_money 4 = .ok (.ifCond .ne 8, 3) := dk_154 0 8 (dk_at dksX0_money_0 4 rfl rfl)
theorem dX0_money_7 : decode cX0_money 7 = .ok (.aload_n 0, 1) := dk_42 (dk_at dksX0_money_0 7 rfl rfl)
theorem dX0_money_8 : decode cX0_money 8 = .ok (.invokevirtual 110, 3) := dk_182 0 110 (dk_at dksX0_money_0 8 rfl rfl)
theorem dX0_money_11 : decode cX0_money 11 = .ok (.ireturn, 1) := dk_172 (dk_at dksX0_money_0 11 rfl rfl)
theorem dX0_money_12 : decode cX0_money 12 = .ok (.aload_n 0, 1) := dk_42 (dk_at dksX0_money_0 12 rfl rfl)
theorem dX0_money_13 : decode cX0_money 13 = .ok (.getfield 67, 3) := dk_180 0 67 (dk_at dksX0_money_0 13 rfl rfl)
theorem dX0_money_16 : decode cX0_money 16 = .ok (.iload_n 1, 1) := dk_27 (dk_at dksX0_money_0 16 rfl rfl)
theorem dX0_money_17 : decode cX0_money 17 = .ok (.invokevirtual 250, 3) := dk_182 0 250 (dk_at dksX0_money_0 17 rfl rfl)
theorem dX0_money_20 : decode cX0_money 20 = .ok (.aload_n 0, 1) := dk_42 (dk_at dksX0_money_0 20 rfl rfl)
theorem dX0_money_21 : decode cX0_money 21 = .ok (.getfield 67, 3) := dk_180 0 67 (dk_at dksX0_money_0 21 rfl rfl)
theorem dX0_money_24 : decode cX0_money 24 = .ok (.getfield 258, 3) := dk_180 1 2 (dk_at dksX0_money_1 0 rfl rfl)
theorem dX0_money_27 : decode cX0_money 27 = .ok (.ireturn, 1) := dk_172 (dk_at dksX0_money_1 3 rfl rfl)
abbrev cX0_come : ByteArray := prog_1_method_32_code
def yX0_come : MethodName := ⟨RX0, "come", "(II)I"⟩
def dkwX0_come_3 : List UInt8 := [180, 0, 254, 42, 180, 1, 5, 100, 172]
abbrev dktX0_come_3 : List UInt8 := dkwX0_come_3 ++ []
def dkwX0_come_2 : List UInt8 := [180, 1, 5, 167, 0, 27, 28, 4, 160, 0, 10, 42, 180, 1, 8, 167, 0, 15, 42, 180, 0, 67]
abbrev dktX0_come_2 : List UInt8 := dkwX0_come_2 ++ dktX0_come_3
def dkwX0_come_1 : List UInt8 := [42, 42, 182, 1, 13, 27, 182, 1, 16, 42, 180, 0, 67, 27, 182, 0, 250, 28, 154, 0, 10, 42]
abbrev dktX0_come_1 : List UInt8 := dkwX0_come_1 ++ dktX0_come_2
def dkwX0_come_0 : List UInt8 := [27, 184, 0, 244, 153, 0, 15, 28, 133, 9, 20, 1, 11, 184, 0, 89, 154, 0, 8, 42, 182, 0, 110, 172]
abbrev dktX0_come_0 : List UInt8 := dkwX0_come_0 ++ dktX0_come_1
theorem dksX0_come_0 : cX0_come.data.toList.drop 0 = dktX0_come_0 := by decide +kernel
theorem dksX0_come_1 : cX0_come.data.toList.drop 24 = dktX0_come_1 := dk_seg dksX0_come_0 24 rfl rfl
theorem dksX0_come_2 : cX0_come.data.toList.drop 46 = dktX0_come_2 := dk_seg dksX0_come_1 22 rfl rfl
theorem dksX0_come_3 : cX0_come.data.toList.drop 68 = dktX0_come_3 := dk_seg dksX0_come_2 22 rfl rfl
theorem dX0_come_0 : decode cX0_come 0 = .ok (.iload_n 1, 1) := dk_27 (dk_at dksX0_come_0 0 rfl rfl)
theorem dX0_come_1 : decode cX0_come 1 = .ok (.invokestatic 244, 3) := dk_184 0 244 (dk_at dksX0_come_0 1 rfl rfl)
theorem dX0_come_4 : decode cX0_come 4 = .ok (.ifCond .eq 15, 3) := dk_153 0 15 (dk_at dksX0_come_0 4 rfl rfl)
theorem dX0_come_7 : decode cX0_come 7 = .ok (.iload_n 2, 1) := dk_28 (dk_at dksX0_come_0 7 rfl rfl)
theorem dX0_come_8 : decode cX0_come 8 = .ok (.i2l, 1) := dk_133 (dk_at dksX0_come_0 8 rfl rfl)
theorem dX0_come_9 : decode cX0_come 9 = .ok (.lconst 0, 1) := dk_9 (dk_at dksX0_come_0 9 rfl rfl)
theorem dX0_come_10 : decode cX0_come 10 = .ok (.ldc2_w 267, 3) := dk_20 1 11 (dk_at dksX0_come_0 10 rfl rfl)
theorem dX0_come_13 : decode cX0_come 13 = .ok (.invokestatic 89, 3) := dk_184 0 89 (dk_at dksX0_come_0 13 rfl rfl)
theorem dX0_come_16 : decode cX0_come 16 = .ok (.ifCond .ne 8, 3) := dk_154 0 8 (dk_at dksX0_come_0 16 rfl rfl)
theorem dX0_come_19 : decode cX0_come 19 = .ok (.aload_n 0, 1) := dk_42 (dk_at dksX0_come_0 19 rfl rfl)
theorem dX0_come_20 : decode cX0_come 20 = .ok (.invokevirtual 110, 3) := dk_182 0 110 (dk_at dksX0_come_0 20 rfl rfl)
theorem dX0_come_23 : decode cX0_come 23 = .ok (.ireturn, 1) := dk_172 (dk_at dksX0_come_0 23 rfl rfl)
theorem dX0_come_24 : decode cX0_come 24 = .ok (.aload_n 0, 1) := dk_42 (dk_at dksX0_come_1 0 rfl rfl)
theorem dX0_come_25 : decode cX0_come 25 = .ok (.aload_n 0, 1) := dk_42 (dk_at dksX0_come_1 1 rfl rfl)
theorem dX0_come_26 : decode cX0_come 26 = .ok (.invokevirtual 269, 3) := dk_182 1 13 (dk_at dksX0_come_1 2 rfl rfl)
theorem dX0_come_29 : decode cX0_come 29 = .ok (.iload_n 1, 1) := dk_27 (dk_at dksX0_come_1 5 rfl rfl)
theorem dX0_come_30 : decode cX0_come 30 = .ok (.invokevirtual 272, 3) := dk_182 1 16 (dk_at dksX0_come_1 6 rfl rfl)
theorem dX0_come_33 : decode cX0_come 33 = .ok (.aload_n 0, 1) := dk_42 (dk_at dksX0_come_1 9 rfl rfl)
theorem dX0_come_34 : decode cX0_come 34 = .ok (.getfield 67, 3) := dk_180 0 67 (dk_at dksX0_come_1 10 rfl rfl)
theorem dX0_come_37 : decode cX0_come 37 = .ok (.iload_n 1, 1) := dk_27 (dk_at dksX0_come_1 13 rfl rfl)
theorem dX0_come_38 : decode cX0_come 38 = .ok (.invokevirtual 250, 3) := dk_182 0 250 (dk_at dksX0_come_1 14 rfl rfl)
theorem dX0_come_41 : decode cX0_come 41 = .ok (.iload_n 2, 1) := dk_28 (dk_at dksX0_come_1 17 rfl rfl)
theorem dX0_come_42 : decode cX0_come 42 = .ok (.ifCond .ne 10, 3) := dk_154 0 10 (dk_at dksX0_come_1 18 rfl rfl)
theorem dX0_come_45 : decode cX0_come 45 = .ok (.aload_n 0, 1) := dk_42 (dk_at dksX0_come_1 21 rfl rfl)
theorem dX0_come_46 : decode cX0_come 46 = .ok (.getfield 261, 3) := dk_180 1 5 (dk_at dksX0_come_2 0 rfl rfl)
theorem dX0_come_49 : decode cX0_come 49 = .ok (.goto 27, 3) := dk_167 0 27 (dk_at dksX0_come_2 3 rfl rfl)
theorem dX0_come_52 : decode cX0_come 52 = .ok (.iload_n 2, 1) := dk_28 (dk_at dksX0_come_2 6 rfl rfl)
theorem dX0_come_53 : decode cX0_come 53 = .ok (.iconst 1, 1) := dk_4 (dk_at dksX0_come_2 7 rfl rfl)
theorem dX0_come_54 : decode cX0_come 54 = .ok (.if_icmp .ne 10, 3) := dk_160 0 10 (dk_at dksX0_come_2 8 rfl rfl)
theorem dX0_come_57 : decode cX0_come 57 = .ok (.aload_n 0, 1) := dk_42 (dk_at dksX0_come_2 11 rfl rfl)
theorem dX0_come_58 : decode cX0_come 58 = .ok (.getfield 264, 3) := dk_180 1 8 (dk_at dksX0_come_2 12 rfl rfl)
theorem dX0_come_61 : decode cX0_come 61 = .ok (.goto 15, 3) := dk_167 0 15 (dk_at dksX0_come_2 15 rfl rfl)
theorem dX0_come_64 : decode cX0_come 64 = .ok (.aload_n 0, 1) := dk_42 (dk_at dksX0_come_2 18 rfl rfl)
theorem dX0_come_65 : decode cX0_come 65 = .ok (.getfield 67, 3) := dk_180 0 67 (dk_at dksX0_come_2 19 rfl rfl)
theorem dX0_come_68 : decode cX0_come 68 = .ok (.getfield 254, 3) := dk_180 0 254 (dk_at dksX0_come_3 0 rfl rfl)
theorem dX0_come_71 : decode cX0_come 71 = .ok (.aload_n 0, 1) := dk_42 (dk_at dksX0_come_3 3 rfl rfl)
theorem dX0_come_72 : decode cX0_come 72 = .ok (.getfield 261, 3) := dk_180 1 5 (dk_at dksX0_come_3 4 rfl rfl)
theorem dX0_come_75 : decode cX0_come 75 = .ok (.isub, 1) := dk_100 (dk_at dksX0_come_3 7 rfl rfl)
theorem dX0_come_76 : decode cX0_come 76 = .ok (.ireturn, 1) := dk_172 (dk_at dksX0_come_3 8 rfl rfl)
abbrev cX0_all : ByteArray := prog_1_method_31_code
def yX0_all : MethodName := ⟨RX0, "all", "()I"⟩
def dkwX0_all_0 : List UInt8 := [4, 42, 180, 0, 30, 180, 0, 93, 120, 4, 100, 172]
abbrev dktX0_all_0 : List UInt8 := dkwX0_all_0 ++ []
theorem dksX0_all_0 : cX0_all.data.toList.drop 0 = dktX0_all_0 := by decide +kernel
theorem dX0_all_0 : decode cX0_all 0 = .ok (.iconst 1, 1) := dk_4 (dk_at dksX0_all_0 0 rfl rfl)
theorem dX0_all_1 : decode cX0_all 1 = .ok (.aload_n 0, 1) := dk_42 (dk_at dksX0_all_0 1 rfl rfl)
theorem dX0_all_2 : decode cX0_all 2 = .ok (.getfield 30, 3) := dk_180 0 30 (dk_at dksX0_all_0 2 rfl rfl)
theorem dX0_all_5 : decode cX0_all 5 = .ok (.getfield 93, 3) := dk_180 0 93 (dk_at dksX0_all_0 5 rfl rfl)
theorem dX0_all_8 : decode cX0_all 8 = .ok (.ishl, 1) := dk_120 (dk_at dksX0_all_0 8 rfl rfl)
theorem dX0_all_9 : decode cX0_all 9 = .ok (.iconst 1, 1) := dk_4 (dk_at dksX0_all_0 9 rfl rfl)
theorem dX0_all_10 : decode cX0_all 10 = .ok (.isub, 1) := dk_100 (dk_at dksX0_all_0 10 rfl rfl)
theorem dX0_all_11 : decode cX0_all 11 = .ok (.ireturn, 1) := dk_172 (dk_at dksX0_all_0 11 rfl rfl)
abbrev cX0_comes : ByteArray := prog_1_method_30_code
def yX0_comes : MethodName := ⟨RX0, "comes", "(II)V"⟩
def dkwX0_comes_8 : List UInt8 := [167, 255, 82, 177]
abbrev dktX0_comes_8 : List UInt8 := dkwX0_comes_8 ++ []
def dkwX0_comes_7 : List UInt8 := [89, 180, 1, 8, 42, 180, 0, 30, 180, 0, 164, 21, 5, 50, 182, 0, 183, 96, 181, 1, 8, 132, 4, 1]
abbrev dktX0_comes_7 : List UInt8 := dkwX0_comes_7 ++ dktX0_comes_8
def dkwX0_comes_6 : List UInt8 := [21, 5, 2, 159, 0, 42, 29, 4, 21, 5, 120, 128, 62, 42, 89, 180, 1, 5, 4, 96, 181, 1, 5, 42]
abbrev dktX0_comes_6 : List UInt8 := dkwX0_comes_6 ++ dktX0_comes_7
def dkwX0_comes_5 : List UInt8 := [21, 5, 50, 182, 0, 183, 164, 0, 8, 21, 6, 167, 0, 5, 21, 5, 54, 5, 132, 6, 1, 167, 255, 151]
abbrev dktX0_comes_5 : List UInt8 := dkwX0_comes_5 ++ dktX0_comes_6
def dkwX0_comes_4 : List UInt8 := [159, 0, 32, 42, 180, 0, 30, 180, 0, 164, 21, 6, 50, 182, 0, 183, 42, 180, 0, 30, 180, 0, 164]
abbrev dktX0_comes_4 : List UInt8 := dkwX0_comes_4 ++ dktX0_comes_5
def dkwX0_comes_3 : List UInt8 := [28, 182, 0, 247, 153, 0, 7, 4, 167, 0, 4, 3, 54, 7, 21, 7, 153, 0, 43, 21, 5, 2]
abbrev dktX0_comes_3 : List UInt8 := dkwX0_comes_3 ++ dktX0_comes_4
def dkwX0_comes_2 : List UInt8 := [122, 4, 126, 4, 160, 0, 89, 29, 21, 6, 122, 4, 126, 154, 0, 22, 42, 180, 0, 30, 21, 6, 21, 4]
abbrev dktX0_comes_2 : List UInt8 := dkwX0_comes_2 ++ dktX0_comes_3
def dkwX0_comes_1 : List UInt8 := [162, 0, 168, 2, 54, 5, 3, 54, 6, 21, 6, 42, 180, 0, 30, 180, 0, 85, 162, 0, 99, 27, 21, 4]
abbrev dktX0_comes_1 : List UInt8 := dkwX0_comes_1 ++ dktX0_comes_2
def dkwX0_comes_0 : List UInt8 := [42, 3, 181, 1, 5, 42, 3, 181, 1, 8, 3, 62, 3, 54, 4, 21, 4, 42, 180, 0, 30, 180, 0, 93]
abbrev dktX0_comes_0 : List UInt8 := dkwX0_comes_0 ++ dktX0_comes_1
theorem dksX0_comes_0 : cX0_comes.data.toList.drop 0 = dktX0_comes_0 := by decide +kernel
theorem dksX0_comes_1 : cX0_comes.data.toList.drop 24 = dktX0_comes_1 := dk_seg dksX0_comes_0 24 rfl rfl
theorem dksX0_comes_2 : cX0_comes.data.toList.drop 48 = dktX0_comes_2 := dk_seg dksX0_comes_1 24 rfl rfl
theorem dksX0_comes_3 : cX0_comes.data.toList.drop 72 = dktX0_comes_3 := dk_seg dksX0_comes_2 24 rfl rfl
theorem dksX0_comes_4 : cX0_comes.data.toList.drop 94 = dktX0_comes_4 := dk_seg dksX0_comes_3 22 rfl rfl
theorem dksX0_comes_5 : cX0_comes.data.toList.drop 117 = dktX0_comes_5 := dk_seg dksX0_comes_4 23 rfl rfl
theorem dksX0_comes_6 : cX0_comes.data.toList.drop 141 = dktX0_comes_6 := dk_seg dksX0_comes_5 24 rfl rfl
theorem dksX0_comes_7 : cX0_comes.data.toList.drop 165 = dktX0_comes_7 := dk_seg dksX0_comes_6 24 rfl rfl
theorem dksX0_comes_8 : cX0_comes.data.toList.drop 189 = dktX0_comes_8 := dk_seg dksX0_comes_7 24 rfl rfl
theorem dX0_comes_0 : decode cX0_comes 0 = .ok (.aload_n 0, 1) := dk_42 (dk_at dksX0_comes_0 0 rfl rfl)
theorem dX0_comes_1 : decode cX0_comes 1 = .ok (.iconst 0, 1) := dk_3 (dk_at dksX0_comes_0 1 rfl rfl)
theorem dX0_comes_2 : decode cX0_comes 2 = .ok (.putfield 261, 3) := dk_181 1 5 (dk_at dksX0_comes_0 2 rfl rfl)
theorem dX0_comes_5 : decode cX0_comes 5 = .ok (.aload_n 0, 1) := dk_42 (dk_at dksX0_comes_0 5 rfl rfl)
theorem dX0_comes_6 : decode cX0_comes 6 = .ok (.iconst 0, 1) := dk_3 (dk_at dksX0_comes_0 6 rfl rfl)
theorem dX0_comes_7 : decode cX0_comes 7 = .ok (.putfield 264, 3) := dk_181 1 8 (dk_at dksX0_comes_0 7 rfl rfl)
theorem dX0_comes_10 : decode cX0_comes 10 = .ok (.iconst 0, 1) := dk_3 (dk_at dksX0_comes_0 10 rfl rfl)
theorem dX0_comes_11 : decode cX0_comes 11 = .ok (.istore_n 3, 1) := dk_62 (dk_at dksX0_comes_0 11 rfl rfl)
theorem dX0_comes_12 : decode cX0_comes 12 = .ok (.iconst 0, 1) := dk_3 (dk_at dksX0_comes_0 12 rfl rfl)
theorem dX0_comes_13 : decode cX0_comes 13 = .ok (.istore 4, 2) := dk_54 4 (dk_at dksX0_comes_0 13 rfl rfl)
theorem dX0_comes_15 : decode cX0_comes 15 = .ok (.iload 4, 2) := dk_21 4 (dk_at dksX0_comes_0 15 rfl rfl)
theorem dX0_comes_17 : decode cX0_comes 17 = .ok (.aload_n 0, 1) := dk_42 (dk_at dksX0_comes_0 17 rfl rfl)
theorem dX0_comes_18 : decode cX0_comes 18 = .ok (.getfield 30, 3) := dk_180 0 30 (dk_at dksX0_comes_0 18 rfl rfl)
theorem dX0_comes_21 : decode cX0_comes 21 = .ok (.getfield 93, 3) := dk_180 0 93 (dk_at dksX0_comes_0 21 rfl rfl)
theorem dX0_comes_24 : decode cX0_comes 24 = .ok (.if_icmp .ge 168, 3) := dk_162 0 168 (dk_at dksX0_comes_1 0 rfl rfl)
theorem dX0_comes_27 : decode cX0_comes 27 = .ok (.iconst (-1), 1) := dk_2 (dk_at dksX0_comes_1 3 rfl rfl)
theorem dX0_comes_28 : decode cX0_comes 28 = .ok (.istore 5, 2) := dk_54 5 (dk_at dksX0_comes_1 4 rfl rfl)
theorem dX0_comes_30 : decode cX0_comes 30 = .ok (.iconst 0, 1) := dk_3 (dk_at dksX0_comes_1 6 rfl rfl)
theorem dX0_comes_31 : decode cX0_comes 31 = .ok (.istore 6, 2) := dk_54 6 (dk_at dksX0_comes_1 7 rfl rfl)
theorem dX0_comes_33 : decode cX0_comes 33 = .ok (.iload 6, 2) := dk_21 6 (dk_at dksX0_comes_1 9 rfl rfl)
theorem dX0_comes_35 : decode cX0_comes 35 = .ok (.aload_n 0, 1) := dk_42 (dk_at dksX0_comes_1 11 rfl rfl)
theorem dX0_comes_36 : decode cX0_comes 36 = .ok (.getfield 30, 3) := dk_180 0 30 (dk_at dksX0_comes_1 12 rfl rfl)
theorem dX0_comes_39 : decode cX0_comes 39 = .ok (.getfield 85, 3) := dk_180 0 85 (dk_at dksX0_comes_1 15 rfl rfl)
theorem dX0_comes_42 : decode cX0_comes 42 = .ok (.if_icmp .ge 99, 3) := dk_162 0 99 (dk_at dksX0_comes_1 18 rfl rfl)
theorem dX0_comes_45 : decode cX0_comes 45 = .ok (.iload_n 1, 1) := dk_27 (dk_at dksX0_comes_1 21 rfl rfl)
theorem dX0_comes_46 : decode cX0_comes 46 = .ok (.iload 4, 2) := dk_21 4 (dk_at dksX0_comes_1 22 rfl rfl)
theorem dX0_comes_48 : decode cX0_comes 48 = .ok (.ishr, 1) := dk_122 (dk_at dksX0_comes_2 0 rfl rfl)
theorem dX0_comes_49 : decode cX0_comes 49 = .ok (.iconst 1, 1) := dk_4 (dk_at dksX0_comes_2 1 rfl rfl)
theorem dX0_comes_50 : decode cX0_comes 50 = .ok (.iand, 1) := dk_126 (dk_at dksX0_comes_2 2 rfl rfl)
theorem dX0_comes_51 : decode cX0_comes 51 = .ok (.iconst 1, 1) := dk_4 (dk_at dksX0_comes_2 3 rfl rfl)
theorem dX0_comes_52 : decode cX0_comes 52 = .ok (.if_icmp .ne 89, 3) := dk_160 0 89 (dk_at dksX0_comes_2 4 rfl rfl)
theorem dX0_comes_55 : decode cX0_comes 55 = .ok (.iload_n 3, 1) := dk_29 (dk_at dksX0_comes_2 7 rfl rfl)
theorem dX0_comes_56 : decode cX0_comes 56 = .ok (.iload 6, 2) := dk_21 6 (dk_at dksX0_comes_2 8 rfl rfl)
theorem dX0_comes_58 : decode cX0_comes 58 = .ok (.ishr, 1) := dk_122 (dk_at dksX0_comes_2 10 rfl rfl)
theorem dX0_comes_59 : decode cX0_comes 59 = .ok (.iconst 1, 1) := dk_4 (dk_at dksX0_comes_2 11 rfl rfl)
theorem dX0_comes_60 : decode cX0_comes 60 = .ok (.iand, 1) := dk_126 (dk_at dksX0_comes_2 12 rfl rfl)
theorem dX0_comes_61 : decode cX0_comes 61 = .ok (.ifCond .ne 22, 3) := dk_154 0 22 (dk_at dksX0_comes_2 13 rfl rfl)
theorem dX0_comes_64 : decode cX0_comes 64 = .ok (.aload_n 0, 1) := dk_42 (dk_at dksX0_comes_2 16 rfl rfl)
theorem dX0_comes_65 : decode cX0_comes 65 = .ok (.getfield 30, 3) := dk_180 0 30 (dk_at dksX0_comes_2 17 rfl rfl)
theorem dX0_comes_68 : decode cX0_comes 68 = .ok (.iload 6, 2) := dk_21 6 (dk_at dksX0_comes_2 20 rfl rfl)
theorem dX0_comes_70 : decode cX0_comes 70 = .ok (.iload 4, 2) := dk_21 4 (dk_at dksX0_comes_2 22 rfl rfl)
theorem dX0_comes_72 : decode cX0_comes 72 = .ok (.iload_n 2, 1) := dk_28 (dk_at dksX0_comes_3 0 rfl rfl)
theorem dX0_comes_73 : decode cX0_comes 73 = .ok (.invokevirtual 247, 3) := dk_182 0 247 (dk_at dksX0_comes_3 1 rfl rfl)
theorem dX0_comes_76 : decode cX0_comes 76 = .ok (.ifCond .eq 7, 3) := dk_153 0 7 (dk_at dksX0_comes_3 4 rfl rfl)
theorem dX0_comes_79 : decode cX0_comes 79 = .ok (.iconst 1, 1) := dk_4 (dk_at dksX0_comes_3 7 rfl rfl)
theorem dX0_comes_80 : decode cX0_comes 80 = .ok (.goto 4, 3) := dk_167 0 4 (dk_at dksX0_comes_3 8 rfl rfl)
theorem dX0_comes_83 : decode cX0_comes 83 = .ok (.iconst 0, 1) := dk_3 (dk_at dksX0_comes_3 11 rfl rfl)
theorem dX0_comes_84 : decode cX0_comes 84 = .ok (.istore 7, 2) := dk_54 7 (dk_at dksX0_comes_3 12 rfl rfl)
theorem dX0_comes_86 : decode cX0_comes 86 = .ok (.iload 7, 2) := dk_21 7 (dk_at dksX0_comes_3 14 rfl rfl)
theorem dX0_comes_88 : decode cX0_comes 88 = .ok (.ifCond .eq 43, 3) := dk_153 0 43 (dk_at dksX0_comes_3 16 rfl rfl)
theorem dX0_comes_91 : decode cX0_comes 91 = .ok (.iload 5, 2) := dk_21 5 (dk_at dksX0_comes_3 19 rfl rfl)
theorem dX0_comes_93 : decode cX0_comes 93 = .ok (.iconst (-1), 1) := dk_2 (dk_at dksX0_comes_3 21 rfl rfl)
theorem dX0_comes_94 : decode cX0_comes 94 = .ok (.if_icmp .eq 32, 3) := dk_159 0 32 (dk_at dksX0_comes_4 0 rfl rfl)
theorem dX0_comes_97 : decode cX0_comes 97 = .ok (.aload_n 0, 1) := dk_42 (dk_at dksX0_comes_4 3 rfl rfl)
theorem dX0_comes_98 : decode cX0_comes 98 = .ok (.getfield 30, 3) := dk_180 0 30 (dk_at dksX0_comes_4 4 rfl rfl)
theorem dX0_comes_101 : decode cX0_comes 101 = .ok (.getfield 164, 3) := dk_180 0 164 (dk_at dksX0_comes_4 7 rfl rfl)
theorem dX0_comes_104 : decode cX0_comes 104 = .ok (.iload 6, 2) := dk_21 6 (dk_at dksX0_comes_4 10 rfl rfl)
theorem dX0_comes_106 : decode cX0_comes 106 = .ok (.aaload, 1) := dk_50 (dk_at dksX0_comes_4 12 rfl rfl)
theorem dX0_comes_107 : decode cX0_comes 107 = .ok (.invokevirtual 183, 3) := dk_182 0 183 (dk_at dksX0_comes_4 13 rfl rfl)
theorem dX0_comes_110 : decode cX0_comes 110 = .ok (.aload_n 0, 1) := dk_42 (dk_at dksX0_comes_4 16 rfl rfl)
theorem dX0_comes_111 : decode cX0_comes 111 = .ok (.getfield 30, 3) := dk_180 0 30 (dk_at dksX0_comes_4 17 rfl rfl)
theorem dX0_comes_114 : decode cX0_comes 114 = .ok (.getfield 164, 3) := dk_180 0 164 (dk_at dksX0_comes_4 20 rfl rfl)
theorem dX0_comes_117 : decode cX0_comes 117 = .ok (.iload 5, 2) := dk_21 5 (dk_at dksX0_comes_5 0 rfl rfl)
theorem dX0_comes_119 : decode cX0_comes 119 = .ok (.aaload, 1) := dk_50 (dk_at dksX0_comes_5 2 rfl rfl)
theorem dX0_comes_120 : decode cX0_comes 120 = .ok (.invokevirtual 183, 3) := dk_182 0 183 (dk_at dksX0_comes_5 3 rfl rfl)
theorem dX0_comes_123 : decode cX0_comes 123 = .ok (.if_icmp .le 8, 3) := dk_164 0 8 (dk_at dksX0_comes_5 6 rfl rfl)
theorem dX0_comes_126 : decode cX0_comes 126 = .ok (.iload 6, 2) := dk_21 6 (dk_at dksX0_comes_5 9 rfl rfl)
theorem dX0_comes_128 : decode cX0_comes 128 = .ok (.goto 5, 3) := dk_167 0 5 (dk_at dksX0_comes_5 11 rfl rfl)
theorem dX0_comes_131 : decode cX0_comes 131 = .ok (.iload 5, 2) := dk_21 5 (dk_at dksX0_comes_5 14 rfl rfl)
theorem dX0_comes_133 : decode cX0_comes 133 = .ok (.istore 5, 2) := dk_54 5 (dk_at dksX0_comes_5 16 rfl rfl)
theorem dX0_comes_135 : decode cX0_comes 135 = .ok (.iinc 6 1, 3) := dk_132 6 1 (dk_at dksX0_comes_5 18 rfl rfl)
theorem dX0_comes_138 : decode cX0_comes 138 = .ok (.goto (-105), 3) := dk_167 255 151 (dk_at dksX0_comes_5 21 rfl rfl)
theorem dX0_comes_141 : decode cX0_comes 141 = .ok (.iload 5, 2) := dk_21 5 (dk_at dksX0_comes_6 0 rfl rfl)
theorem dX0_comes_143 : decode cX0_comes 143 = .ok (.iconst (-1), 1) := dk_2 (dk_at dksX0_comes_6 2 rfl rfl)
theorem dX0_comes_144 : decode cX0_comes 144 = .ok (.if_icmp .eq 42, 3) := dk_159 0 42 (dk_at dksX0_comes_6 3 rfl rfl)
theorem dX0_comes_147 : decode cX0_comes 147 = .ok (.iload_n 3, 1) := dk_29 (dk_at dksX0_comes_6 6 rfl rfl)
theorem dX0_comes_148 : decode cX0_comes 148 = .ok (.iconst 1, 1) := dk_4 (dk_at dksX0_comes_6 7 rfl rfl)
theorem dX0_comes_149 : decode cX0_comes 149 = .ok (.iload 5, 2) := dk_21 5 (dk_at dksX0_comes_6 8 rfl rfl)
theorem dX0_comes_151 : decode cX0_comes 151 = .ok (.ishl, 1) := dk_120 (dk_at dksX0_comes_6 10 rfl rfl)
theorem dX0_comes_152 : decode cX0_comes 152 = .ok (.ior, 1) := dk_128 (dk_at dksX0_comes_6 11 rfl rfl)
theorem dX0_comes_153 : decode cX0_comes 153 = .ok (.istore_n 3, 1) := dk_62 (dk_at dksX0_comes_6 12 rfl rfl)
theorem dX0_comes_154 : decode cX0_comes 154 = .ok (.aload_n 0, 1) := dk_42 (dk_at dksX0_comes_6 13 rfl rfl)
theorem dX0_comes_155 : decode cX0_comes 155 = .ok (.dup, 1) := dk_89 (dk_at dksX0_comes_6 14 rfl rfl)
theorem dX0_comes_156 : decode cX0_comes 156 = .ok (.getfield 261, 3) := dk_180 1 5 (dk_at dksX0_comes_6 15 rfl rfl)
theorem dX0_comes_159 : decode cX0_comes 159 = .ok (.iconst 1, 1) := dk_4 (dk_at dksX0_comes_6 18 rfl rfl)
theorem dX0_comes_160 : decode cX0_comes 160 = .ok (.iadd, 1) := dk_96 (dk_at dksX0_comes_6 19 rfl rfl)
theorem dX0_comes_161 : decode cX0_comes 161 = .ok (.putfield 261, 3) := dk_181 1 5 (dk_at dksX0_comes_6 20 rfl rfl)
theorem dX0_comes_164 : decode cX0_comes 164 = .ok (.aload_n 0, 1) := dk_42 (dk_at dksX0_comes_6 23 rfl rfl)
theorem dX0_comes_165 : decode cX0_comes 165 = .ok (.dup, 1) := dk_89 (dk_at dksX0_comes_7 0 rfl rfl)
theorem dX0_comes_166 : decode cX0_comes 166 = .ok (.getfield 264, 3) := dk_180 1 8 (dk_at dksX0_comes_7 1 rfl rfl)
theorem dX0_comes_169 : decode cX0_comes 169 = .ok (.aload_n 0, 1) := dk_42 (dk_at dksX0_comes_7 4 rfl rfl)
theorem dX0_comes_170 : decode cX0_comes 170 = .ok (.getfield 30, 3) := dk_180 0 30 (dk_at dksX0_comes_7 5 rfl rfl)
theorem dX0_comes_173 : decode cX0_comes 173 = .ok (.getfield 164, 3) := dk_180 0 164 (dk_at dksX0_comes_7 8 rfl rfl)
theorem dX0_comes_176 : decode cX0_comes 176 = .ok (.iload 5, 2) := dk_21 5 (dk_at dksX0_comes_7 11 rfl rfl)
theorem dX0_comes_178 : decode cX0_comes 178 = .ok (.aaload, 1) := dk_50 (dk_at dksX0_comes_7 13 rfl rfl)
theorem dX0_comes_179 : decode cX0_comes 179 = .ok (.invokevirtual 183, 3) := dk_182 0 183 (dk_at dksX0_comes_7 14 rfl rfl)
theorem dX0_comes_182 : decode cX0_comes 182 = .ok (.iadd, 1) := dk_96 (dk_at dksX0_comes_7 17 rfl rfl)
theorem dX0_comes_183 : decode cX0_comes 183 = .ok (.putfield 264, 3) := dk_181 1 8 (dk_at dksX0_comes_7 18 rfl rfl)
theorem dX0_comes_186 : decode cX0_comes 186 = .ok (.iinc 4 1, 3) := dk_132 4 1 (dk_at dksX0_comes_7 21 rfl rfl)
theorem dX0_comes_189 : decode cX0_comes 189 = .ok (.goto (-174), 3) := dk_167 255 82 (dk_at dksX0_comes_8 0 rfl rfl)
theorem dX0_comes_192 : decode cX0_comes 192 = .ok (.return_, 1) := dk_177 (dk_at dksX0_comes_8 3 rfl rfl)
abbrev cX0_more : ByteArray := prog_1_method_33_code
def yX0_more : MethodName := ⟨RX0, "more", "(IIII)I"⟩
def dkwX0_more_7 : List UInt8 := [21, 7, 79, 42, 180, 0, 67, 180, 0, 254, 21, 5, 100, 172]
abbrev dktX0_more_7 : List UInt8 := dkwX0_more_7 ++ []
def dkwX0_more_6 : List UInt8 := [180, 0, 30, 89, 180, 0, 93, 4, 100, 181, 0, 93, 42, 180, 0, 30, 180, 0, 160, 180, 0, 186, 21, 6]
abbrev dktX0_more_6 : List UInt8 := dkwX0_more_6 ++ dktX0_more_7
def dkwX0_more_5 : List UInt8 := [79, 42, 180, 0, 30, 89, 180, 0, 93, 4, 96, 181, 0, 93, 42, 180, 0, 67, 27, 182, 0, 250, 42]
abbrev dktX0_more_5 : List UInt8 := dkwX0_more_5 ++ dktX0_more_6
def dkwX0_more_4 : List UInt8 := [180, 0, 30, 180, 0, 241, 21, 6, 21, 4, 79, 42, 180, 0, 30, 180, 0, 160, 180, 0, 186, 21, 6, 29]
abbrev dktX0_more_4 : List UInt8 := dkwX0_more_4 ++ dktX0_more_5
def dkwX0_more_3 : List UInt8 := [180, 0, 160, 180, 0, 186, 21, 6, 46, 54, 7, 42, 180, 0, 30, 180, 0, 177, 21, 6, 28, 79, 42]
abbrev dktX0_more_3 : List UInt8 := dkwX0_more_3 ++ dktX0_more_4
def dkwX0_more_2 : List UInt8 := [42, 180, 0, 67, 180, 0, 254, 54, 5, 42, 180, 0, 30, 180, 0, 93, 54, 6, 42, 180, 0, 30]
abbrev dktX0_more_2 : List UInt8 := dkwX0_more_2 ++ dktX0_more_3
def dkwX0_more_1 : List UInt8 := [180, 0, 30, 180, 0, 93, 16, 6, 160, 0, 8, 42, 182, 0, 189, 172, 42, 180, 0, 67, 27, 182, 0, 250]
abbrev dktX0_more_1 : List UInt8 := dkwX0_more_1 ++ dktX0_more_2
def dkwX0_more_0 : List UInt8 := [27, 184, 0, 244, 153, 0, 13, 28, 29, 21, 4, 184, 0, 125, 154, 0, 8, 42, 182, 0, 110, 172, 42]
abbrev dktX0_more_0 : List UInt8 := dkwX0_more_0 ++ dktX0_more_1
theorem dksX0_more_0 : cX0_more.data.toList.drop 0 = dktX0_more_0 := by decide +kernel
theorem dksX0_more_1 : cX0_more.data.toList.drop 23 = dktX0_more_1 := dk_seg dksX0_more_0 23 rfl rfl
theorem dksX0_more_2 : cX0_more.data.toList.drop 47 = dktX0_more_2 := dk_seg dksX0_more_1 24 rfl rfl
theorem dksX0_more_3 : cX0_more.data.toList.drop 69 = dktX0_more_3 := dk_seg dksX0_more_2 22 rfl rfl
theorem dksX0_more_4 : cX0_more.data.toList.drop 92 = dktX0_more_4 := dk_seg dksX0_more_3 23 rfl rfl
theorem dksX0_more_5 : cX0_more.data.toList.drop 116 = dktX0_more_5 := dk_seg dksX0_more_4 24 rfl rfl
theorem dksX0_more_6 : cX0_more.data.toList.drop 139 = dktX0_more_6 := dk_seg dksX0_more_5 23 rfl rfl
theorem dksX0_more_7 : cX0_more.data.toList.drop 163 = dktX0_more_7 := dk_seg dksX0_more_6 24 rfl rfl
theorem dX0_more_0 : decode cX0_more 0 = .ok (.iload_n 1, 1) := dk_27 (dk_at dksX0_more_0 0 rfl rfl)
theorem dX0_more_1 : decode cX0_more 1 = .ok (.invokestatic 244, 3) := dk_184 0 244 (dk_at dksX0_more_0 1 rfl rfl)
theorem dX0_more_4 : decode cX0_more 4 = .ok (.ifCond .eq 13, 3) := dk_153 0 13 (dk_at dksX0_more_0 4 rfl rfl)
theorem dX0_more_7 : decode cX0_more 7 = .ok (.iload_n 2, 1) := dk_28 (dk_at dksX0_more_0 7 rfl rfl)
theorem dX0_more_8 : decode cX0_more 8 = .ok (.iload_n 3, 1) := dk_29 (dk_at dksX0_more_0 8 rfl rfl)
theorem dX0_more_9 : decode cX0_more 9 = .ok (.iload 4, 2) := dk_21 4 (dk_at dksX0_more_0 9 rfl rfl)
theorem dX0_more_11 : decode cX0_more 11 = .ok (.invokestatic 125, 3) := dk_184 0 125 (dk_at dksX0_more_0 11 rfl rfl)
theorem dX0_more_14 : decode cX0_more 14 = .ok (.ifCond .ne 8, 3) := dk_154 0 8 (dk_at dksX0_more_0 14 rfl rfl)
theorem dX0_more_17 : decode cX0_more 17 = .ok (.aload_n 0, 1) := dk_42 (dk_at dksX0_more_0 17 rfl rfl)
theorem dX0_more_18 : decode cX0_more 18 = .ok (.invokevirtual 110, 3) := dk_182 0 110 (dk_at dksX0_more_0 18 rfl rfl)
theorem dX0_more_21 : decode cX0_more 21 = .ok (.ireturn, 1) := dk_172 (dk_at dksX0_more_0 21 rfl rfl)
theorem dX0_more_22 : decode cX0_more 22 = .ok (.aload_n 0, 1) := dk_42 (dk_at dksX0_more_0 22 rfl rfl)
theorem dX0_more_23 : decode cX0_more 23 = .ok (.getfield 30, 3) := dk_180 0 30 (dk_at dksX0_more_1 0 rfl rfl)
theorem dX0_more_26 : decode cX0_more 26 = .ok (.getfield 93, 3) := dk_180 0 93 (dk_at dksX0_more_1 3 rfl rfl)
theorem dX0_more_29 : decode cX0_more 29 = .ok (.bipush 6, 2) := dk_16 6 (dk_at dksX0_more_1 6 rfl rfl)
theorem dX0_more_31 : decode cX0_more 31 = .ok (.if_icmp .ne 8, 3) := dk_160 0 8 (dk_at dksX0_more_1 8 rfl rfl)
theorem dX0_more_34 : decode cX0_more 34 = .ok (.aload_n 0, 1) := dk_42 (dk_at dksX0_more_1 11 rfl rfl)
theorem dX0_more_35 : decode cX0_more 35 = .ok (.invokevirtual 189, 3) := dk_182 0 189 (dk_at dksX0_more_1 12 rfl rfl)
theorem dX0_more_38 : decode cX0_more 38 = .ok (.ireturn, 1) := dk_172 (dk_at dksX0_more_1 15 rfl rfl)
theorem dX0_more_39 : decode cX0_more 39 = .ok (.aload_n 0, 1) := dk_42 (dk_at dksX0_more_1 16 rfl rfl)
theorem dX0_more_40 : decode cX0_more 40 = .ok (.getfield 67, 3) := dk_180 0 67 (dk_at dksX0_more_1 17 rfl rfl)
theorem dX0_more_43 : decode cX0_more 43 = .ok (.iload_n 1, 1) := dk_27 (dk_at dksX0_more_1 20 rfl rfl)
theorem dX0_more_44 : decode cX0_more 44 = .ok (.invokevirtual 250, 3) := dk_182 0 250 (dk_at dksX0_more_1 21 rfl rfl)
theorem dX0_more_47 : decode cX0_more 47 = .ok (.aload_n 0, 1) := dk_42 (dk_at dksX0_more_2 0 rfl rfl)
theorem dX0_more_48 : decode cX0_more 48 = .ok (.getfield 67, 3) := dk_180 0 67 (dk_at dksX0_more_2 1 rfl rfl)
theorem dX0_more_51 : decode cX0_more 51 = .ok (.getfield 254, 3) := dk_180 0 254 (dk_at dksX0_more_2 4 rfl rfl)
theorem dX0_more_54 : decode cX0_more 54 = .ok (.istore 5, 2) := dk_54 5 (dk_at dksX0_more_2 7 rfl rfl)
theorem dX0_more_56 : decode cX0_more 56 = .ok (.aload_n 0, 1) := dk_42 (dk_at dksX0_more_2 9 rfl rfl)
theorem dX0_more_57 : decode cX0_more 57 = .ok (.getfield 30, 3) := dk_180 0 30 (dk_at dksX0_more_2 10 rfl rfl)
theorem dX0_more_60 : decode cX0_more 60 = .ok (.getfield 93, 3) := dk_180 0 93 (dk_at dksX0_more_2 13 rfl rfl)
theorem dX0_more_63 : decode cX0_more 63 = .ok (.istore 6, 2) := dk_54 6 (dk_at dksX0_more_2 16 rfl rfl)
theorem dX0_more_65 : decode cX0_more 65 = .ok (.aload_n 0, 1) := dk_42 (dk_at dksX0_more_2 18 rfl rfl)
theorem dX0_more_66 : decode cX0_more 66 = .ok (.getfield 30, 3) := dk_180 0 30 (dk_at dksX0_more_2 19 rfl rfl)
theorem dX0_more_69 : decode cX0_more 69 = .ok (.getfield 160, 3) := dk_180 0 160 (dk_at dksX0_more_3 0 rfl rfl)
theorem dX0_more_72 : decode cX0_more 72 = .ok (.getfield 186, 3) := dk_180 0 186 (dk_at dksX0_more_3 3 rfl rfl)
theorem dX0_more_75 : decode cX0_more 75 = .ok (.iload 6, 2) := dk_21 6 (dk_at dksX0_more_3 6 rfl rfl)
theorem dX0_more_77 : decode cX0_more 77 = .ok (.iaload, 1) := dk_46 (dk_at dksX0_more_3 8 rfl rfl)
theorem dX0_more_78 : decode cX0_more 78 = .ok (.istore 7, 2) := dk_54 7 (dk_at dksX0_more_3 9 rfl rfl)
theorem dX0_more_80 : decode cX0_more 80 = .ok (.aload_n 0, 1) := dk_42 (dk_at dksX0_more_3 11 rfl rfl)
theorem dX0_more_81 : decode cX0_more 81 = .ok (.getfield 30, 3) := dk_180 0 30 (dk_at dksX0_more_3 12 rfl rfl)
theorem dX0_more_84 : decode cX0_more 84 = .ok (.getfield 177, 3) := dk_180 0 177 (dk_at dksX0_more_3 15 rfl rfl)
theorem dX0_more_87 : decode cX0_more 87 = .ok (.iload 6, 2) := dk_21 6 (dk_at dksX0_more_3 18 rfl rfl)
theorem dX0_more_89 : decode cX0_more 89 = .ok (.iload_n 2, 1) := dk_28 (dk_at dksX0_more_3 20 rfl rfl)
theorem dX0_more_90 : decode cX0_more 90 = .ok (.iastore, 1) := dk_79 (dk_at dksX0_more_3 21 rfl rfl)
theorem dX0_more_91 : decode cX0_more 91 = .ok (.aload_n 0, 1) := dk_42 (dk_at dksX0_more_3 22 rfl rfl)
theorem dX0_more_92 : decode cX0_more 92 = .ok (.getfield 30, 3) := dk_180 0 30 (dk_at dksX0_more_4 0 rfl rfl)
theorem dX0_more_95 : decode cX0_more 95 = .ok (.getfield 241, 3) := dk_180 0 241 (dk_at dksX0_more_4 3 rfl rfl)
theorem dX0_more_98 : decode cX0_more 98 = .ok (.iload 6, 2) := dk_21 6 (dk_at dksX0_more_4 6 rfl rfl)
theorem dX0_more_100 : decode cX0_more 100 = .ok (.iload 4, 2) := dk_21 4 (dk_at dksX0_more_4 8 rfl rfl)
theorem dX0_more_102 : decode cX0_more 102 = .ok (.iastore, 1) := dk_79 (dk_at dksX0_more_4 10 rfl rfl)
theorem dX0_more_103 : decode cX0_more 103 = .ok (.aload_n 0, 1) := dk_42 (dk_at dksX0_more_4 11 rfl rfl)
theorem dX0_more_104 : decode cX0_more 104 = .ok (.getfield 30, 3) := dk_180 0 30 (dk_at dksX0_more_4 12 rfl rfl)
theorem dX0_more_107 : decode cX0_more 107 = .ok (.getfield 160, 3) := dk_180 0 160 (dk_at dksX0_more_4 15 rfl rfl)
theorem dX0_more_110 : decode cX0_more 110 = .ok (.getfield 186, 3) := dk_180 0 186 (dk_at dksX0_more_4 18 rfl rfl)
theorem dX0_more_113 : decode cX0_more 113 = .ok (.iload 6, 2) := dk_21 6 (dk_at dksX0_more_4 21 rfl rfl)
theorem dX0_more_115 : decode cX0_more 115 = .ok (.iload_n 3, 1) := dk_29 (dk_at dksX0_more_4 23 rfl rfl)
theorem dX0_more_116 : decode cX0_more 116 = .ok (.iastore, 1) := dk_79 (dk_at dksX0_more_5 0 rfl rfl)
theorem dX0_more_117 : decode cX0_more 117 = .ok (.aload_n 0, 1) := dk_42 (dk_at dksX0_more_5 1 rfl rfl)
theorem dX0_more_118 : decode cX0_more 118 = .ok (.getfield 30, 3) := dk_180 0 30 (dk_at dksX0_more_5 2 rfl rfl)
theorem dX0_more_121 : decode cX0_more 121 = .ok (.dup, 1) := dk_89 (dk_at dksX0_more_5 5 rfl rfl)
theorem dX0_more_122 : decode cX0_more 122 = .ok (.getfield 93, 3) := dk_180 0 93 (dk_at dksX0_more_5 6 rfl rfl)
theorem dX0_more_125 : decode cX0_more 125 = .ok (.iconst 1, 1) := dk_4 (dk_at dksX0_more_5 9 rfl rfl)
theorem dX0_more_126 : decode cX0_more 126 = .ok (.iadd, 1) := dk_96 (dk_at dksX0_more_5 10 rfl rfl)
theorem dX0_more_127 : decode cX0_more 127 = .ok (.putfield 93, 3) := dk_181 0 93 (dk_at dksX0_more_5 11 rfl rfl)
theorem dX0_more_130 : decode cX0_more 130 = .ok (.aload_n 0, 1) := dk_42 (dk_at dksX0_more_5 14 rfl rfl)
theorem dX0_more_131 : decode cX0_more 131 = .ok (.getfield 67, 3) := dk_180 0 67 (dk_at dksX0_more_5 15 rfl rfl)
theorem dX0_more_134 : decode cX0_more 134 = .ok (.iload_n 1, 1) := dk_27 (dk_at dksX0_more_5 18 rfl rfl)
theorem dX0_more_135 : decode cX0_more 135 = .ok (.invokevirtual 250, 3) := dk_182 0 250 (dk_at dksX0_more_5 19 rfl rfl)
theorem dX0_more_138 : decode cX0_more 138 = .ok (.aload_n 0, 1) := dk_42 (dk_at dksX0_more_5 22 rfl rfl)
theorem dX0_more_139 : decode cX0_more 139 = .ok (.getfield 30, 3) := dk_180 0 30 (dk_at dksX0_more_6 0 rfl rfl)
theorem dX0_more_142 : decode cX0_more 142 = .ok (.dup, 1) := dk_89 (dk_at dksX0_more_6 3 rfl rfl)
theorem dX0_more_143 : decode cX0_more 143 = .ok (.getfield 93, 3) := dk_180 0 93 (dk_at dksX0_more_6 4 rfl rfl)
theorem dX0_more_146 : decode cX0_more 146 = .ok (.iconst 1, 1) := dk_4 (dk_at dksX0_more_6 7 rfl rfl)
theorem dX0_more_147 : decode cX0_more 147 = .ok (.isub, 1) := dk_100 (dk_at dksX0_more_6 8 rfl rfl)
theorem dX0_more_148 : decode cX0_more 148 = .ok (.putfield 93, 3) := dk_181 0 93 (dk_at dksX0_more_6 9 rfl rfl)
theorem dX0_more_151 : decode cX0_more 151 = .ok (.aload_n 0, 1) := dk_42 (dk_at dksX0_more_6 12 rfl rfl)
theorem dX0_more_152 : decode cX0_more 152 = .ok (.getfield 30, 3) := dk_180 0 30 (dk_at dksX0_more_6 13 rfl rfl)
theorem dX0_more_155 : decode cX0_more 155 = .ok (.getfield 160, 3) := dk_180 0 160 (dk_at dksX0_more_6 16 rfl rfl)
theorem dX0_more_158 : decode cX0_more 158 = .ok (.getfield 186, 3) := dk_180 0 186 (dk_at dksX0_more_6 19 rfl rfl)
theorem dX0_more_161 : decode cX0_more 161 = .ok (.iload 6, 2) := dk_21 6 (dk_at dksX0_more_6 22 rfl rfl)
theorem dX0_more_163 : decode cX0_more 163 = .ok (.iload 7, 2) := dk_21 7 (dk_at dksX0_more_7 0 rfl rfl)
theorem dX0_more_165 : decode cX0_more 165 = .ok (.iastore, 1) := dk_79 (dk_at dksX0_more_7 2 rfl rfl)
theorem dX0_more_166 : decode cX0_more 166 = .ok (.aload_n 0, 1) := dk_42 (dk_at dksX0_more_7 3 rfl rfl)
theorem dX0_more_167 : decode cX0_more 167 = .ok (.getfield 67, 3) := dk_180 0 67 (dk_at dksX0_more_7 4 rfl rfl)
theorem dX0_more_170 : decode cX0_more 170 = .ok (.getfield 254, 3) := dk_180 0 254 (dk_at dksX0_more_7 7 rfl rfl)
theorem dX0_more_173 : decode cX0_more 173 = .ok (.iload 5, 2) := dk_21 5 (dk_at dksX0_more_7 10 rfl rfl)
theorem dX0_more_175 : decode cX0_more 175 = .ok (.isub, 1) := dk_100 (dk_at dksX0_more_7 12 rfl rfl)
theorem dX0_more_176 : decode cX0_more 176 = .ok (.ireturn, 1) := dk_172 (dk_at dksX0_more_7 13 rfl rfl)
abbrev cX0_changed : ByteArray := prog_1_method_34_code
def yX0_changed : MethodName := ⟨RX0, "changed", "(II)I"⟩
def dkwX0_changed_5 : List UInt8 := [167, 255, 177, 42, 180, 0, 30, 180, 0, 164, 28, 45, 83, 21, 4, 172]
abbrev dktX0_changed_5 : List UInt8 := dkwX0_changed_5 ++ []
def dkwX0_changed_4 : List UInt8 := [167, 0, 5, 21, 4, 54, 4, 21, 5, 42, 180, 0, 67, 180, 1, 2, 184, 1, 18, 54, 5, 132, 6, 1]
abbrev dktX0_changed_4 : List UInt8 := dkwX0_changed_4 ++ dktX0_changed_5
def dkwX0_changed_3 : List UInt8 := [83, 42, 180, 0, 67, 27, 182, 0, 250, 42, 180, 0, 67, 180, 1, 2, 21, 5, 164, 0, 8, 21, 6]
abbrev dktX0_changed_3 : List UInt8 := dkwX0_changed_3 ++ dktX0_changed_4
def dkwX0_changed_2 : List UInt8 := [180, 0, 30, 180, 0, 164, 28, 45, 182, 0, 224, 45, 180, 0, 227, 21, 6, 45, 180, 0, 233, 184, 0, 117]
abbrev dktX0_changed_2 : List UInt8 := dkwX0_changed_2 ++ dktX0_changed_3
def dkwX0_changed_1 : List UInt8 := [180, 0, 164, 28, 50, 78, 3, 54, 4, 2, 54, 5, 3, 54, 6, 21, 6, 16, 99, 163, 0, 78, 42]
abbrev dktX0_changed_1 : List UInt8 := dkwX0_changed_1 ++ dktX0_changed_2
def dkwX0_changed_0 : List UInt8 := [27, 184, 0, 244, 153, 0, 11, 42, 28, 182, 0, 132, 154, 0, 8, 42, 182, 0, 110, 172, 42, 180, 0, 30]
abbrev dktX0_changed_0 : List UInt8 := dkwX0_changed_0 ++ dktX0_changed_1
theorem dksX0_changed_0 : cX0_changed.data.toList.drop 0 = dktX0_changed_0 := by decide +kernel
theorem dksX0_changed_1 : cX0_changed.data.toList.drop 24 = dktX0_changed_1 := dk_seg dksX0_changed_0 24 rfl rfl
theorem dksX0_changed_2 : cX0_changed.data.toList.drop 47 = dktX0_changed_2 := dk_seg dksX0_changed_1 23 rfl rfl
theorem dksX0_changed_3 : cX0_changed.data.toList.drop 71 = dktX0_changed_3 := dk_seg dksX0_changed_2 24 rfl rfl
theorem dksX0_changed_4 : cX0_changed.data.toList.drop 94 = dktX0_changed_4 := dk_seg dksX0_changed_3 23 rfl rfl
theorem dksX0_changed_5 : cX0_changed.data.toList.drop 118 = dktX0_changed_5 := dk_seg dksX0_changed_4 24 rfl rfl
theorem dX0_changed_0 : decode cX0_changed 0 = .ok (.iload_n 1, 1) := dk_27 (dk_at dksX0_changed_0 0 rfl rfl)
theorem dX0_changed_1 : decode cX0_changed 1 = .ok (.invokestatic 244, 3) := dk_184 0 244 (dk_at dksX0_changed_0 1 rfl rfl)
theorem dX0_changed_4 : decode cX0_changed 4 = .ok (.ifCond .eq 11, 3) := dk_153 0 11 (dk_at dksX0_changed_0 4 rfl rfl)
theorem dX0_changed_7 : decode cX0_changed 7 = .ok (.aload_n 0, 1) := dk_42 (dk_at dksX0_changed_0 7 rfl rfl)
theorem dX0_changed_8 : decode cX0_changed 8 = .ok (.iload_n 2, 1) := dk_28 (dk_at dksX0_changed_0 8 rfl rfl)
theorem dX0_changed_9 : decode cX0_changed 9 = .ok (.invokevirtual 132, 3) := dk_182 0 132 (dk_at dksX0_changed_0 9 rfl rfl)
theorem dX0_changed_12 : decode cX0_changed 12 = .ok (.ifCond .ne 8, 3) := dk_154 0 8 (dk_at dksX0_changed_0 12 rfl rfl)
theorem dX0_changed_15 : decode cX0_changed 15 = .ok (.aload_n 0, 1) := dk_42 (dk_at dksX0_changed_0 15 rfl rfl)
theorem dX0_changed_16 : decode cX0_changed 16 = .ok (.invokevirtual 110, 3) := dk_182 0 110 (dk_at dksX0_changed_0 16 rfl rfl)
theorem dX0_changed_19 : decode cX0_changed 19 = .ok (.ireturn, 1) := dk_172 (dk_at dksX0_changed_0 19 rfl rfl)
theorem dX0_changed_20 : decode cX0_changed 20 = .ok (.aload_n 0, 1) := dk_42 (dk_at dksX0_changed_0 20 rfl rfl)
theorem dX0_changed_21 : decode cX0_changed 21 = .ok (.getfield 30, 3) := dk_180 0 30 (dk_at dksX0_changed_0 21 rfl rfl)
theorem dX0_changed_24 : decode cX0_changed 24 = .ok (.getfield 164, 3) := dk_180 0 164 (dk_at dksX0_changed_1 0 rfl rfl)
theorem dX0_changed_27 : decode cX0_changed 27 = .ok (.iload_n 2, 1) := dk_28 (dk_at dksX0_changed_1 3 rfl rfl)
theorem dX0_changed_28 : decode cX0_changed 28 = .ok (.aaload, 1) := dk_50 (dk_at dksX0_changed_1 4 rfl rfl)
theorem dX0_changed_29 : decode cX0_changed 29 = .ok (.astore_n 3, 1) := dk_78 (dk_at dksX0_changed_1 5 rfl rfl)
theorem dX0_changed_30 : decode cX0_changed 30 = .ok (.iconst 0, 1) := dk_3 (dk_at dksX0_changed_1 6 rfl rfl)
theorem dX0_changed_31 : decode cX0_changed 31 = .ok (.istore 4, 2) := dk_54 4 (dk_at dksX0_changed_1 7 rfl rfl)
theorem dX0_changed_33 : decode cX0_changed 33 = .ok (.iconst (-1), 1) := dk_2 (dk_at dksX0_changed_1 9 rfl rfl)
theorem dX0_changed_34 : decode cX0_changed 34 = .ok (.istore 5, 2) := dk_54 5 (dk_at dksX0_changed_1 10 rfl rfl)
theorem dX0_changed_36 : decode cX0_changed 36 = .ok (.iconst 0, 1) := dk_3 (dk_at dksX0_changed_1 12 rfl rfl)
theorem dX0_changed_37 : decode cX0_changed 37 = .ok (.istore 6, 2) := dk_54 6 (dk_at dksX0_changed_1 13 rfl rfl)
theorem dX0_changed_39 : decode cX0_changed 39 = .ok (.iload 6, 2) := dk_21 6 (dk_at dksX0_changed_1 15 rfl rfl)
theorem dX0_changed_41 : decode cX0_changed 41 = .ok (.bipush 99, 2) := dk_16 99 (dk_at dksX0_changed_1 17 rfl rfl)
theorem dX0_changed_43 : decode cX0_changed 43 = .ok (.if_icmp .gt 78, 3) := dk_163 0 78 (dk_at dksX0_changed_1 19 rfl rfl)
theorem dX0_changed_46 : decode cX0_changed 46 = .ok (.aload_n 0, 1) := dk_42 (dk_at dksX0_changed_1 22 rfl rfl)
theorem dX0_changed_47 : decode cX0_changed 47 = .ok (.getfield 30, 3) := dk_180 0 30 (dk_at dksX0_changed_2 0 rfl rfl)
theorem dX0_changed_50 : decode cX0_changed 50 = .ok (.getfield 164, 3) := dk_180 0 164 (dk_at dksX0_changed_2 3 rfl rfl)
theorem dX0_changed_53 : decode cX0_changed 53 = .ok (.iload_n 2, 1) := dk_28 (dk_at dksX0_changed_2 6 rfl rfl)
theorem dX0_changed_54 : decode cX0_changed 54 = .ok (.aload_n 3, 1) := dk_45 (dk_at dksX0_changed_2 7 rfl rfl)
theorem dX0_changed_55 : decode cX0_changed 55 = .ok (.invokevirtual 224, 3) := dk_182 0 224 (dk_at dksX0_changed_2 8 rfl rfl)
theorem dX0_changed_58 : decode cX0_changed 58 = .ok (.aload_n 3, 1) := dk_45 (dk_at dksX0_changed_2 11 rfl rfl)
theorem dX0_changed_59 : decode cX0_changed 59 = .ok (.getfield 227, 3) := dk_180 0 227 (dk_at dksX0_changed_2 12 rfl rfl)
theorem dX0_changed_62 : decode cX0_changed 62 = .ok (.iload 6, 2) := dk_21 6 (dk_at dksX0_changed_2 15 rfl rfl)
theorem dX0_changed_64 : decode cX0_changed 64 = .ok (.aload_n 3, 1) := dk_45 (dk_at dksX0_changed_2 17 rfl rfl)
theorem dX0_changed_65 : decode cX0_changed 65 = .ok (.getfield 233, 3) := dk_180 0 233 (dk_at dksX0_changed_2 18 rfl rfl)
theorem dX0_changed_68 : decode cX0_changed 68 = .ok (.invokestatic 117, 3) := dk_184 0 117 (dk_at dksX0_changed_2 21 rfl rfl)
theorem dX0_changed_71 : decode cX0_changed 71 = .ok (.aastore, 1) := dk_83 (dk_at dksX0_changed_3 0 rfl rfl)
theorem dX0_changed_72 : decode cX0_changed 72 = .ok (.aload_n 0, 1) := dk_42 (dk_at dksX0_changed_3 1 rfl rfl)
theorem dX0_changed_73 : decode cX0_changed 73 = .ok (.getfield 67, 3) := dk_180 0 67 (dk_at dksX0_changed_3 2 rfl rfl)
theorem dX0_changed_76 : decode cX0_changed 76 = .ok (.iload_n 1, 1) := dk_27 (dk_at dksX0_changed_3 5 rfl rfl)
theorem dX0_changed_77 : decode cX0_changed 77 = .ok (.invokevirtual 250, 3) := dk_182 0 250 (dk_at dksX0_changed_3 6 rfl rfl)
theorem dX0_changed_80 : decode cX0_changed 80 = .ok (.aload_n 0, 1) := dk_42 (dk_at dksX0_changed_3 9 rfl rfl)
theorem dX0_changed_81 : decode cX0_changed 81 = .ok (.getfield 67, 3) := dk_180 0 67 (dk_at dksX0_changed_3 10 rfl rfl)
theorem dX0_changed_84 : decode cX0_changed 84 = .ok (.getfield 258, 3) := dk_180 1 2 (dk_at dksX0_changed_3 13 rfl rfl)
theorem dX0_changed_87 : decode cX0_changed 87 = .ok (.iload 5, 2) := dk_21 5 (dk_at dksX0_changed_3 16 rfl rfl)
theorem dX0_changed_89 : decode cX0_changed 89 = .ok (.if_icmp .le 8, 3) := dk_164 0 8 (dk_at dksX0_changed_3 18 rfl rfl)
theorem dX0_changed_92 : decode cX0_changed 92 = .ok (.iload 6, 2) := dk_21 6 (dk_at dksX0_changed_3 21 rfl rfl)
theorem dX0_changed_94 : decode cX0_changed 94 = .ok (.goto 5, 3) := dk_167 0 5 (dk_at dksX0_changed_4 0 rfl rfl)
theorem dX0_changed_97 : decode cX0_changed 97 = .ok (.iload 4, 2) := dk_21 4 (dk_at dksX0_changed_4 3 rfl rfl)
theorem dX0_changed_99 : decode cX0_changed 99 = .ok (.istore 4, 2) := dk_54 4 (dk_at dksX0_changed_4 5 rfl rfl)
theorem dX0_changed_101 : decode cX0_changed 101 = .ok (.iload 5, 2) := dk_21 5 (dk_at dksX0_changed_4 7 rfl rfl)
theorem dX0_changed_103 : decode cX0_changed 103 = .ok (.aload_n 0, 1) := dk_42 (dk_at dksX0_changed_4 9 rfl rfl)
theorem dX0_changed_104 : decode cX0_changed 104 = .ok (.getfield 67, 3) := dk_180 0 67 (dk_at dksX0_changed_4 10 rfl rfl)
theorem dX0_changed_107 : decode cX0_changed 107 = .ok (.getfield 258, 3) := dk_180 1 2 (dk_at dksX0_changed_4 13 rfl rfl)
theorem dX0_changed_110 : decode cX0_changed 110 = .ok (.invokestatic 274, 3) := dk_184 1 18 (dk_at dksX0_changed_4 16 rfl rfl)
theorem dX0_changed_113 : decode cX0_changed 113 = .ok (.istore 5, 2) := dk_54 5 (dk_at dksX0_changed_4 19 rfl rfl)
theorem dX0_changed_115 : decode cX0_changed 115 = .ok (.iinc 6 1, 3) := dk_132 6 1 (dk_at dksX0_changed_4 21 rfl rfl)
theorem dX0_changed_118 : decode cX0_changed 118 = .ok (.goto (-79), 3) := dk_167 255 177 (dk_at dksX0_changed_5 0 rfl rfl)
theorem dX0_changed_121 : decode cX0_changed 121 = .ok (.aload_n 0, 1) := dk_42 (dk_at dksX0_changed_5 3 rfl rfl)
theorem dX0_changed_122 : decode cX0_changed 122 = .ok (.getfield 30, 3) := dk_180 0 30 (dk_at dksX0_changed_5 4 rfl rfl)
theorem dX0_changed_125 : decode cX0_changed 125 = .ok (.getfield 164, 3) := dk_180 0 164 (dk_at dksX0_changed_5 7 rfl rfl)
theorem dX0_changed_128 : decode cX0_changed 128 = .ok (.iload_n 2, 1) := dk_28 (dk_at dksX0_changed_5 10 rfl rfl)
theorem dX0_changed_129 : decode cX0_changed 129 = .ok (.aload_n 3, 1) := dk_45 (dk_at dksX0_changed_5 11 rfl rfl)
theorem dX0_changed_130 : decode cX0_changed 130 = .ok (.aastore, 1) := dk_83 (dk_at dksX0_changed_5 12 rfl rfl)
theorem dX0_changed_131 : decode cX0_changed 131 = .ok (.iload 4, 2) := dk_21 4 (dk_at dksX0_changed_5 13 rfl rfl)
theorem dX0_changed_133 : decode cX0_changed 133 = .ok (.ireturn, 1) := dk_172 (dk_at dksX0_changed_5 15 rfl rfl)
abbrev cX0_air : ByteArray := prog_1_method_36_code
def yX0_air : MethodName := ⟨RX0, "air", "(I)I"⟩
def dkwX0_air_1 : List UInt8 := [42, 180, 0, 30, 27, 182, 0, 173, 42, 180, 0, 30, 27, 4, 130, 182, 0, 173, 182, 1, 23, 172]
abbrev dktX0_air_1 : List UInt8 := dkwX0_air_1 ++ []
def dkwX0_air_0 : List UInt8 := [42, 27, 182, 0, 157, 153, 0, 13, 42, 27, 4, 130, 182, 0, 157, 154, 0, 8, 42, 182, 0, 110, 172, 42]
abbrev dktX0_air_0 : List UInt8 := dkwX0_air_0 ++ dktX0_air_1
theorem dksX0_air_0 : cX0_air.data.toList.drop 0 = dktX0_air_0 := by decide +kernel
theorem dksX0_air_1 : cX0_air.data.toList.drop 24 = dktX0_air_1 := dk_seg dksX0_air_0 24 rfl rfl
theorem dX0_air_0 : decode cX0_air 0 = .ok (.aload_n 0, 1) := dk_42 (dk_at dksX0_air_0 0 rfl rfl)
theorem dX0_air_1 : decode cX0_air 1 = .ok (.iload_n 1, 1) := dk_27 (dk_at dksX0_air_0 1 rfl rfl)
theorem dX0_air_2 : decode cX0_air 2 = .ok (.invokevirtual 157, 3) := dk_182 0 157 (dk_at dksX0_air_0 2 rfl rfl)
theorem dX0_air_5 : decode cX0_air 5 = .ok (.ifCond .eq 13, 3) := dk_153 0 13 (dk_at dksX0_air_0 5 rfl rfl)
theorem dX0_air_8 : decode cX0_air 8 = .ok (.aload_n 0, 1) := dk_42 (dk_at dksX0_air_0 8 rfl rfl)
theorem dX0_air_9 : decode cX0_air 9 = .ok (.iload_n 1, 1) := dk_27 (dk_at dksX0_air_0 9 rfl rfl)
theorem dX0_air_10 : decode cX0_air 10 = .ok (.iconst 1, 1) := dk_4 (dk_at dksX0_air_0 10 rfl rfl)
theorem dX0_air_11 : decode cX0_air 11 = .ok (.ixor, 1) := dk_130 (dk_at dksX0_air_0 11 rfl rfl)
theorem dX0_air_12 : decode cX0_air 12 = .ok (.invokevirtual 157, 3) := dk_182 0 157 (dk_at dksX0_air_0 12 rfl rfl)
theorem dX0_air_15 : decode cX0_air 15 = .ok (.ifCond .ne 8, 3) := dk_154 0 8 (dk_at dksX0_air_0 15 rfl rfl)
theorem dX0_air_18 : decode cX0_air 18 = .ok (.aload_n 0, 1) := dk_42 (dk_at dksX0_air_0 18 rfl rfl)
theorem dX0_air_19 : decode cX0_air 19 = .ok (.invokevirtual 110, 3) := dk_182 0 110 (dk_at dksX0_air_0 19 rfl rfl)
theorem dX0_air_22 : decode cX0_air 22 = .ok (.ireturn, 1) := dk_172 (dk_at dksX0_air_0 22 rfl rfl)
theorem dX0_air_23 : decode cX0_air 23 = .ok (.aload_n 0, 1) := dk_42 (dk_at dksX0_air_0 23 rfl rfl)
theorem dX0_air_24 : decode cX0_air 24 = .ok (.aload_n 0, 1) := dk_42 (dk_at dksX0_air_1 0 rfl rfl)
theorem dX0_air_25 : decode cX0_air 25 = .ok (.getfield 30, 3) := dk_180 0 30 (dk_at dksX0_air_1 1 rfl rfl)
theorem dX0_air_28 : decode cX0_air 28 = .ok (.iload_n 1, 1) := dk_27 (dk_at dksX0_air_1 4 rfl rfl)
theorem dX0_air_29 : decode cX0_air 29 = .ok (.invokevirtual 173, 3) := dk_182 0 173 (dk_at dksX0_air_1 5 rfl rfl)
theorem dX0_air_32 : decode cX0_air 32 = .ok (.aload_n 0, 1) := dk_42 (dk_at dksX0_air_1 8 rfl rfl)
theorem dX0_air_33 : decode cX0_air 33 = .ok (.getfield 30, 3) := dk_180 0 30 (dk_at dksX0_air_1 9 rfl rfl)
theorem dX0_air_36 : decode cX0_air 36 = .ok (.iload_n 1, 1) := dk_27 (dk_at dksX0_air_1 12 rfl rfl)
theorem dX0_air_37 : decode cX0_air 37 = .ok (.iconst 1, 1) := dk_4 (dk_at dksX0_air_1 13 rfl rfl)
theorem dX0_air_38 : decode cX0_air 38 = .ok (.ixor, 1) := dk_130 (dk_at dksX0_air_1 14 rfl rfl)
theorem dX0_air_39 : decode cX0_air 39 = .ok (.invokevirtual 173, 3) := dk_182 0 173 (dk_at dksX0_air_1 15 rfl rfl)
theorem dX0_air_42 : decode cX0_air 42 = .ok (.invokevirtual 279, 3) := dk_182 1 23 (dk_at dksX0_air_1 18 rfl rfl)
theorem dX0_air_45 : decode cX0_air 45 = .ok (.ireturn, 1) := dk_172 (dk_at dksX0_air_1 21 rfl rfl)
abbrev cX0_airOf : ByteArray := prog_1_method_35_code
def yX0_airOf : MethodName := ⟨RX0, "airOf", "(II)I"⟩
def dkwX0_airOf_2 : List UInt8 := [50, 29, 182, 0, 236, 96, 16, 6, 112, 172]
abbrev dktX0_airOf_2 : List UInt8 := dkwX0_airOf_2 ++ []
def dkwX0_airOf_1 : List UInt8 := [167, 0, 33, 42, 180, 0, 30, 180, 0, 164, 27, 50, 29, 182, 0, 236, 42, 180, 0, 30, 180, 0, 164, 28]
abbrev dktX0_airOf_1 : List UInt8 := dkwX0_airOf_1 ++ dktX0_airOf_2
def dkwX0_airOf_0 : List UInt8 := [42, 180, 0, 30, 180, 0, 160, 180, 0, 208, 62, 27, 2, 159, 0, 8, 28, 2, 160, 0, 7, 2]
abbrev dktX0_airOf_0 : List UInt8 := dkwX0_airOf_0 ++ dktX0_airOf_1
theorem dksX0_airOf_0 : cX0_airOf.data.toList.drop 0 = dktX0_airOf_0 := by decide +kernel
theorem dksX0_airOf_1 : cX0_airOf.data.toList.drop 22 = dktX0_airOf_1 := dk_seg dksX0_airOf_0 22 rfl rfl
theorem dksX0_airOf_2 : cX0_airOf.data.toList.drop 46 = dktX0_airOf_2 := dk_seg dksX0_airOf_1 24 rfl rfl
theorem dX0_airOf_0 : decode cX0_airOf 0 = .ok (.aload_n 0, 1) := dk_42 (dk_at dksX0_airOf_0 0 rfl rfl)
theorem dX0_airOf_1 : decode cX0_airOf 1 = .ok (.getfield 30, 3) := dk_180 0 30 (dk_at dksX0_airOf_0 1 rfl rfl)
theorem dX0_airOf_4 : decode cX0_airOf 4 = .ok (.getfield 160, 3) := dk_180 0 160 (dk_at dksX0_airOf_0 4 rfl rfl)
theorem dX0_airOf_7 : decode cX0_airOf 7 = .ok (.getfield 208, 3) := dk_180 0 208 (dk_at dksX0_airOf_0 7 rfl rfl)
theorem dX0_airOf_10 : decode cX0_airOf 10 = .ok (.istore_n 3, 1) := dk_62 (dk_at dksX0_airOf_0 10 rfl rfl)
theorem dX0_airOf_11 : decode cX0_airOf 11 = .ok (.iload_n 1, 1) := dk_27 (dk_at dksX0_airOf_0 11 rfl rfl)
theorem dX0_airOf_12 : decode cX0_airOf 12 = .ok (.iconst (-1), 1) := dk_2 (dk_at dksX0_airOf_0 12 rfl rfl)
theorem dX0_airOf_13 : decode cX0_airOf 13 = .ok (.if_icmp .eq 8, 3) := dk_159 0 8 (dk_at dksX0_airOf_0 13 rfl rfl)
theorem dX0_airOf_16 : decode cX0_airOf 16 = .ok (.iload_n 2, 1) := dk_28 (dk_at dksX0_airOf_0 16 rfl rfl)
theorem dX0_airOf_17 : decode cX0_airOf 17 = .ok (.iconst (-1), 1) := dk_2 (dk_at dksX0_airOf_0 17 rfl rfl)
theorem dX0_airOf_18 : decode cX0_airOf 18 = .ok (.if_icmp .ne 7, 3) := dk_160 0 7 (dk_at dksX0_airOf_0 18 rfl rfl)
theorem dX0_airOf_21 : decode cX0_airOf 21 = .ok (.iconst (-1), 1) := dk_2 (dk_at dksX0_airOf_0 21 rfl rfl)
theorem dX0_airOf_22 : decode cX0_airOf 22 = .ok (.goto 33, 3) := dk_167 0 33 (dk_at dksX0_airOf_1 0 rfl rfl)
theorem dX0_airOf_25 : decode cX0_airOf 25 = .ok (.aload_n 0, 1) := dk_42 (dk_at dksX0_airOf_1 3 rfl rfl)
theorem dX0_airOf_26 : decode cX0_airOf 26 = .ok (.getfield 30, 3) := dk_180 0 30 (dk_at dksX0_airOf_1 4 rfl rfl)
theorem dX0_airOf_29 : decode cX0_airOf 29 = .ok (.getfield 164, 3) := dk_180 0 164 (dk_at dksX0_airOf_1 7 rfl rfl)
theorem dX0_airOf_32 : decode cX0_airOf 32 = .ok (.iload_n 1, 1) := dk_27 (dk_at dksX0_airOf_1 10 rfl rfl)
theorem dX0_airOf_33 : decode cX0_airOf 33 = .ok (.aaload, 1) := dk_50 (dk_at dksX0_airOf_1 11 rfl rfl)
theorem dX0_airOf_34 : decode cX0_airOf 34 = .ok (.iload_n 3, 1) := dk_29 (dk_at dksX0_airOf_1 12 rfl rfl)
theorem dX0_airOf_35 : decode cX0_airOf 35 = .ok (.invokevirtual 236, 3) := dk_182 0 236 (dk_at dksX0_airOf_1 13 rfl rfl)
theorem dX0_airOf_38 : decode cX0_airOf 38 = .ok (.aload_n 0, 1) := dk_42 (dk_at dksX0_airOf_1 16 rfl rfl)
theorem dX0_airOf_39 : decode cX0_airOf 39 = .ok (.getfield 30, 3) := dk_180 0 30 (dk_at dksX0_airOf_1 17 rfl rfl)
theorem dX0_airOf_42 : decode cX0_airOf 42 = .ok (.getfield 164, 3) := dk_180 0 164 (dk_at dksX0_airOf_1 20 rfl rfl)
theorem dX0_airOf_45 : decode cX0_airOf 45 = .ok (.iload_n 2, 1) := dk_28 (dk_at dksX0_airOf_1 23 rfl rfl)
theorem dX0_airOf_46 : decode cX0_airOf 46 = .ok (.aaload, 1) := dk_50 (dk_at dksX0_airOf_2 0 rfl rfl)
theorem dX0_airOf_47 : decode cX0_airOf 47 = .ok (.iload_n 3, 1) := dk_29 (dk_at dksX0_airOf_2 1 rfl rfl)
theorem dX0_airOf_48 : decode cX0_airOf 48 = .ok (.invokevirtual 236, 3) := dk_182 0 236 (dk_at dksX0_airOf_2 2 rfl rfl)
theorem dX0_airOf_51 : decode cX0_airOf 51 = .ok (.iadd, 1) := dk_96 (dk_at dksX0_airOf_2 5 rfl rfl)
theorem dX0_airOf_52 : decode cX0_airOf 52 = .ok (.bipush 6, 2) := dk_16 6 (dk_at dksX0_airOf_2 6 rfl rfl)
theorem dX0_airOf_54 : decode cX0_airOf 54 = .ok (.irem, 1) := dk_112 (dk_at dksX0_airOf_2 8 rfl rfl)
theorem dX0_airOf_55 : decode cX0_airOf 55 = .ok (.ireturn, 1) := dk_172 (dk_at dksX0_airOf_2 9 rfl rfl)
abbrev cX0_bring : ByteArray := prog_1_method_37_code
def yX0_bring : MethodName := ⟨RX0, "bring", "(III)I"⟩
def dkwX0_bring_11 : List UInt8 := [167, 0, 14, 29, 154, 0, 8, 21, 6, 167, 0, 5, 21, 7, 172]
abbrev dktX0_bring_11 : List UInt8 := dkwX0_bring_11 ++ []
def dkwX0_bring_10 : List UInt8 := [21, 9, 96, 54, 7, 132, 9, 1, 167, 255, 110, 132, 8, 1, 167, 255, 89, 21, 7, 2, 160, 0, 7, 2]
abbrev dktX0_bring_10 : List UInt8 := dkwX0_bring_10 ++ dktX0_bring_11
def dkwX0_bring_9 : List UInt8 := [182, 1, 23, 28, 160, 0, 24, 21, 11, 21, 6, 162, 0, 17, 21, 11, 54, 6, 16, 10, 21, 8, 104]
abbrev dktX0_bring_9 : List UInt8 := dkwX0_bring_9 ++ dktX0_bring_10
def dkwX0_bring_8 : List UInt8 := [21, 5, 160, 0, 7, 3, 167, 0, 4, 4, 96, 54, 11, 21, 10, 153, 0, 36, 42, 21, 8, 21, 9]
abbrev dktX0_bring_8 : List UInt8 := dkwX0_bring_8 ++ dktX0_bring_9
def dkwX0_bring_7 : List UInt8 := [153, 0, 7, 4, 167, 0, 4, 3, 54, 10, 21, 8, 21, 4, 160, 0, 7, 3, 167, 0, 4, 4, 21, 9]
abbrev dktX0_bring_7 : List UInt8 := dkwX0_bring_7 ++ dktX0_bring_8
def dkwX0_bring_6 : List UInt8 := [42, 180, 0, 30, 180, 0, 164, 21, 9, 50, 42, 180, 0, 30, 180, 0, 177, 27, 4, 96, 46, 182, 0, 180]
abbrev dktX0_bring_6 : List UInt8 := dkwX0_bring_6 ++ dktX0_bring_7
def dkwX0_bring_5 : List UInt8 := [180, 0, 30, 180, 0, 164, 21, 8, 50, 42, 180, 0, 30, 180, 0, 177, 27, 46, 182, 0, 180, 153, 0, 34]
abbrev dktX0_bring_5 : List UInt8 := dkwX0_bring_5 ++ dktX0_bring_6
def dkwX0_bring_4 : List UInt8 := [54, 9, 21, 9, 42, 180, 0, 30, 180, 0, 85, 162, 0, 140, 21, 8, 21, 9, 159, 0, 59, 42]
abbrev dktX0_bring_4 : List UInt8 := dkwX0_bring_4 ++ dktX0_bring_5
def dkwX0_bring_3 : List UInt8 := [16, 6, 54, 6, 2, 54, 7, 3, 54, 8, 21, 8, 42, 180, 0, 30, 180, 0, 85, 162, 0, 161, 3]
abbrev dktX0_bring_3 : List UInt8 := dkwX0_bring_3 ++ dktX0_bring_4
def dkwX0_bring_2 : List UInt8 := [172, 42, 180, 0, 30, 27, 182, 0, 173, 54, 4, 42, 180, 0, 30, 27, 4, 96, 182, 0, 173, 54, 5]
abbrev dktX0_bring_2 : List UInt8 := dkwX0_bring_2 ++ dktX0_bring_3
def dkwX0_bring_1 : List UInt8 := [153, 0, 20, 28, 184, 0, 106, 153, 0, 13, 29, 133, 9, 10, 184, 0, 89, 154, 0, 8, 42, 182, 0, 110]
abbrev dktX0_bring_1 : List UInt8 := dkwX0_bring_1 ++ dktX0_bring_2
def dkwX0_bring_0 : List UInt8 := [42, 27, 182, 0, 157, 153, 0, 37, 27, 5, 112, 4, 159, 0, 30, 42, 27, 4, 96, 182, 0, 157]
abbrev dktX0_bring_0 : List UInt8 := dkwX0_bring_0 ++ dktX0_bring_1
theorem dksX0_bring_0 : cX0_bring.data.toList.drop 0 = dktX0_bring_0 := by decide +kernel
theorem dksX0_bring_1 : cX0_bring.data.toList.drop 22 = dktX0_bring_1 := dk_seg dksX0_bring_0 22 rfl rfl
theorem dksX0_bring_2 : cX0_bring.data.toList.drop 46 = dktX0_bring_2 := dk_seg dksX0_bring_1 24 rfl rfl
theorem dksX0_bring_3 : cX0_bring.data.toList.drop 69 = dktX0_bring_3 := dk_seg dksX0_bring_2 23 rfl rfl
theorem dksX0_bring_4 : cX0_bring.data.toList.drop 92 = dktX0_bring_4 := dk_seg dksX0_bring_3 23 rfl rfl
theorem dksX0_bring_5 : cX0_bring.data.toList.drop 114 = dktX0_bring_5 := dk_seg dksX0_bring_4 22 rfl rfl
theorem dksX0_bring_6 : cX0_bring.data.toList.drop 138 = dktX0_bring_6 := dk_seg dksX0_bring_5 24 rfl rfl
theorem dksX0_bring_7 : cX0_bring.data.toList.drop 162 = dktX0_bring_7 := dk_seg dksX0_bring_6 24 rfl rfl
theorem dksX0_bring_8 : cX0_bring.data.toList.drop 186 = dktX0_bring_8 := dk_seg dksX0_bring_7 24 rfl rfl
theorem dksX0_bring_9 : cX0_bring.data.toList.drop 209 = dktX0_bring_9 := dk_seg dksX0_bring_8 23 rfl rfl
theorem dksX0_bring_10 : cX0_bring.data.toList.drop 232 = dktX0_bring_10 := dk_seg dksX0_bring_9 23 rfl rfl
theorem dksX0_bring_11 : cX0_bring.data.toList.drop 256 = dktX0_bring_11 := dk_seg dksX0_bring_10 24 rfl rfl
theorem dX0_bring_0 : decode cX0_bring 0 = .ok (.aload_n 0, 1) := dk_42 (dk_at dksX0_bring_0 0 rfl rfl)
theorem dX0_bring_1 : decode cX0_bring 1 = .ok (.iload_n 1, 1) := dk_27 (dk_at dksX0_bring_0 1 rfl rfl)
theorem dX0_bring_2 : decode cX0_bring 2 = .ok (.invokevirtual 157, 3) := dk_182 0 157 (dk_at dksX0_bring_0 2 rfl rfl)
theorem dX0_bring_5 : decode cX0_bring 5 = .ok (.ifCond .eq 37, 3) := dk_153 0 37 (dk_at dksX0_bring_0 5 rfl rfl)
theorem dX0_bring_8 : decode cX0_bring 8 = .ok (.iload_n 1, 1) := dk_27 (dk_at dksX0_bring_0 8 rfl rfl)
theorem dX0_bring_9 : decode cX0_bring 9 = .ok (.iconst 2, 1) := dk_5 (dk_at dksX0_bring_0 9 rfl rfl)
theorem dX0_bring_10 : decode cX0_bring 10 = .ok (.irem, 1) := dk_112 (dk_at dksX0_bring_0 10 rfl rfl)
theorem dX0_bring_11 : decode cX0_bring 11 = .ok (.iconst 1, 1) := dk_4 (dk_at dksX0_bring_0 11 rfl rfl)
theorem dX0_bring_12 : decode cX0_bring 12 = .ok (.if_icmp .eq 30, 3) := dk_159 0 30 (dk_at dksX0_bring_0 12 rfl rfl)
theorem dX0_bring_15 : decode cX0_bring 15 = .ok (.aload_n 0, 1) := dk_42 (dk_at dksX0_bring_0 15 rfl rfl)
theorem dX0_bring_16 : decode cX0_bring 16 = .ok (.iload_n 1, 1) := dk_27 (dk_at dksX0_bring_0 16 rfl rfl)
theorem dX0_bring_17 : decode cX0_bring 17 = .ok (.iconst 1, 1) := dk_4 (dk_at dksX0_bring_0 17 rfl rfl)
theorem dX0_bring_18 : decode cX0_bring 18 = .ok (.iadd, 1) := dk_96 (dk_at dksX0_bring_0 18 rfl rfl)
theorem dX0_bring_19 : decode cX0_bring 19 = .ok (.invokevirtual 157, 3) := dk_182 0 157 (dk_at dksX0_bring_0 19 rfl rfl)
theorem dX0_bring_22 : decode cX0_bring 22 = .ok (.ifCond .eq 20, 3) := dk_153 0 20 (dk_at dksX0_bring_1 0 rfl rfl)
theorem dX0_bring_25 : decode cX0_bring 25 = .ok (.iload_n 2, 1) := dk_28 (dk_at dksX0_bring_1 3 rfl rfl)
theorem dX0_bring_26 : decode cX0_bring 26 = .ok (.invokestatic 106, 3) := dk_184 0 106 (dk_at dksX0_bring_1 4 rfl rfl)
theorem dX0_bring_29 : decode cX0_bring 29 = .ok (.ifCond .eq 13, 3) := dk_153 0 13 (dk_at dksX0_bring_1 7 rfl rfl)
theorem dX0_bring_32 : decode cX0_bring 32 = .ok (.iload_n 3, 1) := dk_29 (dk_at dksX0_bring_1 10 rfl rfl)
theorem dX0_bring_33 : decode cX0_bring 33 = .ok (.i2l, 1) := dk_133 (dk_at dksX0_bring_1 11 rfl rfl)
theorem dX0_bring_34 : decode cX0_bring 34 = .ok (.lconst 0, 1) := dk_9 (dk_at dksX0_bring_1 12 rfl rfl)
theorem dX0_bring_35 : decode cX0_bring 35 = .ok (.lconst 1, 1) := dk_10 (dk_at dksX0_bring_1 13 rfl rfl)
theorem dX0_bring_36 : decode cX0_bring 36 = .ok (.invokestatic 89, 3) := dk_184 0 89 (dk_at dksX0_bring_1 14 rfl rfl)
theorem dX0_bring_39 : decode cX0_bring 39 = .ok (.ifCond .ne 8, 3) := dk_154 0 8 (dk_at dksX0_bring_1 17 rfl rfl)
theorem dX0_bring_42 : decode cX0_bring 42 = .ok (.aload_n 0, 1) := dk_42 (dk_at dksX0_bring_1 20 rfl rfl)
theorem dX0_bring_43 : decode cX0_bring 43 = .ok (.invokevirtual 110, 3) := dk_182 0 110 (dk_at dksX0_bring_1 21 rfl rfl)
theorem dX0_bring_46 : decode cX0_bring 46 = .ok (.ireturn, 1) := dk_172 (dk_at dksX0_bring_2 0 rfl rfl)
theorem dX0_bring_47 : decode cX0_bring 47 = .ok (.aload_n 0, 1) := dk_42 (dk_at dksX0_bring_2 1 rfl rfl)
theorem dX0_bring_48 : decode cX0_bring 48 = .ok (.getfield 30, 3) := dk_180 0 30 (dk_at dksX0_bring_2 2 rfl rfl)
theorem dX0_bring_51 : decode cX0_bring 51 = .ok (.iload_n 1, 1) := dk_27 (dk_at dksX0_bring_2 5 rfl rfl)
theorem dX0_bring_52 : decode cX0_bring 52 = .ok (.invokevirtual 173, 3) := dk_182 0 173 (dk_at dksX0_bring_2 6 rfl rfl)
theorem dX0_bring_55 : decode cX0_bring 55 = .ok (.istore 4, 2) := dk_54 4 (dk_at dksX0_bring_2 9 rfl rfl)
theorem dX0_bring_57 : decode cX0_bring 57 = .ok (.aload_n 0, 1) := dk_42 (dk_at dksX0_bring_2 11 rfl rfl)
theorem dX0_bring_58 : decode cX0_bring 58 = .ok (.getfield 30, 3) := dk_180 0 30 (dk_at dksX0_bring_2 12 rfl rfl)
theorem dX0_bring_61 : decode cX0_bring 61 = .ok (.iload_n 1, 1) := dk_27 (dk_at dksX0_bring_2 15 rfl rfl)
theorem dX0_bring_62 : decode cX0_bring 62 = .ok (.iconst 1, 1) := dk_4 (dk_at dksX0_bring_2 16 rfl rfl)
theorem dX0_bring_63 : decode cX0_bring 63 = .ok (.iadd, 1) := dk_96 (dk_at dksX0_bring_2 17 rfl rfl)
theorem dX0_bring_64 : decode cX0_bring 64 = .ok (.invokevirtual 173, 3) := dk_182 0 173 (dk_at dksX0_bring_2 18 rfl rfl)
theorem dX0_bring_67 : decode cX0_bring 67 = .ok (.istore 5, 2) := dk_54 5 (dk_at dksX0_bring_2 21 rfl rfl)
theorem dX0_bring_69 : decode cX0_bring 69 = .ok (.bipush 6, 2) := dk_16 6 (dk_at dksX0_bring_3 0 rfl rfl)
theorem dX0_bring_71 : decode cX0_bring 71 = .ok (.istore 6, 2) := dk_54 6 (dk_at dksX0_bring_3 2 rfl rfl)
theorem dX0_bring_73 : decode cX0_bring 73 = .ok (.iconst (-1), 1) := dk_2 (dk_at dksX0_bring_3 4 rfl rfl)
theorem dX0_bring_74 : decode cX0_bring 74 = .ok (.istore 7, 2) := dk_54 7 (dk_at dksX0_bring_3 5 rfl rfl)
theorem dX0_bring_76 : decode cX0_bring 76 = .ok (.iconst 0, 1) := dk_3 (dk_at dksX0_bring_3 7 rfl rfl)
theorem dX0_bring_77 : decode cX0_bring 77 = .ok (.istore 8, 2) := dk_54 8 (dk_at dksX0_bring_3 8 rfl rfl)
theorem dX0_bring_79 : decode cX0_bring 79 = .ok (.iload 8, 2) := dk_21 8 (dk_at dksX0_bring_3 10 rfl rfl)
theorem dX0_bring_81 : decode cX0_bring 81 = .ok (.aload_n 0, 1) := dk_42 (dk_at dksX0_bring_3 12 rfl rfl)
theorem dX0_bring_82 : decode cX0_bring 82 = .ok (.getfield 30, 3) := dk_180 0 30 (dk_at dksX0_bring_3 13 rfl rfl)
theorem dX0_bring_85 : decode cX0_bring 85 = .ok (.getfield 85, 3) := dk_180 0 85 (dk_at dksX0_bring_3 16 rfl rfl)
theorem dX0_bring_88 : decode cX0_bring 88 = .ok (.if_icmp .ge 161, 3) := dk_162 0 161 (dk_at dksX0_bring_3 19 rfl rfl)
theorem dX0_bring_91 : decode cX0_bring 91 = .ok (.iconst 0, 1) := dk_3 (dk_at dksX0_bring_3 22 rfl rfl)
theorem dX0_bring_92 : decode cX0_bring 92 = .ok (.istore 9, 2) := dk_54 9 (dk_at dksX0_bring_4 0 rfl rfl)
theorem dX0_bring_94 : decode cX0_bring 94 = .ok (.iload 9, 2) := dk_21 9 (dk_at dksX0_bring_4 2 rfl rfl)
theorem dX0_bring_96 : decode cX0_bring 96 = .ok (.aload_n 0, 1) := dk_42 (dk_at dksX0_bring_4 4 rfl rfl)
theorem dX0_bring_97 : decode cX0_bring 97 = .ok (.getfield 30, 3) := dk_180 0 30 (dk_at dksX0_bring_4 5 rfl rfl)
theorem dX0_bring_100 : decode cX0_bring 100 = .ok (.getfield 85, 3) := dk_180 0 85 (dk_at dksX0_bring_4 8 rfl rfl)
theorem dX0_bring_103 : decode cX0_bring 103 = .ok (.if_icmp .ge 140, 3) := dk_162 0 140 (dk_at dksX0_bring_4 11 rfl rfl)
theorem dX0_bring_106 : decode cX0_bring 106 = .ok (.iload 8, 2) := dk_21 8 (dk_at dksX0_bring_4 14 rfl rfl)
theorem dX0_bring_108 : decode cX0_bring 108 = .ok (.iload 9, 2) := dk_21 9 (dk_at dksX0_bring_4 16 rfl rfl)
theorem dX0_bring_110 : decode cX0_bring 110 = .ok (.if_icmp .eq 59, 3) := dk_159 0 59 (dk_at dksX0_bring_4 18 rfl rfl)
theorem dX0_bring_113 : decode cX0_bring 113 = .ok (.aload_n 0, 1) := dk_42 (dk_at dksX0_bring_4 21 rfl rfl)
theorem dX0_bring_114 : decode cX0_bring 114 = .ok (.getfield 30, 3) := dk_180 0 30 (dk_at dksX0_bring_5 0 rfl rfl)
theorem dX0_bring_117 : decode cX0_bring 117 = .ok (.getfield 164, 3) := dk_180 0 164 (dk_at dksX0_bring_5 3 rfl rfl)
theorem dX0_bring_120 : decode cX0_bring 120 = .ok (.iload 8, 2) := dk_21 8 (dk_at dksX0_bring_5 6 rfl rfl)
theorem dX0_bring_122 : decode cX0_bring 122 = .ok (.aaload, 1) := dk_50 (dk_at dksX0_bring_5 8 rfl rfl)
theorem dX0_bring_123 : decode cX0_bring 123 = .ok (.aload_n 0, 1) := dk_42 (dk_at dksX0_bring_5 9 rfl rfl)
theorem dX0_bring_124 : decode cX0_bring 124 = .ok (.getfield 30, 3) := dk_180 0 30 (dk_at dksX0_bring_5 10 rfl rfl)
theorem dX0_bring_127 : decode cX0_bring 127 = .ok (.getfield 177, 3) := dk_180 0 177 (dk_at dksX0_bring_5 13 rfl rfl)
theorem dX0_bring_130 : decode cX0_bring 130 = .ok (.iload_n 1, 1) := dk_27 (dk_at dksX0_bring_5 16 rfl rfl)
theorem dX0_bring_131 : decode cX0_bring 131 = .ok (.iaload, 1) := dk_46 (dk_at dksX0_bring_5 17 rfl rfl)
theorem dX0_bring_132 : decode cX0_bring 132 = .ok (.invokevirtual 180, 3) := dk_182 0 180 (dk_at dksX0_bring_5 18 rfl rfl)
theorem dX0_bring_135 : decode cX0_bring 135 = .ok (.ifCond .eq 34, 3) := dk_153 0 34 (dk_at dksX0_bring_5 21 rfl rfl)
theorem dX0_bring_138 : decode cX0_bring 138 = .ok (.aload_n 0, 1) := dk_42 (dk_at dksX0_bring_6 0 rfl rfl)
theorem dX0_bring_139 : decode cX0_bring 139 = .ok (.getfield 30, 3) := dk_180 0 30 (dk_at dksX0_bring_6 1 rfl rfl)
theorem dX0_bring_142 : decode cX0_bring 142 = .ok (.getfield 164, 3) := dk_180 0 164 (dk_at dksX0_bring_6 4 rfl rfl)
theorem dX0_bring_145 : decode cX0_bring 145 = .ok (.iload 9, 2) := dk_21 9 (dk_at dksX0_bring_6 7 rfl rfl)
theorem dX0_bring_147 : decode cX0_bring 147 = .ok (.aaload, 1) := dk_50 (dk_at dksX0_bring_6 9 rfl rfl)
theorem dX0_bring_148 : decode cX0_bring 148 = .ok (.aload_n 0, 1) := dk_42 (dk_at dksX0_bring_6 10 rfl rfl)
theorem dX0_bring_149 : decode cX0_bring 149 = .ok (.getfield 30, 3) := dk_180 0 30 (dk_at dksX0_bring_6 11 rfl rfl)
theorem dX0_bring_152 : decode cX0_bring 152 = .ok (.getfield 177, 3) := dk_180 0 177 (dk_at dksX0_bring_6 14 rfl rfl)
theorem dX0_bring_155 : decode cX0_bring 155 = .ok (.iload_n 1, 1) := dk_27 (dk_at dksX0_bring_6 17 rfl rfl)
theorem dX0_bring_156 : decode cX0_bring 156 = .ok (.iconst 1, 1) := dk_4 (dk_at dksX0_bring_6 18 rfl rfl)
theorem dX0_bring_157 : decode cX0_bring 157 = .ok (.iadd, 1) := dk_96 (dk_at dksX0_bring_6 19 rfl rfl)
theorem dX0_bring_158 : decode cX0_bring 158 = .ok (.iaload, 1) := dk_46 (dk_at dksX0_bring_6 20 rfl rfl)
theorem dX0_bring_159 : decode cX0_bring 159 = .ok (.invokevirtual 180, 3) := dk_182 0 180 (dk_at dksX0_bring_6 21 rfl rfl)
theorem dX0_bring_162 : decode cX0_bring 162 = .ok (.ifCond .eq 7, 3) := dk_153 0 7 (dk_at dksX0_bring_7 0 rfl rfl)
theorem dX0_bring_165 : decode cX0_bring 165 = .ok (.iconst 1, 1) := dk_4 (dk_at dksX0_bring_7 3 rfl rfl)
theorem dX0_bring_166 : decode cX0_bring 166 = .ok (.goto 4, 3) := dk_167 0 4 (dk_at dksX0_bring_7 4 rfl rfl)
theorem dX0_bring_169 : decode cX0_bring 169 = .ok (.iconst 0, 1) := dk_3 (dk_at dksX0_bring_7 7 rfl rfl)
theorem dX0_bring_170 : decode cX0_bring 170 = .ok (.istore 10, 2) := dk_54 10 (dk_at dksX0_bring_7 8 rfl rfl)
theorem dX0_bring_172 : decode cX0_bring 172 = .ok (.iload 8, 2) := dk_21 8 (dk_at dksX0_bring_7 10 rfl rfl)
theorem dX0_bring_174 : decode cX0_bring 174 = .ok (.iload 4, 2) := dk_21 4 (dk_at dksX0_bring_7 12 rfl rfl)
theorem dX0_bring_176 : decode cX0_bring 176 = .ok (.if_icmp .ne 7, 3) := dk_160 0 7 (dk_at dksX0_bring_7 14 rfl rfl)
theorem dX0_bring_179 : decode cX0_bring 179 = .ok (.iconst 0, 1) := dk_3 (dk_at dksX0_bring_7 17 rfl rfl)
theorem dX0_bring_180 : decode cX0_bring 180 = .ok (.goto 4, 3) := dk_167 0 4 (dk_at dksX0_bring_7 18 rfl rfl)
theorem dX0_bring_183 : decode cX0_bring 183 = .ok (.iconst 1, 1) := dk_4 (dk_at dksX0_bring_7 21 rfl rfl)
theorem dX0_bring_184 : decode cX0_bring 184 = .ok (.iload 9, 2) := dk_21 9 (dk_at dksX0_bring_7 22 rfl rfl)
theorem dX0_bring_186 : decode cX0_bring 186 = .ok (.iload 5, 2) := dk_21 5 (dk_at dksX0_bring_8 0 rfl rfl)
theorem dX0_bring_188 : decode cX0_bring 188 = .ok (.if_icmp .ne 7, 3) := dk_160 0 7 (dk_at dksX0_bring_8 2 rfl rfl)
theorem dX0_bring_191 : decode cX0_bring 191 = .ok (.iconst 0, 1) := dk_3 (dk_at dksX0_bring_8 5 rfl rfl)
theorem dX0_bring_192 : decode cX0_bring 192 = .ok (.goto 4, 3) := dk_167 0 4 (dk_at dksX0_bring_8 6 rfl rfl)
theorem dX0_bring_195 : decode cX0_bring 195 = .ok (.iconst 1, 1) := dk_4 (dk_at dksX0_bring_8 9 rfl rfl)
theorem dX0_bring_196 : decode cX0_bring 196 = .ok (.iadd, 1) := dk_96 (dk_at dksX0_bring_8 10 rfl rfl)
theorem dX0_bring_197 : decode cX0_bring 197 = .ok (.istore 11, 2) := dk_54 11 (dk_at dksX0_bring_8 11 rfl rfl)
theorem dX0_bring_199 : decode cX0_bring 199 = .ok (.iload 10, 2) := dk_21 10 (dk_at dksX0_bring_8 13 rfl rfl)
theorem dX0_bring_201 : decode cX0_bring 201 = .ok (.ifCond .eq 36, 3) := dk_153 0 36 (dk_at dksX0_bring_8 15 rfl rfl)
theorem dX0_bring_204 : decode cX0_bring 204 = .ok (.aload_n 0, 1) := dk_42 (dk_at dksX0_bring_8 18 rfl rfl)
theorem dX0_bring_205 : decode cX0_bring 205 = .ok (.iload 8, 2) := dk_21 8 (dk_at dksX0_bring_8 19 rfl rfl)
theorem dX0_bring_207 : decode cX0_bring 207 = .ok (.iload 9, 2) := dk_21 9 (dk_at dksX0_bring_8 21 rfl rfl)
theorem dX0_bring_209 : decode cX0_bring 209 = .ok (.invokevirtual 279, 3) := dk_182 1 23 (dk_at dksX0_bring_9 0 rfl rfl)
theorem dX0_bring_212 : decode cX0_bring 212 = .ok (.iload_n 2, 1) := dk_28 (dk_at dksX0_bring_9 3 rfl rfl)
theorem dX0_bring_213 : decode cX0_bring 213 = .ok (.if_icmp .ne 24, 3) := dk_160 0 24 (dk_at dksX0_bring_9 4 rfl rfl)
theorem dX0_bring_216 : decode cX0_bring 216 = .ok (.iload 11, 2) := dk_21 11 (dk_at dksX0_bring_9 7 rfl rfl)
theorem dX0_bring_218 : decode cX0_bring 218 = .ok (.iload 6, 2) := dk_21 6 (dk_at dksX0_bring_9 9 rfl rfl)
theorem dX0_bring_220 : decode cX0_bring 220 = .ok (.if_icmp .ge 17, 3) := dk_162 0 17 (dk_at dksX0_bring_9 11 rfl rfl)
theorem dX0_bring_223 : decode cX0_bring 223 = .ok (.iload 11, 2) := dk_21 11 (dk_at dksX0_bring_9 14 rfl rfl)
theorem dX0_bring_225 : decode cX0_bring 225 = .ok (.istore 6, 2) := dk_54 6 (dk_at dksX0_bring_9 16 rfl rfl)
theorem dX0_bring_227 : decode cX0_bring 227 = .ok (.bipush 10, 2) := dk_16 10 (dk_at dksX0_bring_9 18 rfl rfl)
theorem dX0_bring_229 : decode cX0_bring 229 = .ok (.iload 8, 2) := dk_21 8 (dk_at dksX0_bring_9 20 rfl rfl)
theorem dX0_bring_231 : decode cX0_bring 231 = .ok (.imul, 1) := dk_104 (dk_at dksX0_bring_9 22 rfl rfl)
theorem dX0_bring_232 : decode cX0_bring 232 = .ok (.iload 9, 2) := dk_21 9 (dk_at dksX0_bring_10 0 rfl rfl)
theorem dX0_bring_234 : decode cX0_bring 234 = .ok (.iadd, 1) := dk_96 (dk_at dksX0_bring_10 2 rfl rfl)
theorem dX0_bring_235 : decode cX0_bring 235 = .ok (.istore 7, 2) := dk_54 7 (dk_at dksX0_bring_10 3 rfl rfl)
theorem dX0_bring_237 : decode cX0_bring 237 = .ok (.iinc 9 1, 3) := dk_132 9 1 (dk_at dksX0_bring_10 5 rfl rfl)
theorem dX0_bring_240 : decode cX0_bring 240 = .ok (.goto (-146), 3) := dk_167 255 110 (dk_at dksX0_bring_10 8 rfl rfl)
theorem dX0_bring_243 : decode cX0_bring 243 = .ok (.iinc 8 1, 3) := dk_132 8 1 (dk_at dksX0_bring_10 11 rfl rfl)
theorem dX0_bring_246 : decode cX0_bring 246 = .ok (.goto (-167), 3) := dk_167 255 89 (dk_at dksX0_bring_10 14 rfl rfl)
theorem dX0_bring_249 : decode cX0_bring 249 = .ok (.iload 7, 2) := dk_21 7 (dk_at dksX0_bring_10 17 rfl rfl)
theorem dX0_bring_251 : decode cX0_bring 251 = .ok (.iconst (-1), 1) := dk_2 (dk_at dksX0_bring_10 19 rfl rfl)
theorem dX0_bring_252 : decode cX0_bring 252 = .ok (.if_icmp .ne 7, 3) := dk_160 0 7 (dk_at dksX0_bring_10 20 rfl rfl)
theorem dX0_bring_255 : decode cX0_bring 255 = .ok (.iconst (-1), 1) := dk_2 (dk_at dksX0_bring_10 23 rfl rfl)
theorem dX0_bring_256 : decode cX0_bring 256 = .ok (.goto 14, 3) := dk_167 0 14 (dk_at dksX0_bring_11 0 rfl rfl)
theorem dX0_bring_259 : decode cX0_bring 259 = .ok (.iload_n 3, 1) := dk_29 (dk_at dksX0_bring_11 3 rfl rfl)
theorem dX0_bring_260 : decode cX0_bring 260 = .ok (.ifCond .ne 8, 3) := dk_154 0 8 (dk_at dksX0_bring_11 4 rfl rfl)
theorem dX0_bring_263 : decode cX0_bring 263 = .ok (.iload 6, 2) := dk_21 6 (dk_at dksX0_bring_11 7 rfl rfl)
theorem dX0_bring_265 : decode cX0_bring 265 = .ok (.goto 5, 3) := dk_167 0 5 (dk_at dksX0_bring_11 9 rfl rfl)
theorem dX0_bring_268 : decode cX0_bring 268 = .ok (.iload 7, 2) := dk_21 7 (dk_at dksX0_bring_11 12 rfl rfl)
theorem dX0_bring_270 : decode cX0_bring 270 = .ok (.ireturn, 1) := dk_172 (dk_at dksX0_bring_11 14 rfl rfl)
abbrev cX0_left : ByteArray := prog_1_method_38_code
def yX0_left : MethodName := ⟨RX0, "left", "(III)I"⟩
def dkwX0_left_6 : List UInt8 := [21, 5, 172]
abbrev dktX0_left_6 : List UInt8 := dkwX0_left_6 ++ []
def dkwX0_left_5 : List UInt8 := [6, 21, 7, 104, 5, 96, 46, 54, 5, 132, 7, 255, 167, 255, 201, 29, 154, 0, 8, 21, 4, 167, 0, 5]
abbrev dktX0_left_5 : List UInt8 := dkwX0_left_5 ++ dktX0_left_6
def dkwX0_left_4 : List UInt8 := [21, 4, 4, 25, 6, 180, 1, 31, 6, 21, 7, 104, 4, 96, 46, 120, 128, 54, 4, 25, 6, 180, 1, 31]
abbrev dktX0_left_4 : List UInt8 := dkwX0_left_4 ++ dktX0_left_5
def dkwX0_left_3 : List UInt8 := [4, 100, 54, 7, 21, 7, 155, 0, 56, 25, 6, 180, 1, 31, 6, 21, 7, 104, 46, 27, 160, 0, 36]
abbrev dktX0_left_3 : List UInt8 := dkwX0_left_3 ++ dktX0_left_4
def dkwX0_left_2 : List UInt8 := [182, 0, 221, 172, 3, 54, 4, 2, 54, 5, 42, 180, 0, 30, 180, 0, 160, 58, 6, 25, 6, 180, 1, 28]
abbrev dktX0_left_2 : List UInt8 := dkwX0_left_2 ++ dktX0_left_3
def dkwX0_left_1 : List UInt8 := [180, 0, 137, 27, 46, 28, 122, 4, 126, 153, 0, 13, 29, 133, 9, 10, 184, 0, 89, 154, 0, 8, 42]
abbrev dktX0_left_1 : List UInt8 := dkwX0_left_1 ++ dktX0_left_2
def dkwX0_left_0 : List UInt8 := [42, 27, 182, 0, 132, 153, 0, 41, 28, 133, 9, 20, 1, 26, 184, 0, 89, 153, 0, 29, 42, 180, 0, 30]
abbrev dktX0_left_0 : List UInt8 := dkwX0_left_0 ++ dktX0_left_1
theorem dksX0_left_0 : cX0_left.data.toList.drop 0 = dktX0_left_0 := by decide +kernel
theorem dksX0_left_1 : cX0_left.data.toList.drop 24 = dktX0_left_1 := dk_seg dksX0_left_0 24 rfl rfl
theorem dksX0_left_2 : cX0_left.data.toList.drop 47 = dktX0_left_2 := dk_seg dksX0_left_1 23 rfl rfl
theorem dksX0_left_3 : cX0_left.data.toList.drop 71 = dktX0_left_3 := dk_seg dksX0_left_2 24 rfl rfl
theorem dksX0_left_4 : cX0_left.data.toList.drop 94 = dktX0_left_4 := dk_seg dksX0_left_3 23 rfl rfl
theorem dksX0_left_5 : cX0_left.data.toList.drop 118 = dktX0_left_5 := dk_seg dksX0_left_4 24 rfl rfl
theorem dksX0_left_6 : cX0_left.data.toList.drop 142 = dktX0_left_6 := dk_seg dksX0_left_5 24 rfl rfl
theorem dX0_left_0 : decode cX0_left 0 = .ok (.aload_n 0, 1) := dk_42 (dk_at dksX0_left_0 0 rfl rfl)
theorem dX0_left_1 : decode cX0_left 1 = .ok (.iload_n 1, 1) := dk_27 (dk_at dksX0_left_0 1 rfl rfl)
theorem dX0_left_2 : decode cX0_left 2 = .ok (.invokevirtual 132, 3) := dk_182 0 132 (dk_at dksX0_left_0 2 rfl rfl)
theorem dX0_left_5 : decode cX0_left 5 = .ok (.ifCond .eq 41, 3) := dk_153 0 41 (dk_at dksX0_left_0 5 rfl rfl)
theorem dX0_left_8 : decode cX0_left 8 = .ok (.iload_n 2, 1) := dk_28 (dk_at dksX0_left_0 8 rfl rfl)
theorem dX0_left_9 : decode cX0_left 9 = .ok (.i2l, 1) := dk_133 (dk_at dksX0_left_0 9 rfl rfl)
theorem dX0_left_10 : decode cX0_left 10 = .ok (.lconst 0, 1) := dk_9 (dk_at dksX0_left_0 10 rfl rfl)
theorem dX0_left_11 : decode cX0_left 11 = .ok (.ldc2_w 282, 3) := dk_20 1 26 (dk_at dksX0_left_0 11 rfl rfl)
theorem dX0_left_14 : decode cX0_left 14 = .ok (.invokestatic 89, 3) := dk_184 0 89 (dk_at dksX0_left_0 14 rfl rfl)
theorem dX0_left_17 : decode cX0_left 17 = .ok (.ifCond .eq 29, 3) := dk_153 0 29 (dk_at dksX0_left_0 17 rfl rfl)
theorem dX0_left_20 : decode cX0_left 20 = .ok (.aload_n 0, 1) := dk_42 (dk_at dksX0_left_0 20 rfl rfl)
theorem dX0_left_21 : decode cX0_left 21 = .ok (.getfield 30, 3) := dk_180 0 30 (dk_at dksX0_left_0 21 rfl rfl)
theorem dX0_left_24 : decode cX0_left 24 = .ok (.getfield 137, 3) := dk_180 0 137 (dk_at dksX0_left_1 0 rfl rfl)
theorem dX0_left_27 : decode cX0_left 27 = .ok (.iload_n 1, 1) := dk_27 (dk_at dksX0_left_1 3 rfl rfl)
theorem dX0_left_28 : decode cX0_left 28 = .ok (.iaload, 1) := dk_46 (dk_at dksX0_left_1 4 rfl rfl)
theorem dX0_left_29 : decode cX0_left 29 = .ok (.iload_n 2, 1) := dk_28 (dk_at dksX0_left_1 5 rfl rfl)
theorem dX0_left_30 : decode cX0_left 30 = .ok (.ishr, 1) := dk_122 (dk_at dksX0_left_1 6 rfl rfl)
theorem dX0_left_31 : decode cX0_left 31 = .ok (.iconst 1, 1) := dk_4 (dk_at dksX0_left_1 7 rfl rfl)
theorem dX0_left_32 : decode cX0_left 32 = .ok (.iand, 1) := dk_126 (dk_at dksX0_left_1 8 rfl rfl)
theorem dX0_left_33 : decode cX0_left 33 = .ok (.ifCond .eq 13, 3) := dk_153 0 13 (dk_at dksX0_left_1 9 rfl rfl)
theorem dX0_left_36 : decode cX0_left 36 = .ok (.iload_n 3, 1) := dk_29 (dk_at dksX0_left_1 12 rfl rfl)
theorem dX0_left_37 : decode cX0_left 37 = .ok (.i2l, 1) := dk_133 (dk_at dksX0_left_1 13 rfl rfl)
theorem dX0_left_38 : decode cX0_left 38 = .ok (.lconst 0, 1) := dk_9 (dk_at dksX0_left_1 14 rfl rfl)
theorem dX0_left_39 : decode cX0_left 39 = .ok (.lconst 1, 1) := dk_10 (dk_at dksX0_left_1 15 rfl rfl)
theorem dX0_left_40 : decode cX0_left 40 = .ok (.invokestatic 89, 3) := dk_184 0 89 (dk_at dksX0_left_1 16 rfl rfl)
theorem dX0_left_43 : decode cX0_left 43 = .ok (.ifCond .ne 8, 3) := dk_154 0 8 (dk_at dksX0_left_1 19 rfl rfl)
theorem dX0_left_46 : decode cX0_left 46 = .ok (.aload_n 0, 1) := dk_42 (dk_at dksX0_left_1 22 rfl rfl)
theorem dX0_left_47 : decode cX0_left 47 = .ok (.invokevirtual 221, 3) := dk_182 0 221 (dk_at dksX0_left_2 0 rfl rfl)
theorem dX0_left_50 : decode cX0_left 50 = .ok (.ireturn, 1) := dk_172 (dk_at dksX0_left_2 3 rfl rfl)
theorem dX0_left_51 : decode cX0_left 51 = .ok (.iconst 0, 1) := dk_3 (dk_at dksX0_left_2 4 rfl rfl)
theorem dX0_left_52 : decode cX0_left 52 = .ok (.istore 4, 2) := dk_54 4 (dk_at dksX0_left_2 5 rfl rfl)
theorem dX0_left_54 : decode cX0_left 54 = .ok (.iconst (-1), 1) := dk_2 (dk_at dksX0_left_2 7 rfl rfl)
theorem dX0_left_55 : decode cX0_left 55 = .ok (.istore 5, 2) := dk_54 5 (dk_at dksX0_left_2 8 rfl rfl)
theorem dX0_left_57 : decode cX0_left 57 = .ok (.aload_n 0, 1) := dk_42 (dk_at dksX0_left_2 10 rfl rfl)
theorem dX0_left_58 : decode cX0_left 58 = .ok (.getfield 30, 3) := dk_180 0 30 (dk_at dksX0_left_2 11 rfl rfl)
theorem dX0_left_61 : decode cX0_left 61 = .ok (.getfield 160, 3) := dk_180 0 160 (dk_at dksX0_left_2 14 rfl rfl)
theorem dX0_left_64 : decode cX0_left 64 = .ok (.astore 6, 2) := dk_58 6 (dk_at dksX0_left_2 17 rfl rfl)
theorem dX0_left_66 : decode cX0_left 66 = .ok (.aload 6, 2) := dk_25 6 (dk_at dksX0_left_2 19 rfl rfl)
theorem dX0_left_68 : decode cX0_left 68 = .ok (.getfield 284, 3) := dk_180 1 28 (dk_at dksX0_left_2 21 rfl rfl)
theorem dX0_left_71 : decode cX0_left 71 = .ok (.iconst 1, 1) := dk_4 (dk_at dksX0_left_3 0 rfl rfl)
theorem dX0_left_72 : decode cX0_left 72 = .ok (.isub, 1) := dk_100 (dk_at dksX0_left_3 1 rfl rfl)
theorem dX0_left_73 : decode cX0_left 73 = .ok (.istore 7, 2) := dk_54 7 (dk_at dksX0_left_3 2 rfl rfl)
theorem dX0_left_75 : decode cX0_left 75 = .ok (.iload 7, 2) := dk_21 7 (dk_at dksX0_left_3 4 rfl rfl)
theorem dX0_left_77 : decode cX0_left 77 = .ok (.ifCond .lt 56, 3) := dk_155 0 56 (dk_at dksX0_left_3 6 rfl rfl)
theorem dX0_left_80 : decode cX0_left 80 = .ok (.aload 6, 2) := dk_25 6 (dk_at dksX0_left_3 9 rfl rfl)
theorem dX0_left_82 : decode cX0_left 82 = .ok (.getfield 287, 3) := dk_180 1 31 (dk_at dksX0_left_3 11 rfl rfl)
theorem dX0_left_85 : decode cX0_left 85 = .ok (.iconst 3, 1) := dk_6 (dk_at dksX0_left_3 14 rfl rfl)
theorem dX0_left_86 : decode cX0_left 86 = .ok (.iload 7, 2) := dk_21 7 (dk_at dksX0_left_3 15 rfl rfl)
theorem dX0_left_88 : decode cX0_left 88 = .ok (.imul, 1) := dk_104 (dk_at dksX0_left_3 17 rfl rfl)
theorem dX0_left_89 : decode cX0_left 89 = .ok (.iaload, 1) := dk_46 (dk_at dksX0_left_3 18 rfl rfl)
theorem dX0_left_90 : decode cX0_left 90 = .ok (.iload_n 1, 1) := dk_27 (dk_at dksX0_left_3 19 rfl rfl)
theorem dX0_left_91 : decode cX0_left 91 = .ok (.if_icmp .ne 36, 3) := dk_160 0 36 (dk_at dksX0_left_3 20 rfl rfl)
theorem dX0_left_94 : decode cX0_left 94 = .ok (.iload 4, 2) := dk_21 4 (dk_at dksX0_left_4 0 rfl rfl)
theorem dX0_left_96 : decode cX0_left 96 = .ok (.iconst 1, 1) := dk_4 (dk_at dksX0_left_4 2 rfl rfl)
theorem dX0_left_97 : decode cX0_left 97 = .ok (.aload 6, 2) := dk_25 6 (dk_at dksX0_left_4 3 rfl rfl)
theorem dX0_left_99 : decode cX0_left 99 = .ok (.getfield 287, 3) := dk_180 1 31 (dk_at dksX0_left_4 5 rfl rfl)
theorem dX0_left_102 : decode cX0_left 102 = .ok (.iconst 3, 1) := dk_6 (dk_at dksX0_left_4 8 rfl rfl)
theorem dX0_left_103 : decode cX0_left 103 = .ok (.iload 7, 2) := dk_21 7 (dk_at dksX0_left_4 9 rfl rfl)
theorem dX0_left_105 : decode cX0_left 105 = .ok (.imul, 1) := dk_104 (dk_at dksX0_left_4 11 rfl rfl)
theorem dX0_left_106 : decode cX0_left 106 = .ok (.iconst 1, 1) := dk_4 (dk_at dksX0_left_4 12 rfl rfl)
theorem dX0_left_107 : decode cX0_left 107 = .ok (.iadd, 1) := dk_96 (dk_at dksX0_left_4 13 rfl rfl)
theorem dX0_left_108 : decode cX0_left 108 = .ok (.iaload, 1) := dk_46 (dk_at dksX0_left_4 14 rfl rfl)
theorem dX0_left_109 : decode cX0_left 109 = .ok (.ishl, 1) := dk_120 (dk_at dksX0_left_4 15 rfl rfl)
theorem dX0_left_110 : decode cX0_left 110 = .ok (.ior, 1) := dk_128 (dk_at dksX0_left_4 16 rfl rfl)
theorem dX0_left_111 : decode cX0_left 111 = .ok (.istore 4, 2) := dk_54 4 (dk_at dksX0_left_4 17 rfl rfl)
theorem dX0_left_113 : decode cX0_left 113 = .ok (.aload 6, 2) := dk_25 6 (dk_at dksX0_left_4 19 rfl rfl)
theorem dX0_left_115 : decode cX0_left 115 = .ok (.getfield 287, 3) := dk_180 1 31 (dk_at dksX0_left_4 21 rfl rfl)
theorem dX0_left_118 : decode cX0_left 118 = .ok (.iconst 3, 1) := dk_6 (dk_at dksX0_left_5 0 rfl rfl)
theorem dX0_left_119 : decode cX0_left 119 = .ok (.iload 7, 2) := dk_21 7 (dk_at dksX0_left_5 1 rfl rfl)
theorem dX0_left_121 : decode cX0_left 121 = .ok (.imul, 1) := dk_104 (dk_at dksX0_left_5 3 rfl rfl)
theorem dX0_left_122 : decode cX0_left 122 = .ok (.iconst 2, 1) := dk_5 (dk_at dksX0_left_5 4 rfl rfl)
theorem dX0_left_123 : decode cX0_left 123 = .ok (.iadd, 1) := dk_96 (dk_at dksX0_left_5 5 rfl rfl)
theorem dX0_left_124 : decode cX0_left 124 = .ok (.iaload, 1) := dk_46 (dk_at dksX0_left_5 6 rfl rfl)
theorem dX0_left_125 : decode cX0_left 125 = .ok (.istore 5, 2) := dk_54 5 (dk_at dksX0_left_5 7 rfl rfl)
theorem dX0_left_127 : decode cX0_left 127 = .ok (.iinc 7 (-1), 3) := dk_132 7 255 (dk_at dksX0_left_5 9 rfl rfl)
theorem dX0_left_130 : decode cX0_left 130 = .ok (.goto (-55), 3) := dk_167 255 201 (dk_at dksX0_left_5 12 rfl rfl)
theorem dX0_left_133 : decode cX0_left 133 = .ok (.iload_n 3, 1) := dk_29 (dk_at dksX0_left_5 15 rfl rfl)
theorem dX0_left_134 : decode cX0_left 134 = .ok (.ifCond .ne 8, 3) := dk_154 0 8 (dk_at dksX0_left_5 16 rfl rfl)
theorem dX0_left_137 : decode cX0_left 137 = .ok (.iload 4, 2) := dk_21 4 (dk_at dksX0_left_5 19 rfl rfl)
theorem dX0_left_139 : decode cX0_left 139 = .ok (.goto 5, 3) := dk_167 0 5 (dk_at dksX0_left_5 21 rfl rfl)
theorem dX0_left_142 : decode cX0_left 142 = .ok (.iload 5, 2) := dk_21 5 (dk_at dksX0_left_6 0 rfl rfl)
theorem dX0_left_144 : decode cX0_left 144 = .ok (.ireturn, 1) := dk_172 (dk_at dksX0_left_6 2 rfl rfl)
abbrev cX0_reading : ByteArray := prog_1_method_39_code
def yX0_reading : MethodName := ⟨RX0, "reading", "(III)I"⟩
def dkwX0_reading_4 : List UInt8 := [180, 0, 30, 89, 180, 1, 34, 4, 96, 181, 1, 34, 42, 180, 0, 30, 180, 1, 34, 172]
abbrev dktX0_reading_4 : List UInt8 := dkwX0_reading_4 ++ []
def dkwX0_reading_3 : List UInt8 := [180, 1, 37, 21, 4, 4, 96, 28, 79, 42, 180, 0, 30, 180, 1, 37, 21, 4, 5, 96, 29, 79, 42]
abbrev dktX0_reading_3 : List UInt8 := dkwX0_reading_3 ++ dktX0_reading_4
def dkwX0_reading_2 : List UInt8 := [180, 0, 30, 180, 1, 34, 104, 54, 4, 42, 180, 0, 30, 180, 1, 37, 21, 4, 27, 79, 42, 180, 0, 30]
abbrev dktX0_reading_2 : List UInt8 := dkwX0_reading_2 ++ dktX0_reading_3
def dkwX0_reading_1 : List UInt8 := [182, 0, 110, 172, 42, 180, 0, 30, 180, 1, 34, 16, 6, 160, 0, 8, 42, 182, 0, 114, 172, 6, 42]
abbrev dktX0_reading_1 : List UInt8 := dkwX0_reading_1 ++ dktX0_reading_2
def dkwX0_reading_0 : List UInt8 := [42, 27, 182, 0, 132, 153, 0, 17, 28, 184, 0, 244, 153, 0, 10, 29, 184, 0, 106, 154, 0, 8, 42]
abbrev dktX0_reading_0 : List UInt8 := dkwX0_reading_0 ++ dktX0_reading_1
theorem dksX0_reading_0 : cX0_reading.data.toList.drop 0 = dktX0_reading_0 := by decide +kernel
theorem dksX0_reading_1 : cX0_reading.data.toList.drop 23 = dktX0_reading_1 := dk_seg dksX0_reading_0 23 rfl rfl
theorem dksX0_reading_2 : cX0_reading.data.toList.drop 46 = dktX0_reading_2 := dk_seg dksX0_reading_1 23 rfl rfl
theorem dksX0_reading_3 : cX0_reading.data.toList.drop 70 = dktX0_reading_3 := dk_seg dksX0_reading_2 24 rfl rfl
theorem dksX0_reading_4 : cX0_reading.data.toList.drop 93 = dktX0_reading_4 := dk_seg dksX0_reading_3 23 rfl rfl
theorem dX0_reading_0 : decode cX0_reading 0 = .ok (.aload_n 0, 1) := dk_42 (dk_at dksX0_reading_0 0 rfl rfl)
theorem dX0_reading_1 : decode cX0_reading 1 = .ok (.iload_n 1, 1) := dk_27 (dk_at dksX0_reading_0 1 rfl rfl)
theorem dX0_reading_2 : decode cX0_reading 2 = .ok (.invokevirtual 132, 3) := dk_182 0 132 (dk_at dksX0_reading_0 2 rfl rfl)
theorem dX0_reading_5 : decode cX0_reading 5 = .ok (.ifCond .eq 17, 3) := dk_153 0 17 (dk_at dksX0_reading_0 5 rfl rfl)
theorem dX0_reading_8 : decode cX0_reading 8 = .ok (.iload_n 2, 1) := dk_28 (dk_at dksX0_reading_0 8 rfl rfl)
theorem dX0_reading_9 : decode cX0_reading 9 = .ok (.invokestatic 244, 3) := dk_184 0 244 (dk_at dksX0_reading_0 9 rfl rfl)
theorem dX0_reading_12 : decode cX0_reading 12 = .ok (.ifCond .eq 10, 3) := dk_153 0 10 (dk_at dksX0_reading_0 12 rfl rfl)
theorem dX0_reading_15 : decode cX0_reading 15 = .ok (.iload_n 3, 1) := dk_29 (dk_at dksX0_reading_0 15 rfl rfl)
theorem dX0_reading_16 : decode cX0_reading 16 = .ok (.invokestatic 106, 3) := dk_184 0 106 (dk_at dksX0_reading_0 16 rfl rfl)
theorem dX0_reading_19 : decode cX0_reading 19 = .ok (.ifCond .ne 8, 3) := dk_154 0 8 (dk_at dksX0_reading_0 19 rfl rfl)
theorem dX0_reading_22 : decode cX0_reading 22 = .ok (.aload_n 0, 1) := dk_42 (dk_at dksX0_reading_0 22 rfl rfl)
theorem dX0_reading_23 : decode cX0_reading 23 = .ok (.invokevirtual 110, 3) := dk_182 0 110 (dk_at dksX0_reading_1 0 rfl rfl)
theorem dX0_reading_26 : decode cX0_reading 26 = .ok (.ireturn, 1) := dk_172 (dk_at dksX0_reading_1 3 rfl rfl)
theorem dX0_reading_27 : decode cX0_reading 27 = .ok (.aload_n 0, 1) := dk_42 (dk_at dksX0_reading_1 4 rfl rfl)
theorem dX0_reading_28 : decode cX0_reading 28 = .ok (.getfield 30, 3) := dk_180 0 30 (dk_at dksX0_reading_1 5 rfl rfl)
theorem dX0_reading_31 : decode cX0_reading 31 = .ok (.getfield 290, 3) := dk_180 1 34 (dk_at dksX0_reading_1 8 rfl rfl)
theorem dX0_reading_34 : decode cX0_reading 34 = .ok (.bipush 6, 2) := dk_16 6 (dk_at dksX0_reading_1 11 rfl rfl)
theorem dX0_reading_36 : decode cX0_reading 36 = .ok (.if_icmp .ne 8, 3) := dk_160 0 8 (dk_at dksX0_reading_1 13 rfl rfl)
theorem dX0_reading_39 : decode cX0_reading 39 = .ok (.aload_n 0, 1) := dk_42 (dk_at dksX0_reading_1 16 rfl rfl)
theorem dX0_reading_40 : decode cX0_reading 40 = .ok (.invokevirtual 114, 3) := dk_182 0 114 (dk_at dksX0_reading_1 17 rfl rfl)
theorem dX0_reading_43 : decode cX0_reading 43 = .ok (.ireturn, 1) := dk_172 (dk_at dksX0_reading_1 20 rfl rfl)
theorem dX0_reading_44 : decode cX0_reading 44 = .ok (.iconst 3, 1) := dk_6 (dk_at dksX0_reading_1 21 rfl rfl)
theorem dX0_reading_45 : decode cX0_reading 45 = .ok (.aload_n 0, 1) := dk_42 (dk_at dksX0_reading_1 22 rfl rfl)
theorem dX0_reading_46 : decode cX0_reading 46 = .ok (.getfield 30, 3) := dk_180 0 30 (dk_at dksX0_reading_2 0 rfl rfl)
theorem dX0_reading_49 : decode cX0_reading 49 = .ok (.getfield 290, 3) := dk_180 1 34 (dk_at dksX0_reading_2 3 rfl rfl)
theorem dX0_reading_52 : decode cX0_reading 52 = .ok (.imul, 1) := dk_104 (dk_at dksX0_reading_2 6 rfl rfl)
theorem dX0_reading_53 : decode cX0_reading 53 = .ok (.istore 4, 2) := dk_54 4 (dk_at dksX0_reading_2 7 rfl rfl)
theorem dX0_reading_55 : decode cX0_reading 55 = .ok (.aload_n 0, 1) := dk_42 (dk_at dksX0_reading_2 9 rfl rfl)
theorem dX0_reading_56 : decode cX0_reading 56 = .ok (.getfield 30, 3) := dk_180 0 30 (dk_at dksX0_reading_2 10 rfl rfl)
theorem dX0_reading_59 : decode cX0_reading 59 = .ok (.getfield 293, 3) := dk_180 1 37 (dk_at dksX0_reading_2 13 rfl rfl)
theorem dX0_reading_62 : decode cX0_reading 62 = .ok (.iload 4, 2) := dk_21 4 (dk_at dksX0_reading_2 16 rfl rfl)
theorem dX0_reading_64 : decode cX0_reading 64 = .ok (.iload_n 1, 1) := dk_27 (dk_at dksX0_reading_2 18 rfl rfl)
theorem dX0_reading_65 : decode cX0_reading 65 = .ok (.iastore, 1) := dk_79 (dk_at dksX0_reading_2 19 rfl rfl)
theorem dX0_reading_66 : decode cX0_reading 66 = .ok (.aload_n 0, 1) := dk_42 (dk_at dksX0_reading_2 20 rfl rfl)
theorem dX0_reading_67 : decode cX0_reading 67 = .ok (.getfield 30, 3) := dk_180 0 30 (dk_at dksX0_reading_2 21 rfl rfl)
theorem dX0_reading_70 : decode cX0_reading 70 = .ok (.getfield 293, 3) := dk_180 1 37 (dk_at dksX0_reading_3 0 rfl rfl)
theorem dX0_reading_73 : decode cX0_reading 73 = .ok (.iload 4, 2) := dk_21 4 (dk_at dksX0_reading_3 3 rfl rfl)
theorem dX0_reading_75 : decode cX0_reading 75 = .ok (.iconst 1, 1) := dk_4 (dk_at dksX0_reading_3 5 rfl rfl)
theorem dX0_reading_76 : decode cX0_reading 76 = .ok (.iadd, 1) := dk_96 (dk_at dksX0_reading_3 6 rfl rfl)
theorem dX0_reading_77 : decode cX0_reading 77 = .ok (.iload_n 2, 1) := dk_28 (dk_at dksX0_reading_3 7 rfl rfl)
theorem dX0_reading_78 : decode cX0_reading 78 = .ok (.iastore, 1) := dk_79 (dk_at dksX0_reading_3 8 rfl rfl)
theorem dX0_reading_79 : decode cX0_reading 79 = .ok (.aload_n 0, 1) := dk_42 (dk_at dksX0_reading_3 9 rfl rfl)
theorem dX0_reading_80 : decode cX0_reading 80 = .ok (.getfield 30, 3) := dk_180 0 30 (dk_at dksX0_reading_3 10 rfl rfl)
theorem dX0_reading_83 : decode cX0_reading 83 = .ok (.getfield 293, 3) := dk_180 1 37 (dk_at dksX0_reading_3 13 rfl rfl)
theorem dX0_reading_86 : decode cX0_reading 86 = .ok (.iload 4, 2) := dk_21 4 (dk_at dksX0_reading_3 16 rfl rfl)
theorem dX0_reading_88 : decode cX0_reading 88 = .ok (.iconst 2, 1) := dk_5 (dk_at dksX0_reading_3 18 rfl rfl)
theorem dX0_reading_89 : decode cX0_reading 89 = .ok (.iadd, 1) := dk_96 (dk_at dksX0_reading_3 19 rfl rfl)
theorem dX0_reading_90 : decode cX0_reading 90 = .ok (.iload_n 3, 1) := dk_29 (dk_at dksX0_reading_3 20 rfl rfl)
theorem dX0_reading_91 : decode cX0_reading 91 = .ok (.iastore, 1) := dk_79 (dk_at dksX0_reading_3 21 rfl rfl)
theorem dX0_reading_92 : decode cX0_reading 92 = .ok (.aload_n 0, 1) := dk_42 (dk_at dksX0_reading_3 22 rfl rfl)
theorem dX0_reading_93 : decode cX0_reading 93 = .ok (.getfield 30, 3) := dk_180 0 30 (dk_at dksX0_reading_4 0 rfl rfl)
theorem dX0_reading_96 : decode cX0_reading 96 = .ok (.dup, 1) := dk_89 (dk_at dksX0_reading_4 3 rfl rfl)
theorem dX0_reading_97 : decode cX0_reading 97 = .ok (.getfield 290, 3) := dk_180 1 34 (dk_at dksX0_reading_4 4 rfl rfl)
theorem dX0_reading_100 : decode cX0_reading 100 = .ok (.iconst 1, 1) := dk_4 (dk_at dksX0_reading_4 7 rfl rfl)
theorem dX0_reading_101 : decode cX0_reading 101 = .ok (.iadd, 1) := dk_96 (dk_at dksX0_reading_4 8 rfl rfl)
theorem dX0_reading_102 : decode cX0_reading 102 = .ok (.putfield 290, 3) := dk_181 1 34 (dk_at dksX0_reading_4 9 rfl rfl)
theorem dX0_reading_105 : decode cX0_reading 105 = .ok (.aload_n 0, 1) := dk_42 (dk_at dksX0_reading_4 12 rfl rfl)
theorem dX0_reading_106 : decode cX0_reading 106 = .ok (.getfield 30, 3) := dk_180 0 30 (dk_at dksX0_reading_4 13 rfl rfl)
theorem dX0_reading_109 : decode cX0_reading 109 = .ok (.getfield 290, 3) := dk_180 1 34 (dk_at dksX0_reading_4 16 rfl rfl)
theorem dX0_reading_112 : decode cX0_reading 112 = .ok (.ireturn, 1) := dk_172 (dk_at dksX0_reading_4 19 rfl rfl)
abbrev cX0_forget : ByteArray := prog_1_method_40_code
def yX0_forget : MethodName := ⟨RX0, "forget", "()I"⟩
def dkwX0_forget_0 : List UInt8 := [42, 180, 0, 30, 180, 1, 34, 60, 42, 180, 0, 30, 3, 181, 1, 34, 27, 172]
abbrev dktX0_forget_0 : List UInt8 := dkwX0_forget_0 ++ []
theorem dksX0_forget_0 : cX0_forget.data.toList.drop 0 = dktX0_forget_0 := by decide +kernel
theorem dX0_forget_0 : decode cX0_forget 0 = .ok (.aload_n 0, 1) := dk_42 (dk_at dksX0_forget_0 0 rfl rfl)
theorem dX0_forget_1 : decode cX0_forget 1 = .ok (.getfield 30, 3) := dk_180 0 30 (dk_at dksX0_forget_0 1 rfl rfl)
theorem dX0_forget_4 : decode cX0_forget 4 = .ok (.getfield 290, 3) := dk_180 1 34 (dk_at dksX0_forget_0 4 rfl rfl)
theorem dX0_forget_7 : decode cX0_forget 7 = .ok (.istore_n 1, 1) := dk_60 (dk_at dksX0_forget_0 7 rfl rfl)
theorem dX0_forget_8 : decode cX0_forget 8 = .ok (.aload_n 0, 1) := dk_42 (dk_at dksX0_forget_0 8 rfl rfl)
theorem dX0_forget_9 : decode cX0_forget 9 = .ok (.getfield 30, 3) := dk_180 0 30 (dk_at dksX0_forget_0 9 rfl rfl)
theorem dX0_forget_12 : decode cX0_forget 12 = .ok (.iconst 0, 1) := dk_3 (dk_at dksX0_forget_0 12 rfl rfl)
theorem dX0_forget_13 : decode cX0_forget 13 = .ok (.putfield 290, 3) := dk_181 1 34 (dk_at dksX0_forget_0 13 rfl rfl)
theorem dX0_forget_16 : decode cX0_forget 16 = .ok (.iload_n 1, 1) := dk_27 (dk_at dksX0_forget_0 16 rfl rfl)
theorem dX0_forget_17 : decode cX0_forget 17 = .ok (.ireturn, 1) := dk_172 (dk_at dksX0_forget_0 17 rfl rfl)
abbrev cX0_is : ByteArray := prog_1_method_42_code
def yX0_is : MethodName := ⟨RX0, "is", "(II)I"⟩
def dkwX0_is_3 : List UInt8 := [132, 5, 1, 167, 255, 217, 28, 154, 0, 8, 21, 4, 167, 0, 4, 29, 172]
abbrev dktX0_is_3 : List UInt8 := dkwX0_is_3 ++ []
def dkwX0_is_2 : List UInt8 := [180, 0, 71, 21, 5, 51, 153, 0, 13, 4, 21, 5, 16, 6, 108, 120, 167, 0, 4, 3, 128, 54, 4]
abbrev dktX0_is_2 : List UInt8 := dkwX0_is_2 ++ dktX0_is_3
def dkwX0_is_1 : List UInt8 := [27, 182, 1, 43, 62, 3, 54, 4, 3, 54, 5, 21, 5, 42, 180, 0, 71, 190, 162, 0, 35, 21, 4, 42]
abbrev dktX0_is_1 : List UInt8 := dkwX0_is_1 ++ dktX0_is_2
def dkwX0_is_0 : List UInt8 := [42, 27, 182, 0, 132, 153, 0, 13, 28, 133, 9, 10, 184, 0, 89, 154, 0, 8, 42, 182, 0, 110, 172, 42]
abbrev dktX0_is_0 : List UInt8 := dkwX0_is_0 ++ dktX0_is_1
theorem dksX0_is_0 : cX0_is.data.toList.drop 0 = dktX0_is_0 := by decide +kernel
theorem dksX0_is_1 : cX0_is.data.toList.drop 24 = dktX0_is_1 := dk_seg dksX0_is_0 24 rfl rfl
theorem dksX0_is_2 : cX0_is.data.toList.drop 48 = dktX0_is_2 := dk_seg dksX0_is_1 24 rfl rfl
theorem dksX0_is_3 : cX0_is.data.toList.drop 71 = dktX0_is_3 := dk_seg dksX0_is_2 23 rfl rfl
theorem dX0_is_0 : decode cX0_is 0 = .ok (.aload_n 0, 1) := dk_42 (dk_at dksX0_is_0 0 rfl rfl)
theorem dX0_is_1 : decode cX0_is 1 = .ok (.iload_n 1, 1) := dk_27 (dk_at dksX0_is_0 1 rfl rfl)
theorem dX0_is_2 : decode cX0_is 2 = .ok (.invokevirtual 132, 3) := dk_182 0 132 (dk_at dksX0_is_0 2 rfl rfl)
theorem dX0_is_5 : decode cX0_is 5 = .ok (.ifCond .eq 13, 3) := dk_153 0 13 (dk_at dksX0_is_0 5 rfl rfl)
theorem dX0_is_8 : decode cX0_is 8 = .ok (.iload_n 2, 1) := dk_28 (dk_at dksX0_is_0 8 rfl rfl)
theorem dX0_is_9 : decode cX0_is 9 = .ok (.i2l, 1) := dk_133 (dk_at dksX0_is_0 9 rfl rfl)
theorem dX0_is_10 : decode cX0_is 10 = .ok (.lconst 0, 1) := dk_9 (dk_at dksX0_is_0 10 rfl rfl)
theorem dX0_is_11 : decode cX0_is 11 = .ok (.lconst 1, 1) := dk_10 (dk_at dksX0_is_0 11 rfl rfl)
theorem dX0_is_12 : decode cX0_is 12 = .ok (.invokestatic 89, 3) := dk_184 0 89 (dk_at dksX0_is_0 12 rfl rfl)
theorem dX0_is_15 : decode cX0_is 15 = .ok (.ifCond .ne 8, 3) := dk_154 0 8 (dk_at dksX0_is_0 15 rfl rfl)
theorem dX0_is_18 : decode cX0_is 18 = .ok (.aload_n 0, 1) := dk_42 (dk_at dksX0_is_0 18 rfl rfl)
theorem dX0_is_19 : decode cX0_is 19 = .ok (.invokevirtual 110, 3) := dk_182 0 110 (dk_at dksX0_is_0 19 rfl rfl)
theorem dX0_is_22 : decode cX0_is 22 = .ok (.ireturn, 1) := dk_172 (dk_at dksX0_is_0 22 rfl rfl)
theorem dX0_is_23 : decode cX0_is 23 = .ok (.aload_n 0, 1) := dk_42 (dk_at dksX0_is_0 23 rfl rfl)
theorem dX0_is_24 : decode cX0_is 24 = .ok (.iload_n 1, 1) := dk_27 (dk_at dksX0_is_1 0 rfl rfl)
theorem dX0_is_25 : decode cX0_is 25 = .ok (.invokevirtual 299, 3) := dk_182 1 43 (dk_at dksX0_is_1 1 rfl rfl)
theorem dX0_is_28 : decode cX0_is 28 = .ok (.istore_n 3, 1) := dk_62 (dk_at dksX0_is_1 4 rfl rfl)
theorem dX0_is_29 : decode cX0_is 29 = .ok (.iconst 0, 1) := dk_3 (dk_at dksX0_is_1 5 rfl rfl)
theorem dX0_is_30 : decode cX0_is 30 = .ok (.istore 4, 2) := dk_54 4 (dk_at dksX0_is_1 6 rfl rfl)
theorem dX0_is_32 : decode cX0_is 32 = .ok (.iconst 0, 1) := dk_3 (dk_at dksX0_is_1 8 rfl rfl)
theorem dX0_is_33 : decode cX0_is 33 = .ok (.istore 5, 2) := dk_54 5 (dk_at dksX0_is_1 9 rfl rfl)
theorem dX0_is_35 : decode cX0_is 35 = .ok (.iload 5, 2) := dk_21 5 (dk_at dksX0_is_1 11 rfl rfl)
theorem dX0_is_37 : decode cX0_is 37 = .ok (.aload_n 0, 1) := dk_42 (dk_at dksX0_is_1 13 rfl rfl)
theorem dX0_is_38 : decode cX0_is 38 = .ok (.getfield 71, 3) := dk_180 0 71 (dk_at dksX0_is_1 14 rfl rfl)
theorem dX0_is_41 : decode cX0_is 41 = .ok (.arraylength, 1) := dk_190 (dk_at dksX0_is_1 17 rfl rfl)
theorem dX0_is_42 : decode cX0_is 42 = .ok (.if_icmp .ge 35, 3) := dk_162 0 35 (dk_at dksX0_is_1 18 rfl rfl)
theorem dX0_is_45 : decode cX0_is 45 = .ok (.iload 4, 2) := dk_21 4 (dk_at dksX0_is_1 21 rfl rfl)
theorem dX0_is_47 : decode cX0_is 47 = .ok (.aload_n 0, 1) := dk_42 (dk_at dksX0_is_1 23 rfl rfl)
theorem dX0_is_48 : decode cX0_is 48 = .ok (.getfield 71, 3) := dk_180 0 71 (dk_at dksX0_is_2 0 rfl rfl)
theorem dX0_is_51 : decode cX0_is 51 = .ok (.iload 5, 2) := dk_21 5 (dk_at dksX0_is_2 3 rfl rfl)
theorem dX0_is_53 : decode cX0_is 53 = .ok (.baload, 1) := dk_51 (dk_at dksX0_is_2 5 rfl rfl)
theorem dX0_is_54 : decode cX0_is 54 = .ok (.ifCond .eq 13, 3) := dk_153 0 13 (dk_at dksX0_is_2 6 rfl rfl)
theorem dX0_is_57 : decode cX0_is 57 = .ok (.iconst 1, 1) := dk_4 (dk_at dksX0_is_2 9 rfl rfl)
theorem dX0_is_58 : decode cX0_is 58 = .ok (.iload 5, 2) := dk_21 5 (dk_at dksX0_is_2 10 rfl rfl)
theorem dX0_is_60 : decode cX0_is 60 = .ok (.bipush 6, 2) := dk_16 6 (dk_at dksX0_is_2 12 rfl rfl)
theorem dX0_is_62 : decode cX0_is 62 = .ok (.idiv, 1) := dk_108 (dk_at dksX0_is_2 14 rfl rfl)
theorem dX0_is_63 : decode cX0_is 63 = .ok (.ishl, 1) := dk_120 (dk_at dksX0_is_2 15 rfl rfl)
theorem dX0_is_64 : decode cX0_is 64 = .ok (.goto 4, 3) := dk_167 0 4 (dk_at dksX0_is_2 16 rfl rfl)
theorem dX0_is_67 : decode cX0_is 67 = .ok (.iconst 0, 1) := dk_3 (dk_at dksX0_is_2 19 rfl rfl)
theorem dX0_is_68 : decode cX0_is 68 = .ok (.ior, 1) := dk_128 (dk_at dksX0_is_2 20 rfl rfl)
theorem dX0_is_69 : decode cX0_is 69 = .ok (.istore 4, 2) := dk_54 4 (dk_at dksX0_is_2 21 rfl rfl)
theorem dX0_is_71 : decode cX0_is 71 = .ok (.iinc 5 1, 3) := dk_132 5 1 (dk_at dksX0_is_3 0 rfl rfl)
theorem dX0_is_74 : decode cX0_is 74 = .ok (.goto (-39), 3) := dk_167 255 217 (dk_at dksX0_is_3 3 rfl rfl)
theorem dX0_is_77 : decode cX0_is 77 = .ok (.iload_n 2, 1) := dk_28 (dk_at dksX0_is_3 6 rfl rfl)
theorem dX0_is_78 : decode cX0_is 78 = .ok (.ifCond .ne 8, 3) := dk_154 0 8 (dk_at dksX0_is_3 7 rfl rfl)
theorem dX0_is_81 : decode cX0_is 81 = .ok (.iload 4, 2) := dk_21 4 (dk_at dksX0_is_3 10 rfl rfl)
theorem dX0_is_83 : decode cX0_is 83 = .ok (.goto 4, 3) := dk_167 0 4 (dk_at dksX0_is_3 12 rfl rfl)
theorem dX0_is_86 : decode cX0_is 86 = .ok (.iload_n 3, 1) := dk_29 (dk_at dksX0_is_3 15 rfl rfl)
theorem dX0_is_87 : decode cX0_is 87 = .ok (.ireturn, 1) := dk_172 (dk_at dksX0_is_3 16 rfl rfl)
abbrev cX0_tries : ByteArray := prog_1_method_41_code
def yX0_tries : MethodName := ⟨RX0, "tries", "(I)I"⟩
def dkwX0_tries_5 : List UInt8 := [153, 0, 7, 4, 167, 0, 4, 3, 96, 61, 132, 3, 1, 167, 255, 132, 28, 172]
abbrev dktX0_tries_5 : List UInt8 := dkwX0_tries_5 ++ []
def dkwX0_tries_4 : List UInt8 := [167, 0, 4, 3, 54, 4, 132, 5, 1, 167, 255, 174, 42, 180, 0, 71, 29, 21, 4, 84, 28, 21, 4]
abbrev dktX0_tries_4 : List UInt8 := dkwX0_tries_4 ++ dktX0_tries_5
def dkwX0_tries_3 : List UInt8 := [46, 182, 0, 236, 42, 180, 0, 30, 180, 1, 37, 6, 21, 5, 104, 5, 96, 46, 160, 0, 7, 4]
abbrev dktX0_tries_3 : List UInt8 := dkwX0_tries_3 ++ dktX0_tries_4
def dkwX0_tries_2 : List UInt8 := [104, 46, 27, 160, 0, 42, 178, 1, 40, 29, 50, 42, 180, 0, 30, 180, 1, 37, 6, 21, 5, 104, 4, 96]
abbrev dktX0_tries_2 : List UInt8 := dkwX0_tries_2 ++ dktX0_tries_3
def dkwX0_tries_1 : List UInt8 := [180, 0, 30, 180, 1, 34, 162, 0, 76, 21, 4, 153, 0, 71, 42, 180, 0, 30, 180, 1, 37, 6, 21, 5]
abbrev dktX0_tries_1 : List UInt8 := dkwX0_tries_1 ++ dktX0_tries_2
def dkwX0_tries_0 : List UInt8 := [3, 61, 3, 62, 29, 42, 180, 0, 71, 190, 162, 0, 121, 4, 54, 4, 3, 54, 5, 21, 5, 42]
abbrev dktX0_tries_0 : List UInt8 := dkwX0_tries_0 ++ dktX0_tries_1
theorem dksX0_tries_0 : cX0_tries.data.toList.drop 0 = dktX0_tries_0 := by decide +kernel
theorem dksX0_tries_1 : cX0_tries.data.toList.drop 22 = dktX0_tries_1 := dk_seg dksX0_tries_0 22 rfl rfl
theorem dksX0_tries_2 : cX0_tries.data.toList.drop 46 = dktX0_tries_2 := dk_seg dksX0_tries_1 24 rfl rfl
theorem dksX0_tries_3 : cX0_tries.data.toList.drop 70 = dktX0_tries_3 := dk_seg dksX0_tries_2 24 rfl rfl
theorem dksX0_tries_4 : cX0_tries.data.toList.drop 92 = dktX0_tries_4 := dk_seg dksX0_tries_3 22 rfl rfl
theorem dksX0_tries_5 : cX0_tries.data.toList.drop 115 = dktX0_tries_5 := dk_seg dksX0_tries_4 23 rfl rfl
theorem dX0_tries_0 : decode cX0_tries 0 = .ok (.iconst 0, 1) := dk_3 (dk_at dksX0_tries_0 0 rfl rfl)
theorem dX0_tries_1 : decode cX0_tries 1 = .ok (.istore_n 2, 1) := dk_61 (dk_at dksX0_tries_0 1 rfl rfl)
theorem dX0_tries_2 : decode cX0_tries 2 = .ok (.iconst 0, 1) := dk_3 (dk_at dksX0_tries_0 2 rfl rfl)
theorem dX0_tries_3 : decode cX0_tries 3 = .ok (.istore_n 3, 1) := dk_62 (dk_at dksX0_tries_0 3 rfl rfl)
theorem dX0_tries_4 : decode cX0_tries 4 = .ok (.iload_n 3, 1) := dk_29 (dk_at dksX0_tries_0 4 rfl rfl)
theorem dX0_tries_5 : decode cX0_tries 5 = .ok (.aload_n 0, 1) := dk_42 (dk_at dksX0_tries_0 5 rfl rfl)
theorem dX0_tries_6 : decode cX0_tries 6 = .ok (.getfield 71, 3) := dk_180 0 71 (dk_at dksX0_tries_0 6 rfl rfl)
theorem dX0_tries_9 : decode cX0_tries 9 = .ok (.arraylength, 1) := dk_190 (dk_at dksX0_tries_0 9 rfl rfl)
theorem dX0_tries_10 : decode cX0_tries 10 = .ok (.if_icmp .ge 121, 3) := dk_162 0 121 (dk_at dksX0_tries_0 10 rfl rfl)
theorem dX0_tries_13 : decode cX0_tries 13 = .ok (.iconst 1, 1) := dk_4 (dk_at dksX0_tries_0 13 rfl rfl)
theorem dX0_tries_14 : decode cX0_tries 14 = .ok (.istore 4, 2) := dk_54 4 (dk_at dksX0_tries_0 14 rfl rfl)
theorem dX0_tries_16 : decode cX0_tries 16 = .ok (.iconst 0, 1) := dk_3 (dk_at dksX0_tries_0 16 rfl rfl)
theorem dX0_tries_17 : decode cX0_tries 17 = .ok (.istore 5, 2) := dk_54 5 (dk_at dksX0_tries_0 17 rfl rfl)
theorem dX0_tries_19 : decode cX0_tries 19 = .ok (.iload 5, 2) := dk_21 5 (dk_at dksX0_tries_0 19 rfl rfl)
theorem dX0_tries_21 : decode cX0_tries 21 = .ok (.aload_n 0, 1) := dk_42 (dk_at dksX0_tries_0 21 rfl rfl)
theorem dX0_tries_22 : decode cX0_tries 22 = .ok (.getfield 30, 3) := dk_180 0 30 (dk_at dksX0_tries_1 0 rfl rfl)
theorem dX0_tries_25 : decode cX0_tries 25 = .ok (.getfield 290, 3) := dk_180 1 34 (dk_at dksX0_tries_1 3 rfl rfl)
theorem dX0_tries_28 : decode cX0_tries 28 = .ok (.if_icmp .ge 76, 3) := dk_162 0 76 (dk_at dksX0_tries_1 6 rfl rfl)
theorem dX0_tries_31 : decode cX0_tries 31 = .ok (.iload 4, 2) := dk_21 4 (dk_at dksX0_tries_1 9 rfl rfl)
theorem dX0_tries_33 : decode cX0_tries 33 = .ok (.ifCond .eq 71, 3) := dk_153 0 71 (dk_at dksX0_tries_1 11 rfl rfl)
theorem dX0_tries_36 : decode cX0_tries 36 = .ok (.aload_n 0, 1) := dk_42 (dk_at dksX0_tries_1 14 rfl rfl)
theorem dX0_tries_37 : decode cX0_tries 37 = .ok (.getfield 30, 3) := dk_180 0 30 (dk_at dksX0_tries_1 15 rfl rfl)
theorem dX0_tries_40 : decode cX0_tries 40 = .ok (.getfield 293, 3) := dk_180 1 37 (dk_at dksX0_tries_1 18 rfl rfl)
theorem dX0_tries_43 : decode cX0_tries 43 = .ok (.iconst 3, 1) := dk_6 (dk_at dksX0_tries_1 21 rfl rfl)
theorem dX0_tries_44 : decode cX0_tries 44 = .ok (.iload 5, 2) := dk_21 5 (dk_at dksX0_tries_1 22 rfl rfl)
theorem dX0_tries_46 : decode cX0_tries 46 = .ok (.imul, 1) := dk_104 (dk_at dksX0_tries_2 0 rfl rfl)
theorem dX0_tries_47 : decode cX0_tries 47 = .ok (.iaload, 1) := dk_46 (dk_at dksX0_tries_2 1 rfl rfl)
theorem dX0_tries_48 : decode cX0_tries 48 = .ok (.iload_n 1, 1) := dk_27 (dk_at dksX0_tries_2 2 rfl rfl)
theorem dX0_tries_49 : decode cX0_tries 49 = .ok (.if_icmp .ne 42, 3) := dk_160 0 42 (dk_at dksX0_tries_2 3 rfl rfl)
theorem dX0_tries_52 : decode cX0_tries 52 = .ok (.getstatic 296, 3) := dk_178 1 40 (dk_at dksX0_tries_2 6 rfl rfl)
theorem dX0_tries_55 : decode cX0_tries 55 = .ok (.iload_n 3, 1) := dk_29 (dk_at dksX0_tries_2 9 rfl rfl)
theorem dX0_tries_56 : decode cX0_tries 56 = .ok (.aaload, 1) := dk_50 (dk_at dksX0_tries_2 10 rfl rfl)
theorem dX0_tries_57 : decode cX0_tries 57 = .ok (.aload_n 0, 1) := dk_42 (dk_at dksX0_tries_2 11 rfl rfl)
theorem dX0_tries_58 : decode cX0_tries 58 = .ok (.getfield 30, 3) := dk_180 0 30 (dk_at dksX0_tries_2 12 rfl rfl)
theorem dX0_tries_61 : decode cX0_tries 61 = .ok (.getfield 293, 3) := dk_180 1 37 (dk_at dksX0_tries_2 15 rfl rfl)
theorem dX0_tries_64 : decode cX0_tries 64 = .ok (.iconst 3, 1) := dk_6 (dk_at dksX0_tries_2 18 rfl rfl)
theorem dX0_tries_65 : decode cX0_tries 65 = .ok (.iload 5, 2) := dk_21 5 (dk_at dksX0_tries_2 19 rfl rfl)
theorem dX0_tries_67 : decode cX0_tries 67 = .ok (.imul, 1) := dk_104 (dk_at dksX0_tries_2 21 rfl rfl)
theorem dX0_tries_68 : decode cX0_tries 68 = .ok (.iconst 1, 1) := dk_4 (dk_at dksX0_tries_2 22 rfl rfl)
theorem dX0_tries_69 : decode cX0_tries 69 = .ok (.iadd, 1) := dk_96 (dk_at dksX0_tries_2 23 rfl rfl)
theorem dX0_tries_70 : decode cX0_tries 70 = .ok (.iaload, 1) := dk_46 (dk_at dksX0_tries_3 0 rfl rfl)
theorem dX0_tries_71 : decode cX0_tries 71 = .ok (.invokevirtual 236, 3) := dk_182 0 236 (dk_at dksX0_tries_3 1 rfl rfl)
theorem dX0_tries_74 : decode cX0_tries 74 = .ok (.aload_n 0, 1) := dk_42 (dk_at dksX0_tries_3 4 rfl rfl)
theorem dX0_tries_75 : decode cX0_tries 75 = .ok (.getfield 30, 3) := dk_180 0 30 (dk_at dksX0_tries_3 5 rfl rfl)
theorem dX0_tries_78 : decode cX0_tries 78 = .ok (.getfield 293, 3) := dk_180 1 37 (dk_at dksX0_tries_3 8 rfl rfl)
theorem dX0_tries_81 : decode cX0_tries 81 = .ok (.iconst 3, 1) := dk_6 (dk_at dksX0_tries_3 11 rfl rfl)
theorem dX0_tries_82 : decode cX0_tries 82 = .ok (.iload 5, 2) := dk_21 5 (dk_at dksX0_tries_3 12 rfl rfl)
theorem dX0_tries_84 : decode cX0_tries 84 = .ok (.imul, 1) := dk_104 (dk_at dksX0_tries_3 14 rfl rfl)
theorem dX0_tries_85 : decode cX0_tries 85 = .ok (.iconst 2, 1) := dk_5 (dk_at dksX0_tries_3 15 rfl rfl)
theorem dX0_tries_86 : decode cX0_tries 86 = .ok (.iadd, 1) := dk_96 (dk_at dksX0_tries_3 16 rfl rfl)
theorem dX0_tries_87 : decode cX0_tries 87 = .ok (.iaload, 1) := dk_46 (dk_at dksX0_tries_3 17 rfl rfl)
theorem dX0_tries_88 : decode cX0_tries 88 = .ok (.if_icmp .ne 7, 3) := dk_160 0 7 (dk_at dksX0_tries_3 18 rfl rfl)
theorem dX0_tries_91 : decode cX0_tries 91 = .ok (.iconst 1, 1) := dk_4 (dk_at dksX0_tries_3 21 rfl rfl)
theorem dX0_tries_92 : decode cX0_tries 92 = .ok (.goto 4, 3) := dk_167 0 4 (dk_at dksX0_tries_4 0 rfl rfl)
theorem dX0_tries_95 : decode cX0_tries 95 = .ok (.iconst 0, 1) := dk_3 (dk_at dksX0_tries_4 3 rfl rfl)
theorem dX0_tries_96 : decode cX0_tries 96 = .ok (.istore 4, 2) := dk_54 4 (dk_at dksX0_tries_4 4 rfl rfl)
theorem dX0_tries_98 : decode cX0_tries 98 = .ok (.iinc 5 1, 3) := dk_132 5 1 (dk_at dksX0_tries_4 6 rfl rfl)
theorem dX0_tries_101 : decode cX0_tries 101 = .ok (.goto (-82), 3) := dk_167 255 174 (dk_at dksX0_tries_4 9 rfl rfl)
theorem dX0_tries_104 : decode cX0_tries 104 = .ok (.aload_n 0, 1) := dk_42 (dk_at dksX0_tries_4 12 rfl rfl)
theorem dX0_tries_105 : decode cX0_tries 105 = .ok (.getfield 71, 3) := dk_180 0 71 (dk_at dksX0_tries_4 13 rfl rfl)
theorem dX0_tries_108 : decode cX0_tries 108 = .ok (.iload_n 3, 1) := dk_29 (dk_at dksX0_tries_4 16 rfl rfl)
theorem dX0_tries_109 : decode cX0_tries 109 = .ok (.iload 4, 2) := dk_21 4 (dk_at dksX0_tries_4 17 rfl rfl)
theorem dX0_tries_111 : decode cX0_tries 111 = .ok (.bastore, 1) := dk_84 (dk_at dksX0_tries_4 19 rfl rfl)
theorem dX0_tries_112 : decode cX0_tries 112 = .ok (.iload_n 2, 1) := dk_28 (dk_at dksX0_tries_4 20 rfl rfl)
theorem dX0_tries_113 : decode cX0_tries 113 = .ok (.iload 4, 2) := dk_21 4 (dk_at dksX0_tries_4 21 rfl rfl)
theorem dX0_tries_115 : decode cX0_tries 115 = .ok (.ifCond .eq 7, 3) := dk_153 0 7 (dk_at dksX0_tries_5 0 rfl rfl)
theorem dX0_tries_118 : decode cX0_tries 118 = .ok (.iconst 1, 1) := dk_4 (dk_at dksX0_tries_5 3 rfl rfl)
theorem dX0_tries_119 : decode cX0_tries 119 = .ok (.goto 4, 3) := dk_167 0 4 (dk_at dksX0_tries_5 4 rfl rfl)
theorem dX0_tries_122 : decode cX0_tries 122 = .ok (.iconst 0, 1) := dk_3 (dk_at dksX0_tries_5 7 rfl rfl)
theorem dX0_tries_123 : decode cX0_tries 123 = .ok (.iadd, 1) := dk_96 (dk_at dksX0_tries_5 8 rfl rfl)
theorem dX0_tries_124 : decode cX0_tries 124 = .ok (.istore_n 2, 1) := dk_61 (dk_at dksX0_tries_5 9 rfl rfl)
theorem dX0_tries_125 : decode cX0_tries 125 = .ok (.iinc 3 1, 3) := dk_132 3 1 (dk_at dksX0_tries_5 10 rfl rfl)
theorem dX0_tries_128 : decode cX0_tries 128 = .ok (.goto (-124), 3) := dk_167 255 132 (dk_at dksX0_tries_5 13 rfl rfl)
theorem dX0_tries_131 : decode cX0_tries 131 = .ok (.iload_n 2, 1) := dk_28 (dk_at dksX0_tries_5 16 rfl rfl)
theorem dX0_tries_132 : decode cX0_tries 132 = .ok (.ireturn, 1) := dk_172 (dk_at dksX0_tries_5 17 rfl rfl)
abbrev cX0_look : ByteArray := prog_1_method_43_code
def yX0_look : MethodName := ⟨RX0, "look", "(I)I"⟩
def dkwX0_look_7 : List UInt8 := [167, 255, 130, 29, 172]
abbrev dktX0_look_7 : List UInt8 := dkwX0_look_7 ++ []
def dkwX0_look_6 : List UInt8 := [162, 0, 8, 21, 5, 167, 0, 4, 29, 62, 21, 4, 21, 6, 184, 1, 49, 54, 4, 132, 5, 1]
abbrev dktX0_look_6 : List UInt8 := dkwX0_look_6 ++ dktX0_look_7
def dkwX0_look_5 : List UInt8 := [21, 6, 42, 180, 0, 75, 21, 8, 46, 184, 1, 18, 54, 6, 132, 7, 1, 167, 255, 195, 21, 6, 21, 4]
abbrev dktX0_look_5 : List UInt8 := dkwX0_look_5 ++ dktX0_look_6
def dkwX0_look_4 : List UInt8 := [178, 1, 40, 21, 7, 50, 21, 5, 182, 0, 236, 54, 8, 42, 180, 0, 75, 21, 8, 92, 46, 4, 96, 79]
abbrev dktX0_look_4 : List UInt8 := dkwX0_look_4 ++ dktX0_look_5
def dkwX0_look_3 : List UInt8 := [3, 54, 7, 21, 7, 42, 180, 0, 71, 190, 162, 0, 57, 42, 180, 0, 71, 21, 7, 51, 153, 0, 41]
abbrev dktX0_look_3 : List UInt8 := dkwX0_look_3 ++ dktX0_look_4
def dkwX0_look_2 : List UInt8 := [180, 0, 208, 16, 12, 96, 162, 0, 114, 28, 158, 0, 110, 42, 180, 0, 75, 3, 184, 0, 202, 3, 54, 6]
abbrev dktX0_look_2 : List UInt8 := dkwX0_look_2 ++ dktX0_look_3
def dkwX0_look_1 : List UInt8 := [54, 4, 42, 180, 0, 30, 180, 0, 160, 180, 0, 208, 54, 5, 21, 5, 42, 180, 0, 30, 180, 0, 160]
abbrev dktX0_look_1 : List UInt8 := dkwX0_look_1 ++ dktX0_look_2
def dkwX0_look_0 : List UInt8 := [42, 27, 182, 0, 132, 154, 0, 8, 42, 182, 0, 110, 172, 42, 27, 182, 1, 43, 61, 2, 62, 19, 1, 48]
abbrev dktX0_look_0 : List UInt8 := dkwX0_look_0 ++ dktX0_look_1
theorem dksX0_look_0 : cX0_look.data.toList.drop 0 = dktX0_look_0 := by decide +kernel
theorem dksX0_look_1 : cX0_look.data.toList.drop 24 = dktX0_look_1 := dk_seg dksX0_look_0 24 rfl rfl
theorem dksX0_look_2 : cX0_look.data.toList.drop 47 = dktX0_look_2 := dk_seg dksX0_look_1 23 rfl rfl
theorem dksX0_look_3 : cX0_look.data.toList.drop 71 = dktX0_look_3 := dk_seg dksX0_look_2 24 rfl rfl
theorem dksX0_look_4 : cX0_look.data.toList.drop 94 = dktX0_look_4 := dk_seg dksX0_look_3 23 rfl rfl
theorem dksX0_look_5 : cX0_look.data.toList.drop 118 = dktX0_look_5 := dk_seg dksX0_look_4 24 rfl rfl
theorem dksX0_look_6 : cX0_look.data.toList.drop 142 = dktX0_look_6 := dk_seg dksX0_look_5 24 rfl rfl
theorem dksX0_look_7 : cX0_look.data.toList.drop 164 = dktX0_look_7 := dk_seg dksX0_look_6 22 rfl rfl
theorem dX0_look_0 : decode cX0_look 0 = .ok (.aload_n 0, 1) := dk_42 (dk_at dksX0_look_0 0 rfl rfl)
theorem dX0_look_1 : decode cX0_look 1 = .ok (.iload_n 1, 1) := dk_27 (dk_at dksX0_look_0 1 rfl rfl)
theorem dX0_look_2 : decode cX0_look 2 = .ok (.invokevirtual 132, 3) := dk_182 0 132 (dk_at dksX0_look_0 2 rfl rfl)
theorem dX0_look_5 : decode cX0_look 5 = .ok (.ifCond .ne 8, 3) := dk_154 0 8 (dk_at dksX0_look_0 5 rfl rfl)
theorem dX0_look_8 : decode cX0_look 8 = .ok (.aload_n 0, 1) := dk_42 (dk_at dksX0_look_0 8 rfl rfl)
theorem dX0_look_9 : decode cX0_look 9 = .ok (.invokevirtual 110, 3) := dk_182 0 110 (dk_at dksX0_look_0 9 rfl rfl)
theorem dX0_look_12 : decode cX0_look 12 = .ok (.ireturn, 1) := dk_172 (dk_at dksX0_look_0 12 rfl rfl)
theorem dX0_look_13 : decode cX0_look 13 = .ok (.aload_n 0, 1) := dk_42 (dk_at dksX0_look_0 13 rfl rfl)
theorem dX0_look_14 : decode cX0_look 14 = .ok (.iload_n 1, 1) := dk_27 (dk_at dksX0_look_0 14 rfl rfl)
theorem dX0_look_15 : decode cX0_look 15 = .ok (.invokevirtual 299, 3) := dk_182 1 43 (dk_at dksX0_look_0 15 rfl rfl)
theorem dX0_look_18 : decode cX0_look 18 = .ok (.istore_n 2, 1) := dk_61 (dk_at dksX0_look_0 18 rfl rfl)
theorem dX0_look_19 : decode cX0_look 19 = .ok (.iconst (-1), 1) := dk_2 (dk_at dksX0_look_0 19 rfl rfl)
theorem dX0_look_20 : decode cX0_look 20 = .ok (.istore_n 3, 1) := dk_62 (dk_at dksX0_look_0 20 rfl rfl)
theorem dX0_look_21 : decode cX0_look 21 = .ok (.ldc_w 304, 3) := dk_19 1 48 (dk_at dksX0_look_0 21 rfl rfl)
theorem dX0_look_24 : decode cX0_look 24 = .ok (.istore 4, 2) := dk_54 4 (dk_at dksX0_look_1 0 rfl rfl)
theorem dX0_look_26 : decode cX0_look 26 = .ok (.aload_n 0, 1) := dk_42 (dk_at dksX0_look_1 2 rfl rfl)
theorem dX0_look_27 : decode cX0_look 27 = .ok (.getfield 30, 3) := dk_180 0 30 (dk_at dksX0_look_1 3 rfl rfl)
theorem dX0_look_30 : decode cX0_look 30 = .ok (.getfield 160, 3) := dk_180 0 160 (dk_at dksX0_look_1 6 rfl rfl)
theorem dX0_look_33 : decode cX0_look 33 = .ok (.getfield 208, 3) := dk_180 0 208 (dk_at dksX0_look_1 9 rfl rfl)
theorem dX0_look_36 : decode cX0_look 36 = .ok (.istore 5, 2) := dk_54 5 (dk_at dksX0_look_1 12 rfl rfl)
theorem dX0_look_38 : decode cX0_look 38 = .ok (.iload 5, 2) := dk_21 5 (dk_at dksX0_look_1 14 rfl rfl)
theorem dX0_look_40 : decode cX0_look 40 = .ok (.aload_n 0, 1) := dk_42 (dk_at dksX0_look_1 16 rfl rfl)
theorem dX0_look_41 : decode cX0_look 41 = .ok (.getfield 30, 3) := dk_180 0 30 (dk_at dksX0_look_1 17 rfl rfl)
theorem dX0_look_44 : decode cX0_look 44 = .ok (.getfield 160, 3) := dk_180 0 160 (dk_at dksX0_look_1 20 rfl rfl)
theorem dX0_look_47 : decode cX0_look 47 = .ok (.getfield 208, 3) := dk_180 0 208 (dk_at dksX0_look_2 0 rfl rfl)
theorem dX0_look_50 : decode cX0_look 50 = .ok (.bipush 12, 2) := dk_16 12 (dk_at dksX0_look_2 3 rfl rfl)
theorem dX0_look_52 : decode cX0_look 52 = .ok (.iadd, 1) := dk_96 (dk_at dksX0_look_2 5 rfl rfl)
theorem dX0_look_53 : decode cX0_look 53 = .ok (.if_icmp .ge 114, 3) := dk_162 0 114 (dk_at dksX0_look_2 6 rfl rfl)
theorem dX0_look_56 : decode cX0_look 56 = .ok (.iload_n 2, 1) := dk_28 (dk_at dksX0_look_2 9 rfl rfl)
theorem dX0_look_57 : decode cX0_look 57 = .ok (.ifCond .le 110, 3) := dk_158 0 110 (dk_at dksX0_look_2 10 rfl rfl)
theorem dX0_look_60 : decode cX0_look 60 = .ok (.aload_n 0, 1) := dk_42 (dk_at dksX0_look_2 13 rfl rfl)
theorem dX0_look_61 : decode cX0_look 61 = .ok (.getfield 75, 3) := dk_180 0 75 (dk_at dksX0_look_2 14 rfl rfl)
theorem dX0_look_64 : decode cX0_look 64 = .ok (.iconst 0, 1) := dk_3 (dk_at dksX0_look_2 17 rfl rfl)
theorem dX0_look_65 : decode cX0_look 65 = .ok (.invokestatic 202, 3) := dk_184 0 202 (dk_at dksX0_look_2 18 rfl rfl)
theorem dX0_look_68 : decode cX0_look 68 = .ok (.iconst 0, 1) := dk_3 (dk_at dksX0_look_2 21 rfl rfl)
theorem dX0_look_69 : decode cX0_look 69 = .ok (.istore 6, 2) := dk_54 6 (dk_at dksX0_look_2 22 rfl rfl)
theorem dX0_look_71 : decode cX0_look 71 = .ok (.iconst 0, 1) := dk_3 (dk_at dksX0_look_3 0 rfl rfl)
theorem dX0_look_72 : decode cX0_look 72 = .ok (.istore 7, 2) := dk_54 7 (dk_at dksX0_look_3 1 rfl rfl)
theorem dX0_look_74 : decode cX0_look 74 = .ok (.iload 7, 2) := dk_21 7 (dk_at dksX0_look_3 3 rfl rfl)
theorem dX0_look_76 : decode cX0_look 76 = .ok (.aload_n 0, 1) := dk_42 (dk_at dksX0_look_3 5 rfl rfl)
theorem dX0_look_77 : decode cX0_look 77 = .ok (.getfield 71, 3) := dk_180 0 71 (dk_at dksX0_look_3 6 rfl rfl)
theorem dX0_look_80 : decode cX0_look 80 = .ok (.arraylength, 1) := dk_190 (dk_at dksX0_look_3 9 rfl rfl)
theorem dX0_look_81 : decode cX0_look 81 = .ok (.if_icmp .ge 57, 3) := dk_162 0 57 (dk_at dksX0_look_3 10 rfl rfl)
theorem dX0_look_84 : decode cX0_look 84 = .ok (.aload_n 0, 1) := dk_42 (dk_at dksX0_look_3 13 rfl rfl)
theorem dX0_look_85 : decode cX0_look 85 = .ok (.getfield 71, 3) := dk_180 0 71 (dk_at dksX0_look_3 14 rfl rfl)
theorem dX0_look_88 : decode cX0_look 88 = .ok (.iload 7, 2) := dk_21 7 (dk_at dksX0_look_3 17 rfl rfl)
theorem dX0_look_90 : decode cX0_look 90 = .ok (.baload, 1) := dk_51 (dk_at dksX0_look_3 19 rfl rfl)
theorem dX0_look_91 : decode cX0_look 91 = .ok (.ifCond .eq 41, 3) := dk_153 0 41 (dk_at dksX0_look_3 20 rfl rfl)
theorem dX0_look_94 : decode cX0_look 94 = .ok (.getstatic 296, 3) := dk_178 1 40 (dk_at dksX0_look_4 0 rfl rfl)
theorem dX0_look_97 : decode cX0_look 97 = .ok (.iload 7, 2) := dk_21 7 (dk_at dksX0_look_4 3 rfl rfl)
theorem dX0_look_99 : decode cX0_look 99 = .ok (.aaload, 1) := dk_50 (dk_at dksX0_look_4 5 rfl rfl)
theorem dX0_look_100 : decode cX0_look 100 = .ok (.iload 5, 2) := dk_21 5 (dk_at dksX0_look_4 6 rfl rfl)
theorem dX0_look_102 : decode cX0_look 102 = .ok (.invokevirtual 236, 3) := dk_182 0 236 (dk_at dksX0_look_4 8 rfl rfl)
theorem dX0_look_105 : decode cX0_look 105 = .ok (.istore 8, 2) := dk_54 8 (dk_at dksX0_look_4 11 rfl rfl)
theorem dX0_look_107 : decode cX0_look 107 = .ok (.aload_n 0, 1) := dk_42 (dk_at dksX0_look_4 13 rfl rfl)
theorem dX0_look_108 : decode cX0_look 108 = .ok (.getfield 75, 3) := dk_180 0 75 (dk_at dksX0_look_4 14 rfl rfl)
theorem dX0_look_111 : decode cX0_look 111 = .ok (.iload 8, 2) := dk_21 8 (dk_at dksX0_look_4 17 rfl rfl)
theorem dX0_look_113 : decode cX0_look 113 = .ok (.dup2, 1) := dk_92 (dk_at dksX0_look_4 19 rfl rfl)
theorem dX0_look_114 : decode cX0_look 114 = .ok (.iaload, 1) := dk_46 (dk_at dksX0_look_4 20 rfl rfl)
theorem dX0_look_115 : decode cX0_look 115 = .ok (.iconst 1, 1) := dk_4 (dk_at dksX0_look_4 21 rfl rfl)
theorem dX0_look_116 : decode cX0_look 116 = .ok (.iadd, 1) := dk_96 (dk_at dksX0_look_4 22 rfl rfl)
theorem dX0_look_117 : decode cX0_look 117 = .ok (.iastore, 1) := dk_79 (dk_at dksX0_look_4 23 rfl rfl)
theorem dX0_look_118 : decode cX0_look 118 = .ok (.iload 6, 2) := dk_21 6 (dk_at dksX0_look_5 0 rfl rfl)
theorem dX0_look_120 : decode cX0_look 120 = .ok (.aload_n 0, 1) := dk_42 (dk_at dksX0_look_5 2 rfl rfl)
theorem dX0_look_121 : decode cX0_look 121 = .ok (.getfield 75, 3) := dk_180 0 75 (dk_at dksX0_look_5 3 rfl rfl)
theorem dX0_look_124 : decode cX0_look 124 = .ok (.iload 8, 2) := dk_21 8 (dk_at dksX0_look_5 6 rfl rfl)
theorem dX0_look_126 : decode cX0_look 126 = .ok (.iaload, 1) := dk_46 (dk_at dksX0_look_5 8 rfl rfl)
theorem dX0_look_127 : decode cX0_look 127 = .ok (.invokestatic 274, 3) := dk_184 1 18 (dk_at dksX0_look_5 9 rfl rfl)
theorem dX0_look_130 : decode cX0_look 130 = .ok (.istore 6, 2) := dk_54 6 (dk_at dksX0_look_5 12 rfl rfl)
theorem dX0_look_132 : decode cX0_look 132 = .ok (.iinc 7 1, 3) := dk_132 7 1 (dk_at dksX0_look_5 14 rfl rfl)
theorem dX0_look_135 : decode cX0_look 135 = .ok (.goto (-61), 3) := dk_167 255 195 (dk_at dksX0_look_5 17 rfl rfl)
theorem dX0_look_138 : decode cX0_look 138 = .ok (.iload 6, 2) := dk_21 6 (dk_at dksX0_look_5 20 rfl rfl)
theorem dX0_look_140 : decode cX0_look 140 = .ok (.iload 4, 2) := dk_21 4 (dk_at dksX0_look_5 22 rfl rfl)
theorem dX0_look_142 : decode cX0_look 142 = .ok (.if_icmp .ge 8, 3) := dk_162 0 8 (dk_at dksX0_look_6 0 rfl rfl)
theorem dX0_look_145 : decode cX0_look 145 = .ok (.iload 5, 2) := dk_21 5 (dk_at dksX0_look_6 3 rfl rfl)
theorem dX0_look_147 : decode cX0_look 147 = .ok (.goto 4, 3) := dk_167 0 4 (dk_at dksX0_look_6 5 rfl rfl)
theorem dX0_look_150 : decode cX0_look 150 = .ok (.iload_n 3, 1) := dk_29 (dk_at dksX0_look_6 8 rfl rfl)
theorem dX0_look_151 : decode cX0_look 151 = .ok (.istore_n 3, 1) := dk_62 (dk_at dksX0_look_6 9 rfl rfl)
theorem dX0_look_152 : decode cX0_look 152 = .ok (.iload 4, 2) := dk_21 4 (dk_at dksX0_look_6 10 rfl rfl)
theorem dX0_look_154 : decode cX0_look 154 = .ok (.iload 6, 2) := dk_21 6 (dk_at dksX0_look_6 12 rfl rfl)
theorem dX0_look_156 : decode cX0_look 156 = .ok (.invokestatic 305, 3) := dk_184 1 49 (dk_at dksX0_look_6 14 rfl rfl)
theorem dX0_look_159 : decode cX0_look 159 = .ok (.istore 4, 2) := dk_54 4 (dk_at dksX0_look_6 17 rfl rfl)
theorem dX0_look_161 : decode cX0_look 161 = .ok (.iinc 5 1, 3) := dk_132 5 1 (dk_at dksX0_look_6 19 rfl rfl)
theorem dX0_look_164 : decode cX0_look 164 = .ok (.goto (-126), 3) := dk_167 255 130 (dk_at dksX0_look_7 0 rfl rfl)
theorem dX0_look_167 : decode cX0_look 167 = .ok (.iload_n 3, 1) := dk_29 (dk_at dksX0_look_7 3 rfl rfl)
theorem dX0_look_168 : decode cX0_look 168 = .ok (.ireturn, 1) := dk_172 (dk_at dksX0_look_7 4 rfl rfl)
abbrev cX0_odds : ByteArray := prog_1_method_45_code
def yX0_odds : MethodName := ⟨RX0, "odds", "(I)I"⟩
def dkwX0_odds_7 : List UInt8 := [42, 22, 4, 22, 6, 109, 181, 0, 51, 4, 172]
abbrev dktX0_odds_7 : List UInt8 := dkwX0_odds_7 ++ []
def dkwX0_odds_6 : List UInt8 := [97, 65, 132, 6, 1, 167, 255, 167, 32, 22, 4, 184, 1, 54, 55, 6, 42, 32, 22, 6, 109, 181, 1, 58]
abbrev dktX0_odds_6 : List UInt8 := dkwX0_odds_6 ++ dktX0_odds_7
def dkwX0_odds_5 : List UInt8 := [21, 6, 42, 180, 0, 30, 180, 0, 160, 180, 0, 208, 182, 1, 16, 32, 22, 7, 42, 180, 1, 8, 133, 105]
abbrev dktX0_odds_5 : List UInt8 := dkwX0_odds_5 ++ dktX0_odds_6
def dkwX0_odds_4 : List UInt8 := [160, 0, 8, 27, 133, 167, 0, 8, 16, 10, 27, 100, 133, 105, 55, 7, 132, 9, 1, 167, 255, 215, 42]
abbrev dktX0_odds_4 : List UInt8 := dkwX0_odds_4 ++ dktX0_odds_5
def dkwX0_odds_3 : List UInt8 := [21, 9, 42, 180, 0, 30, 180, 0, 93, 162, 0, 35, 22, 7, 21, 6, 21, 9, 122, 4, 126, 4]
abbrev dktX0_odds_3 : List UInt8 := dkwX0_odds_3 ++ dktX0_odds_4
def dkwX0_odds_2 : List UInt8 := [132, 6, 1, 167, 255, 233, 3, 54, 6, 21, 6, 42, 182, 1, 13, 163, 0, 86, 10, 55, 7, 3, 54, 9]
abbrev dktX0_odds_2 : List UInt8 := dkwX0_odds_2 ++ dktX0_odds_3
def dkwX0_odds_1 : List UInt8 := [54, 6, 21, 6, 42, 180, 0, 30, 180, 0, 93, 162, 0, 17, 22, 4, 20, 1, 52, 105, 55, 4]
abbrev dktX0_odds_1 : List UInt8 := dkwX0_odds_1 ++ dktX0_odds_2
def dkwX0_odds_0 : List UInt8 := [27, 133, 9, 20, 1, 52, 184, 0, 89, 154, 0, 8, 42, 182, 0, 110, 172, 9, 65, 10, 55, 4, 3]
abbrev dktX0_odds_0 : List UInt8 := dkwX0_odds_0 ++ dktX0_odds_1
theorem dksX0_odds_0 : cX0_odds.data.toList.drop 0 = dktX0_odds_0 := by decide +kernel
theorem dksX0_odds_1 : cX0_odds.data.toList.drop 23 = dktX0_odds_1 := dk_seg dksX0_odds_0 23 rfl rfl
theorem dksX0_odds_2 : cX0_odds.data.toList.drop 45 = dktX0_odds_2 := dk_seg dksX0_odds_1 22 rfl rfl
theorem dksX0_odds_3 : cX0_odds.data.toList.drop 69 = dktX0_odds_3 := dk_seg dksX0_odds_2 24 rfl rfl
theorem dksX0_odds_4 : cX0_odds.data.toList.drop 91 = dktX0_odds_4 := dk_seg dksX0_odds_3 22 rfl rfl
theorem dksX0_odds_5 : cX0_odds.data.toList.drop 114 = dktX0_odds_5 := dk_seg dksX0_odds_4 23 rfl rfl
theorem dksX0_odds_6 : cX0_odds.data.toList.drop 138 = dktX0_odds_6 := dk_seg dksX0_odds_5 24 rfl rfl
theorem dksX0_odds_7 : cX0_odds.data.toList.drop 162 = dktX0_odds_7 := dk_seg dksX0_odds_6 24 rfl rfl
theorem dX0_odds_0 : decode cX0_odds 0 = .ok (.iload_n 1, 1) := dk_27 (dk_at dksX0_odds_0 0 rfl rfl)
theorem dX0_odds_1 : decode cX0_odds 1 = .ok (.i2l, 1) := dk_133 (dk_at dksX0_odds_0 1 rfl rfl)
theorem dX0_odds_2 : decode cX0_odds 2 = .ok (.lconst 0, 1) := dk_9 (dk_at dksX0_odds_0 2 rfl rfl)
theorem dX0_odds_3 : decode cX0_odds 3 = .ok (.ldc2_w 308, 3) := dk_20 1 52 (dk_at dksX0_odds_0 3 rfl rfl)
theorem dX0_odds_6 : decode cX0_odds 6 = .ok (.invokestatic 89, 3) := dk_184 0 89 (dk_at dksX0_odds_0 6 rfl rfl)
theorem dX0_odds_9 : decode cX0_odds 9 = .ok (.ifCond .ne 8, 3) := dk_154 0 8 (dk_at dksX0_odds_0 9 rfl rfl)
theorem dX0_odds_12 : decode cX0_odds 12 = .ok (.aload_n 0, 1) := dk_42 (dk_at dksX0_odds_0 12 rfl rfl)
theorem dX0_odds_13 : decode cX0_odds 13 = .ok (.invokevirtual 110, 3) := dk_182 0 110 (dk_at dksX0_odds_0 13 rfl rfl)
theorem dX0_odds_16 : decode cX0_odds 16 = .ok (.ireturn, 1) := dk_172 (dk_at dksX0_odds_0 16 rfl rfl)
theorem dX0_odds_17 : decode cX0_odds 17 = .ok (.lconst 0, 1) := dk_9 (dk_at dksX0_odds_0 17 rfl rfl)
theorem dX0_odds_18 : decode cX0_odds 18 = .ok (.lstore_n 2, 1) := dk_65 (dk_at dksX0_odds_0 18 rfl rfl)
theorem dX0_odds_19 : decode cX0_odds 19 = .ok (.lconst 1, 1) := dk_10 (dk_at dksX0_odds_0 19 rfl rfl)
theorem dX0_odds_20 : decode cX0_odds 20 = .ok (.lstore 4, 2) := dk_55 4 (dk_at dksX0_odds_0 20 rfl rfl)
theorem dX0_odds_22 : decode cX0_odds 22 = .ok (.iconst 0, 1) := dk_3 (dk_at dksX0_odds_0 22 rfl rfl)
theorem dX0_odds_23 : decode cX0_odds 23 = .ok (.istore 6, 2) := dk_54 6 (dk_at dksX0_odds_1 0 rfl rfl)
theorem dX0_odds_25 : decode cX0_odds 25 = .ok (.iload 6, 2) := dk_21 6 (dk_at dksX0_odds_1 2 rfl rfl)
theorem dX0_odds_27 : decode cX0_odds 27 = .ok (.aload_n 0, 1) := dk_42 (dk_at dksX0_odds_1 4 rfl rfl)
theorem dX0_odds_28 : decode cX0_odds 28 = .ok (.getfield 30, 3) := dk_180 0 30 (dk_at dksX0_odds_1 5 rfl rfl)
theorem dX0_odds_31 : decode cX0_odds 31 = .ok (.getfield 93, 3) := dk_180 0 93 (dk_at dksX0_odds_1 8 rfl rfl)
theorem dX0_odds_34 : decode cX0_odds 34 = .ok (.if_icmp .ge 17, 3) := dk_162 0 17 (dk_at dksX0_odds_1 11 rfl rfl)
theorem dX0_odds_37 : decode cX0_odds 37 = .ok (.lload 4, 2) := dk_22 4 (dk_at dksX0_odds_1 14 rfl rfl)
theorem dX0_odds_39 : decode cX0_odds 39 = .ok (.ldc2_w 308, 3) := dk_20 1 52 (dk_at dksX0_odds_1 16 rfl rfl)
theorem dX0_odds_42 : decode cX0_odds 42 = .ok (.lmul, 1) := dk_105 (dk_at dksX0_odds_1 19 rfl rfl)
theorem dX0_odds_43 : decode cX0_odds 43 = .ok (.lstore 4, 2) := dk_55 4 (dk_at dksX0_odds_1 20 rfl rfl)
theorem dX0_odds_45 : decode cX0_odds 45 = .ok (.iinc 6 1, 3) := dk_132 6 1 (dk_at dksX0_odds_2 0 rfl rfl)
theorem dX0_odds_48 : decode cX0_odds 48 = .ok (.goto (-23), 3) := dk_167 255 233 (dk_at dksX0_odds_2 3 rfl rfl)
theorem dX0_odds_51 : decode cX0_odds 51 = .ok (.iconst 0, 1) := dk_3 (dk_at dksX0_odds_2 6 rfl rfl)
theorem dX0_odds_52 : decode cX0_odds 52 = .ok (.istore 6, 2) := dk_54 6 (dk_at dksX0_odds_2 7 rfl rfl)
theorem dX0_odds_54 : decode cX0_odds 54 = .ok (.iload 6, 2) := dk_21 6 (dk_at dksX0_odds_2 9 rfl rfl)
theorem dX0_odds_56 : decode cX0_odds 56 = .ok (.aload_n 0, 1) := dk_42 (dk_at dksX0_odds_2 11 rfl rfl)
theorem dX0_odds_57 : decode cX0_odds 57 = .ok (.invokevirtual 269, 3) := dk_182 1 13 (dk_at dksX0_odds_2 12 rfl rfl)
theorem dX0_odds_60 : decode cX0_odds 60 = .ok (.if_icmp .gt 86, 3) := dk_163 0 86 (dk_at dksX0_odds_2 15 rfl rfl)
theorem dX0_odds_63 : decode cX0_odds 63 = .ok (.lconst 1, 1) := dk_10 (dk_at dksX0_odds_2 18 rfl rfl)
theorem dX0_odds_64 : decode cX0_odds 64 = .ok (.lstore 7, 2) := dk_55 7 (dk_at dksX0_odds_2 19 rfl rfl)
theorem dX0_odds_66 : decode cX0_odds 66 = .ok (.iconst 0, 1) := dk_3 (dk_at dksX0_odds_2 21 rfl rfl)
theorem dX0_odds_67 : decode cX0_odds 67 = .ok (.istore 9, 2) := dk_54 9 (dk_at dksX0_odds_2 22 rfl rfl)
theorem dX0_odds_69 : decode cX0_odds 69 = .ok (.iload 9, 2) := dk_21 9 (dk_at dksX0_odds_3 0 rfl rfl)
theorem dX0_odds_71 : decode cX0_odds 71 = .ok (.aload_n 0, 1) := dk_42 (dk_at dksX0_odds_3 2 rfl rfl)
theorem dX0_odds_72 : decode cX0_odds 72 = .ok (.getfield 30, 3) := dk_180 0 30 (dk_at dksX0_odds_3 3 rfl rfl)
theorem dX0_odds_75 : decode cX0_odds 75 = .ok (.getfield 93, 3) := dk_180 0 93 (dk_at dksX0_odds_3 6 rfl rfl)
theorem dX0_odds_78 : decode cX0_odds 78 = .ok (.if_icmp .ge 35, 3) := dk_162 0 35 (dk_at dksX0_odds_3 9 rfl rfl)
theorem dX0_odds_81 : decode cX0_odds 81 = .ok (.lload 7, 2) := dk_22 7 (dk_at dksX0_odds_3 12 rfl rfl)
theorem dX0_odds_83 : decode cX0_odds 83 = .ok (.iload 6, 2) := dk_21 6 (dk_at dksX0_odds_3 14 rfl rfl)
theorem dX0_odds_85 : decode cX0_odds 85 = .ok (.iload 9, 2) := dk_21 9 (dk_at dksX0_odds_3 16 rfl rfl)
theorem dX0_odds_87 : decode cX0_odds 87 = .ok (.ishr, 1) := dk_122 (dk_at dksX0_odds_3 18 rfl rfl)
theorem dX0_odds_88 : decode cX0_odds 88 = .ok (.iconst 1, 1) := dk_4 (dk_at dksX0_odds_3 19 rfl rfl)
theorem dX0_odds_89 : decode cX0_odds 89 = .ok (.iand, 1) := dk_126 (dk_at dksX0_odds_3 20 rfl rfl)
theorem dX0_odds_90 : decode cX0_odds 90 = .ok (.iconst 1, 1) := dk_4 (dk_at dksX0_odds_3 21 rfl rfl)
theorem dX0_odds_91 : decode cX0_odds 91 = .ok (.if_icmp .ne 8, 3) := dk_160 0 8 (dk_at dksX0_odds_4 0 rfl rfl)
theorem dX0_odds_94 : decode cX0_odds 94 = .ok (.iload_n 1, 1) := dk_27 (dk_at dksX0_odds_4 3 rfl rfl)
theorem dX0_odds_95 : decode cX0_odds 95 = .ok (.i2l, 1) := dk_133 (dk_at dksX0_odds_4 4 rfl rfl)
theorem dX0_odds_96 : decode cX0_odds 96 = .ok (.goto 8, 3) := dk_167 0 8 (dk_at dksX0_odds_4 5 rfl rfl)
theorem dX0_odds_99 : decode cX0_odds 99 = .ok (.bipush 10, 2) := dk_16 10 (dk_at dksX0_odds_4 8 rfl rfl)
theorem dX0_odds_101 : decode cX0_odds 101 = .ok (.iload_n 1, 1) := dk_27 (dk_at dksX0_odds_4 10 rfl rfl)
theorem dX0_odds_102 : decode cX0_odds 102 = .ok (.isub, 1) := dk_100 (dk_at dksX0_odds_4 11 rfl rfl)
theorem dX0_odds_103 : decode cX0_odds 103 = .ok (.i2l, 1) := dk_133 (dk_at dksX0_odds_4 12 rfl rfl)
theorem dX0_odds_104 : decode cX0_odds 104 = .ok (.lmul, 1) := dk_105 (dk_at dksX0_odds_4 13 rfl rfl)
theorem dX0_odds_105 : decode cX0_odds 105 = .ok (.lstore 7, 2) := dk_55 7 (dk_at dksX0_odds_4 14 rfl rfl)
theorem dX0_odds_107 : decode cX0_odds 107 = .ok (.iinc 9 1, 3) := dk_132 9 1 (dk_at dksX0_odds_4 16 rfl rfl)
theorem dX0_odds_110 : decode cX0_odds 110 = .ok (.goto (-41), 3) := dk_167 255 215 (dk_at dksX0_odds_4 19 rfl rfl)
theorem dX0_odds_113 : decode cX0_odds 113 = .ok (.aload_n 0, 1) := dk_42 (dk_at dksX0_odds_4 22 rfl rfl)
theorem dX0_odds_114 : decode cX0_odds 114 = .ok (.iload 6, 2) := dk_21 6 (dk_at dksX0_odds_5 0 rfl rfl)
theorem dX0_odds_116 : decode cX0_odds 116 = .ok (.aload_n 0, 1) := dk_42 (dk_at dksX0_odds_5 2 rfl rfl)
theorem dX0_odds_117 : decode cX0_odds 117 = .ok (.getfield 30, 3) := dk_180 0 30 (dk_at dksX0_odds_5 3 rfl rfl)
theorem dX0_odds_120 : decode cX0_odds 120 = .ok (.getfield 160, 3) := dk_180 0 160 (dk_at dksX0_odds_5 6 rfl rfl)
theorem dX0_odds_123 : decode cX0_odds 123 = .ok (.getfield 208, 3) := dk_180 0 208 (dk_at dksX0_odds_5 9 rfl rfl)
theorem dX0_odds_126 : decode cX0_odds 126 = .ok (.invokevirtual 272, 3) := dk_182 1 16 (dk_at dksX0_odds_5 12 rfl rfl)
theorem dX0_odds_129 : decode cX0_odds 129 = .ok (.lload_n 2, 1) := dk_32 (dk_at dksX0_odds_5 15 rfl rfl)
theorem dX0_odds_130 : decode cX0_odds 130 = .ok (.lload 7, 2) := dk_22 7 (dk_at dksX0_odds_5 16 rfl rfl)
theorem dX0_odds_132 : decode cX0_odds 132 = .ok (.aload_n 0, 1) := dk_42 (dk_at dksX0_odds_5 18 rfl rfl)
theorem dX0_odds_133 : decode cX0_odds 133 = .ok (.getfield 264, 3) := dk_180 1 8 (dk_at dksX0_odds_5 19 rfl rfl)
theorem dX0_odds_136 : decode cX0_odds 136 = .ok (.i2l, 1) := dk_133 (dk_at dksX0_odds_5 22 rfl rfl)
theorem dX0_odds_137 : decode cX0_odds 137 = .ok (.lmul, 1) := dk_105 (dk_at dksX0_odds_5 23 rfl rfl)
theorem dX0_odds_138 : decode cX0_odds 138 = .ok (.ladd, 1) := dk_97 (dk_at dksX0_odds_6 0 rfl rfl)
theorem dX0_odds_139 : decode cX0_odds 139 = .ok (.lstore_n 2, 1) := dk_65 (dk_at dksX0_odds_6 1 rfl rfl)
theorem dX0_odds_140 : decode cX0_odds 140 = .ok (.iinc 6 1, 3) := dk_132 6 1 (dk_at dksX0_odds_6 2 rfl rfl)
theorem dX0_odds_143 : decode cX0_odds 143 = .ok (.goto (-89), 3) := dk_167 255 167 (dk_at dksX0_odds_6 5 rfl rfl)
theorem dX0_odds_146 : decode cX0_odds 146 = .ok (.lload_n 2, 1) := dk_32 (dk_at dksX0_odds_6 8 rfl rfl)
theorem dX0_odds_147 : decode cX0_odds 147 = .ok (.lload 4, 2) := dk_22 4 (dk_at dksX0_odds_6 9 rfl rfl)
theorem dX0_odds_149 : decode cX0_odds 149 = .ok (.invokestatic 310, 3) := dk_184 1 54 (dk_at dksX0_odds_6 11 rfl rfl)
theorem dX0_odds_152 : decode cX0_odds 152 = .ok (.lstore 6, 2) := dk_55 6 (dk_at dksX0_odds_6 14 rfl rfl)
theorem dX0_odds_154 : decode cX0_odds 154 = .ok (.aload_n 0, 1) := dk_42 (dk_at dksX0_odds_6 16 rfl rfl)
theorem dX0_odds_155 : decode cX0_odds 155 = .ok (.lload_n 2, 1) := dk_32 (dk_at dksX0_odds_6 17 rfl rfl)
theorem dX0_odds_156 : decode cX0_odds 156 = .ok (.lload 6, 2) := dk_22 6 (dk_at dksX0_odds_6 18 rfl rfl)
theorem dX0_odds_158 : decode cX0_odds 158 = .ok (.ldiv, 1) := dk_109 (dk_at dksX0_odds_6 20 rfl rfl)
theorem dX0_odds_159 : decode cX0_odds 159 = .ok (.putfield 314, 3) := dk_181 1 58 (dk_at dksX0_odds_6 21 rfl rfl)
theorem dX0_odds_162 : decode cX0_odds 162 = .ok (.aload_n 0, 1) := dk_42 (dk_at dksX0_odds_7 0 rfl rfl)
theorem dX0_odds_163 : decode cX0_odds 163 = .ok (.lload 4, 2) := dk_22 4 (dk_at dksX0_odds_7 1 rfl rfl)
theorem dX0_odds_165 : decode cX0_odds 165 = .ok (.lload 6, 2) := dk_22 6 (dk_at dksX0_odds_7 3 rfl rfl)
theorem dX0_odds_167 : decode cX0_odds 167 = .ok (.ldiv, 1) := dk_109 (dk_at dksX0_odds_7 5 rfl rfl)
theorem dX0_odds_168 : decode cX0_odds 168 = .ok (.putfield 51, 3) := dk_181 0 51 (dk_at dksX0_odds_7 6 rfl rfl)
theorem dX0_odds_171 : decode cX0_odds 171 = .ok (.iconst 1, 1) := dk_4 (dk_at dksX0_odds_7 9 rfl rfl)
theorem dX0_odds_172 : decode cX0_odds 172 = .ok (.ireturn, 1) := dk_172 (dk_at dksX0_odds_7 10 rfl rfl)
abbrev cX0_divisor : ByteArray := prog_1_method_44_code
def yX0_divisor : MethodName := ⟨RX0, "divisor", "(JJ)J"⟩
def dkwX0_divisor_1 : List UInt8 := [22, 8, 55, 6, 167, 255, 234, 22, 4, 173]
abbrev dktX0_divisor_1 : List UInt8 := dkwX0_divisor_1 ++ []
def dkwX0_divisor_0 : List UInt8 := [30, 55, 4, 32, 55, 6, 22, 6, 9, 148, 153, 0, 21, 22, 4, 22, 6, 113, 55, 8, 22, 6, 55, 4]
abbrev dktX0_divisor_0 : List UInt8 := dkwX0_divisor_0 ++ dktX0_divisor_1
theorem dksX0_divisor_0 : cX0_divisor.data.toList.drop 0 = dktX0_divisor_0 := by decide +kernel
theorem dksX0_divisor_1 : cX0_divisor.data.toList.drop 24 = dktX0_divisor_1 := dk_seg dksX0_divisor_0 24 rfl rfl
theorem dX0_divisor_0 : decode cX0_divisor 0 = .ok (.lload_n 0, 1) := dk_30 (dk_at dksX0_divisor_0 0 rfl rfl)
theorem dX0_divisor_1 : decode cX0_divisor 1 = .ok (.lstore 4, 2) := dk_55 4 (dk_at dksX0_divisor_0 1 rfl rfl)
theorem dX0_divisor_3 : decode cX0_divisor 3 = .ok (.lload_n 2, 1) := dk_32 (dk_at dksX0_divisor_0 3 rfl rfl)
theorem dX0_divisor_4 : decode cX0_divisor 4 = .ok (.lstore 6, 2) := dk_55 6 (dk_at dksX0_divisor_0 4 rfl rfl)
theorem dX0_divisor_6 : decode cX0_divisor 6 = .ok (.lload 6, 2) := dk_22 6 (dk_at dksX0_divisor_0 6 rfl rfl)
theorem dX0_divisor_8 : decode cX0_divisor 8 = .ok (.lconst 0, 1) := dk_9 (dk_at dksX0_divisor_0 8 rfl rfl)
theorem dX0_divisor_9 : decode cX0_divisor 9 = .ok (.lcmp, 1) := dk_148 (dk_at dksX0_divisor_0 9 rfl rfl)
theorem dX0_divisor_10 : decode cX0_divisor 10 = .ok (.ifCond .eq 21, 3) := dk_153 0 21 (dk_at dksX0_divisor_0 10 rfl rfl)
theorem dX0_divisor_13 : decode cX0_divisor 13 = .ok (.lload 4, 2) := dk_22 4 (dk_at dksX0_divisor_0 13 rfl rfl)
theorem dX0_divisor_15 : decode cX0_divisor 15 = .ok (.lload 6, 2) := dk_22 6 (dk_at dksX0_divisor_0 15 rfl rfl)
theorem dX0_divisor_17 : decode cX0_divisor 17 = .ok (.lrem, 1) := dk_113 (dk_at dksX0_divisor_0 17 rfl rfl)
theorem dX0_divisor_18 : decode cX0_divisor 18 = .ok (.lstore 8, 2) := dk_55 8 (dk_at dksX0_divisor_0 18 rfl rfl)
theorem dX0_divisor_20 : decode cX0_divisor 20 = .ok (.lload 6, 2) := dk_22 6 (dk_at dksX0_divisor_0 20 rfl rfl)
theorem dX0_divisor_22 : decode cX0_divisor 22 = .ok (.lstore 4, 2) := dk_55 4 (dk_at dksX0_divisor_0 22 rfl rfl)
theorem dX0_divisor_24 : decode cX0_divisor 24 = .ok (.lload 8, 2) := dk_22 8 (dk_at dksX0_divisor_1 0 rfl rfl)
theorem dX0_divisor_26 : decode cX0_divisor 26 = .ok (.lstore 6, 2) := dk_55 6 (dk_at dksX0_divisor_1 2 rfl rfl)
theorem dX0_divisor_28 : decode cX0_divisor 28 = .ok (.goto (-22), 3) := dk_167 255 234 (dk_at dksX0_divisor_1 4 rfl rfl)
theorem dX0_divisor_31 : decode cX0_divisor 31 = .ok (.lload 4, 2) := dk_22 4 (dk_at dksX0_divisor_1 7 rfl rfl)
theorem dX0_divisor_33 : decode cX0_divisor 33 = .ok (.lreturn, 1) := dk_173 (dk_at dksX0_divisor_1 9 rfl rfl)
abbrev cX0_drawn : ByteArray := prog_1_method_46_code
def yX0_drawn : MethodName := ⟨RX0, "drawn", "(III)I"⟩
def dkwX0_drawn_6 : List UInt8 := [182, 1, 16, 21, 6, 42, 180, 1, 5, 96, 54, 6, 132, 7, 1, 167, 255, 150, 21, 6, 172]
abbrev dktX0_drawn_6 : List UInt8 := dkwX0_drawn_6 ++ []
def dkwX0_drawn_5 : List UInt8 := [54, 8, 132, 9, 1, 167, 255, 196, 42, 21, 8, 42, 180, 0, 30, 180, 0, 160, 180, 0, 208, 21, 7, 96]
abbrev dktX0_drawn_5 : List UInt8 := dkwX0_drawn_5 ++ dktX0_drawn_6
def dkwX0_drawn_4 : List UInt8 := [20, 1, 73, 109, 20, 1, 65, 113, 29, 133, 148, 156, 0, 10, 4, 21, 9, 120, 167, 0, 4, 3, 128]
abbrev dktX0_drawn_4 : List UInt8 := dkwX0_drawn_4 ++ dktX0_drawn_5
def dkwX0_drawn_3 : List UInt8 := [162, 0, 54, 22, 4, 20, 1, 67, 105, 20, 1, 69, 97, 20, 1, 71, 113, 55, 4, 21, 8, 22, 4]
abbrev dktX0_drawn_3 : List UInt8 := dkwX0_drawn_3 ++ dktX0_drawn_4
def dkwX0_drawn_2 : List UInt8 := [3, 54, 7, 21, 7, 28, 162, 0, 106, 3, 54, 8, 3, 54, 9, 21, 9, 42, 180, 0, 30, 180, 0, 93]
abbrev dktX0_drawn_2 : List UInt8 := dkwX0_drawn_2 ++ dktX0_drawn_3
def dkwX0_drawn_1 : List UInt8 := [29, 133, 9, 20, 1, 65, 184, 0, 89, 154, 0, 8, 42, 182, 0, 110, 172, 27, 133, 55, 4, 3, 54, 6]
abbrev dktX0_drawn_1 : List UInt8 := dkwX0_drawn_1 ++ dktX0_drawn_2
def dkwX0_drawn_0 : List UInt8 := [27, 133, 9, 20, 1, 61, 184, 0, 89, 153, 0, 27, 28, 133, 9, 20, 1, 63, 184, 0, 89, 153, 0, 15]
abbrev dktX0_drawn_0 : List UInt8 := dkwX0_drawn_0 ++ dktX0_drawn_1
theorem dksX0_drawn_0 : cX0_drawn.data.toList.drop 0 = dktX0_drawn_0 := by decide +kernel
theorem dksX0_drawn_1 : cX0_drawn.data.toList.drop 24 = dktX0_drawn_1 := dk_seg dksX0_drawn_0 24 rfl rfl
theorem dksX0_drawn_2 : cX0_drawn.data.toList.drop 48 = dktX0_drawn_2 := dk_seg dksX0_drawn_1 24 rfl rfl
theorem dksX0_drawn_3 : cX0_drawn.data.toList.drop 72 = dktX0_drawn_3 := dk_seg dksX0_drawn_2 24 rfl rfl
theorem dksX0_drawn_4 : cX0_drawn.data.toList.drop 95 = dktX0_drawn_4 := dk_seg dksX0_drawn_3 23 rfl rfl
theorem dksX0_drawn_5 : cX0_drawn.data.toList.drop 118 = dktX0_drawn_5 := dk_seg dksX0_drawn_4 23 rfl rfl
theorem dksX0_drawn_6 : cX0_drawn.data.toList.drop 142 = dktX0_drawn_6 := dk_seg dksX0_drawn_5 24 rfl rfl
theorem dX0_drawn_0 : decode cX0_drawn 0 = .ok (.iload_n 1, 1) := dk_27 (dk_at dksX0_drawn_0 0 rfl rfl)
theorem dX0_drawn_1 : decode cX0_drawn 1 = .ok (.i2l, 1) := dk_133 (dk_at dksX0_drawn_0 1 rfl rfl)
theorem dX0_drawn_2 : decode cX0_drawn 2 = .ok (.lconst 0, 1) := dk_9 (dk_at dksX0_drawn_0 2 rfl rfl)
theorem dX0_drawn_3 : decode cX0_drawn 3 = .ok (.ldc2_w 317, 3) := dk_20 1 61 (dk_at dksX0_drawn_0 3 rfl rfl)
theorem dX0_drawn_6 : decode cX0_drawn 6 = .ok (.invokestatic 89, 3) := dk_184 0 89 (dk_at dksX0_drawn_0 6 rfl rfl)
theorem dX0_drawn_9 : decode cX0_drawn 9 = .ok (.ifCond .eq 27, 3) := dk_153 0 27 (dk_at dksX0_drawn_0 9 rfl rfl)
theorem dX0_drawn_12 : decode cX0_drawn 12 = .ok (.iload_n 2, 1) := dk_28 (dk_at dksX0_drawn_0 12 rfl rfl)
theorem dX0_drawn_13 : decode cX0_drawn 13 = .ok (.i2l, 1) := dk_133 (dk_at dksX0_drawn_0 13 rfl rfl)
theorem dX0_drawn_14 : decode cX0_drawn 14 = .ok (.lconst 0, 1) := dk_9 (dk_at dksX0_drawn_0 14 rfl rfl)
theorem dX0_drawn_15 : decode cX0_drawn 15 = .ok (.ldc2_w 319, 3) := dk_20 1 63 (dk_at dksX0_drawn_0 15 rfl rfl)
theorem dX0_drawn_18 : decode cX0_drawn 18 = .ok (.invokestatic 89, 3) := dk_184 0 89 (dk_at dksX0_drawn_0 18 rfl rfl)
theorem dX0_drawn_21 : decode cX0_drawn 21 = .ok (.ifCond .eq 15, 3) := dk_153 0 15 (dk_at dksX0_drawn_0 21 rfl rfl)
theorem dX0_drawn_24 : decode cX0_drawn 24 = .ok (.iload_n 3, 1) := dk_29 (dk_at dksX0_drawn_1 0 rfl rfl)
theorem dX0_drawn_25 : decode cX0_drawn 25 = .ok (.i2l, 1) := dk_133 (dk_at dksX0_drawn_1 1 rfl rfl)
theorem dX0_drawn_26 : decode cX0_drawn 26 = .ok (.lconst 0, 1) := dk_9 (dk_at dksX0_drawn_1 2 rfl rfl)
theorem dX0_drawn_27 : decode cX0_drawn 27 = .ok (.ldc2_w 321, 3) := dk_20 1 65 (dk_at dksX0_drawn_1 3 rfl rfl)
theorem dX0_drawn_30 : decode cX0_drawn 30 = .ok (.invokestatic 89, 3) := dk_184 0 89 (dk_at dksX0_drawn_1 6 rfl rfl)
theorem dX0_drawn_33 : decode cX0_drawn 33 = .ok (.ifCond .ne 8, 3) := dk_154 0 8 (dk_at dksX0_drawn_1 9 rfl rfl)
theorem dX0_drawn_36 : decode cX0_drawn 36 = .ok (.aload_n 0, 1) := dk_42 (dk_at dksX0_drawn_1 12 rfl rfl)
theorem dX0_drawn_37 : decode cX0_drawn 37 = .ok (.invokevirtual 110, 3) := dk_182 0 110 (dk_at dksX0_drawn_1 13 rfl rfl)
theorem dX0_drawn_40 : decode cX0_drawn 40 = .ok (.ireturn, 1) := dk_172 (dk_at dksX0_drawn_1 16 rfl rfl)
theorem dX0_drawn_41 : decode cX0_drawn 41 = .ok (.iload_n 1, 1) := dk_27 (dk_at dksX0_drawn_1 17 rfl rfl)
theorem dX0_drawn_42 : decode cX0_drawn 42 = .ok (.i2l, 1) := dk_133 (dk_at dksX0_drawn_1 18 rfl rfl)
theorem dX0_drawn_43 : decode cX0_drawn 43 = .ok (.lstore 4, 2) := dk_55 4 (dk_at dksX0_drawn_1 19 rfl rfl)
theorem dX0_drawn_45 : decode cX0_drawn 45 = .ok (.iconst 0, 1) := dk_3 (dk_at dksX0_drawn_1 21 rfl rfl)
theorem dX0_drawn_46 : decode cX0_drawn 46 = .ok (.istore 6, 2) := dk_54 6 (dk_at dksX0_drawn_1 22 rfl rfl)
theorem dX0_drawn_48 : decode cX0_drawn 48 = .ok (.iconst 0, 1) := dk_3 (dk_at dksX0_drawn_2 0 rfl rfl)
theorem dX0_drawn_49 : decode cX0_drawn 49 = .ok (.istore 7, 2) := dk_54 7 (dk_at dksX0_drawn_2 1 rfl rfl)
theorem dX0_drawn_51 : decode cX0_drawn 51 = .ok (.iload 7, 2) := dk_21 7 (dk_at dksX0_drawn_2 3 rfl rfl)
theorem dX0_drawn_53 : decode cX0_drawn 53 = .ok (.iload_n 2, 1) := dk_28 (dk_at dksX0_drawn_2 5 rfl rfl)
theorem dX0_drawn_54 : decode cX0_drawn 54 = .ok (.if_icmp .ge 106, 3) := dk_162 0 106 (dk_at dksX0_drawn_2 6 rfl rfl)
theorem dX0_drawn_57 : decode cX0_drawn 57 = .ok (.iconst 0, 1) := dk_3 (dk_at dksX0_drawn_2 9 rfl rfl)
theorem dX0_drawn_58 : decode cX0_drawn 58 = .ok (.istore 8, 2) := dk_54 8 (dk_at dksX0_drawn_2 10 rfl rfl)
theorem dX0_drawn_60 : decode cX0_drawn 60 = .ok (.iconst 0, 1) := dk_3 (dk_at dksX0_drawn_2 12 rfl rfl)
theorem dX0_drawn_61 : decode cX0_drawn 61 = .ok (.istore 9, 2) := dk_54 9 (dk_at dksX0_drawn_2 13 rfl rfl)
theorem dX0_drawn_63 : decode cX0_drawn 63 = .ok (.iload 9, 2) := dk_21 9 (dk_at dksX0_drawn_2 15 rfl rfl)
theorem dX0_drawn_65 : decode cX0_drawn 65 = .ok (.aload_n 0, 1) := dk_42 (dk_at dksX0_drawn_2 17 rfl rfl)
theorem dX0_drawn_66 : decode cX0_drawn 66 = .ok (.getfield 30, 3) := dk_180 0 30 (dk_at dksX0_drawn_2 18 rfl rfl)
theorem dX0_drawn_69 : decode cX0_drawn 69 = .ok (.getfield 93, 3) := dk_180 0 93 (dk_at dksX0_drawn_2 21 rfl rfl)
theorem dX0_drawn_72 : decode cX0_drawn 72 = .ok (.if_icmp .ge 54, 3) := dk_162 0 54 (dk_at dksX0_drawn_3 0 rfl rfl)
theorem dX0_drawn_75 : decode cX0_drawn 75 = .ok (.lload 4, 2) := dk_22 4 (dk_at dksX0_drawn_3 3 rfl rfl)
theorem dX0_drawn_77 : decode cX0_drawn 77 = .ok (.ldc2_w 323, 3) := dk_20 1 67 (dk_at dksX0_drawn_3 5 rfl rfl)
theorem dX0_drawn_80 : decode cX0_drawn 80 = .ok (.lmul, 1) := dk_105 (dk_at dksX0_drawn_3 8 rfl rfl)
theorem dX0_drawn_81 : decode cX0_drawn 81 = .ok (.ldc2_w 325, 3) := dk_20 1 69 (dk_at dksX0_drawn_3 9 rfl rfl)
theorem dX0_drawn_84 : decode cX0_drawn 84 = .ok (.ladd, 1) := dk_97 (dk_at dksX0_drawn_3 12 rfl rfl)
theorem dX0_drawn_85 : decode cX0_drawn 85 = .ok (.ldc2_w 327, 3) := dk_20 1 71 (dk_at dksX0_drawn_3 13 rfl rfl)
theorem dX0_drawn_88 : decode cX0_drawn 88 = .ok (.lrem, 1) := dk_113 (dk_at dksX0_drawn_3 16 rfl rfl)
theorem dX0_drawn_89 : decode cX0_drawn 89 = .ok (.lstore 4, 2) := dk_55 4 (dk_at dksX0_drawn_3 17 rfl rfl)
theorem dX0_drawn_91 : decode cX0_drawn 91 = .ok (.iload 8, 2) := dk_21 8 (dk_at dksX0_drawn_3 19 rfl rfl)
theorem dX0_drawn_93 : decode cX0_drawn 93 = .ok (.lload 4, 2) := dk_22 4 (dk_at dksX0_drawn_3 21 rfl rfl)
theorem dX0_drawn_95 : decode cX0_drawn 95 = .ok (.ldc2_w 329, 3) := dk_20 1 73 (dk_at dksX0_drawn_4 0 rfl rfl)
theorem dX0_drawn_98 : decode cX0_drawn 98 = .ok (.ldiv, 1) := dk_109 (dk_at dksX0_drawn_4 3 rfl rfl)
theorem dX0_drawn_99 : decode cX0_drawn 99 = .ok (.ldc2_w 321, 3) := dk_20 1 65 (dk_at dksX0_drawn_4 4 rfl rfl)
theorem dX0_drawn_102 : decode cX0_drawn 102 = .ok (.lrem, 1) := dk_113 (dk_at dksX0_drawn_4 7 rfl rfl)
theorem dX0_drawn_103 : decode cX0_drawn 103 = .ok (.iload_n 3, 1) := dk_29 (dk_at dksX0_drawn_4 8 rfl rfl)
theorem dX0_drawn_104 : decode cX0_drawn 104 = .ok (.i2l, 1) := dk_133 (dk_at dksX0_drawn_4 9 rfl rfl)
theorem dX0_drawn_105 : decode cX0_drawn 105 = .ok (.lcmp, 1) := dk_148 (dk_at dksX0_drawn_4 10 rfl rfl)
theorem dX0_drawn_106 : decode cX0_drawn 106 = .ok (.ifCond .ge 10, 3) := dk_156 0 10 (dk_at dksX0_drawn_4 11 rfl rfl)
theorem dX0_drawn_109 : decode cX0_drawn 109 = .ok (.iconst 1, 1) := dk_4 (dk_at dksX0_drawn_4 14 rfl rfl)
theorem dX0_drawn_110 : decode cX0_drawn 110 = .ok (.iload 9, 2) := dk_21 9 (dk_at dksX0_drawn_4 15 rfl rfl)
theorem dX0_drawn_112 : decode cX0_drawn 112 = .ok (.ishl, 1) := dk_120 (dk_at dksX0_drawn_4 17 rfl rfl)
theorem dX0_drawn_113 : decode cX0_drawn 113 = .ok (.goto 4, 3) := dk_167 0 4 (dk_at dksX0_drawn_4 18 rfl rfl)
theorem dX0_drawn_116 : decode cX0_drawn 116 = .ok (.iconst 0, 1) := dk_3 (dk_at dksX0_drawn_4 21 rfl rfl)
theorem dX0_drawn_117 : decode cX0_drawn 117 = .ok (.ior, 1) := dk_128 (dk_at dksX0_drawn_4 22 rfl rfl)
theorem dX0_drawn_118 : decode cX0_drawn 118 = .ok (.istore 8, 2) := dk_54 8 (dk_at dksX0_drawn_5 0 rfl rfl)
theorem dX0_drawn_120 : decode cX0_drawn 120 = .ok (.iinc 9 1, 3) := dk_132 9 1 (dk_at dksX0_drawn_5 2 rfl rfl)
theorem dX0_drawn_123 : decode cX0_drawn 123 = .ok (.goto (-60), 3) := dk_167 255 196 (dk_at dksX0_drawn_5 5 rfl rfl)
theorem dX0_drawn_126 : decode cX0_drawn 126 = .ok (.aload_n 0, 1) := dk_42 (dk_at dksX0_drawn_5 8 rfl rfl)
theorem dX0_drawn_127 : decode cX0_drawn 127 = .ok (.iload 8, 2) := dk_21 8 (dk_at dksX0_drawn_5 9 rfl rfl)
theorem dX0_drawn_129 : decode cX0_drawn 129 = .ok (.aload_n 0, 1) := dk_42 (dk_at dksX0_drawn_5 11 rfl rfl)
theorem dX0_drawn_130 : decode cX0_drawn 130 = .ok (.getfield 30, 3) := dk_180 0 30 (dk_at dksX0_drawn_5 12 rfl rfl)
theorem dX0_drawn_133 : decode cX0_drawn 133 = .ok (.getfield 160, 3) := dk_180 0 160 (dk_at dksX0_drawn_5 15 rfl rfl)
theorem dX0_drawn_136 : decode cX0_drawn 136 = .ok (.getfield 208, 3) := dk_180 0 208 (dk_at dksX0_drawn_5 18 rfl rfl)
theorem dX0_drawn_139 : decode cX0_drawn 139 = .ok (.iload 7, 2) := dk_21 7 (dk_at dksX0_drawn_5 21 rfl rfl)
theorem dX0_drawn_141 : decode cX0_drawn 141 = .ok (.iadd, 1) := dk_96 (dk_at dksX0_drawn_5 23 rfl rfl)
theorem dX0_drawn_142 : decode cX0_drawn 142 = .ok (.invokevirtual 272, 3) := dk_182 1 16 (dk_at dksX0_drawn_6 0 rfl rfl)
theorem dX0_drawn_145 : decode cX0_drawn 145 = .ok (.iload 6, 2) := dk_21 6 (dk_at dksX0_drawn_6 3 rfl rfl)
theorem dX0_drawn_147 : decode cX0_drawn 147 = .ok (.aload_n 0, 1) := dk_42 (dk_at dksX0_drawn_6 5 rfl rfl)
theorem dX0_drawn_148 : decode cX0_drawn 148 = .ok (.getfield 261, 3) := dk_180 1 5 (dk_at dksX0_drawn_6 6 rfl rfl)
theorem dX0_drawn_151 : decode cX0_drawn 151 = .ok (.iadd, 1) := dk_96 (dk_at dksX0_drawn_6 9 rfl rfl)
theorem dX0_drawn_152 : decode cX0_drawn 152 = .ok (.istore 6, 2) := dk_54 6 (dk_at dksX0_drawn_6 10 rfl rfl)
theorem dX0_drawn_154 : decode cX0_drawn 154 = .ok (.iinc 7 1, 3) := dk_132 7 1 (dk_at dksX0_drawn_6 12 rfl rfl)
theorem dX0_drawn_157 : decode cX0_drawn 157 = .ok (.goto (-106), 3) := dk_167 255 150 (dk_at dksX0_drawn_6 15 rfl rfl)
theorem dX0_drawn_160 : decode cX0_drawn 160 = .ok (.iload 6, 2) := dk_21 6 (dk_at dksX0_drawn_6 18 rfl rfl)
theorem dX0_drawn_162 : decode cX0_drawn 162 = .ok (.ireturn, 1) := dk_172 (dk_at dksX0_drawn_6 20 rfl rfl)
abbrev cX0_part : ByteArray := prog_1_method_47_code
def yX0_part : MethodName := ⟨RX0, "part", "(I)J"⟩
def dkwX0_part_1 : List UInt8 := [182, 0, 110, 133, 173]
abbrev dktX0_part_1 : List UInt8 := dkwX0_part_1 ++ []
def dkwX0_part_0 : List UInt8 := [27, 154, 0, 10, 42, 180, 1, 58, 167, 0, 20, 27, 4, 160, 0, 10, 42, 180, 0, 51, 167, 0, 8, 42]
abbrev dktX0_part_0 : List UInt8 := dkwX0_part_0 ++ dktX0_part_1
theorem dksX0_part_0 : cX0_part.data.toList.drop 0 = dktX0_part_0 := by decide +kernel
theorem dksX0_part_1 : cX0_part.data.toList.drop 24 = dktX0_part_1 := dk_seg dksX0_part_0 24 rfl rfl
theorem dX0_part_0 : decode cX0_part 0 = .ok (.iload_n 1, 1) := dk_27 (dk_at dksX0_part_0 0 rfl rfl)
theorem dX0_part_1 : decode cX0_part 1 = .ok (.ifCond .ne 10, 3) := dk_154 0 10 (dk_at dksX0_part_0 1 rfl rfl)
theorem dX0_part_4 : decode cX0_part 4 = .ok (.aload_n 0, 1) := dk_42 (dk_at dksX0_part_0 4 rfl rfl)
theorem dX0_part_5 : decode cX0_part 5 = .ok (.getfield 314, 3) := dk_180 1 58 (dk_at dksX0_part_0 5 rfl rfl)
theorem dX0_part_8 : decode cX0_part 8 = .ok (.goto 20, 3) := dk_167 0 20 (dk_at dksX0_part_0 8 rfl rfl)
theorem dX0_part_11 : decode cX0_part 11 = .ok (.iload_n 1, 1) := dk_27 (dk_at dksX0_part_0 11 rfl rfl)
theorem dX0_part_12 : decode cX0_part 12 = .ok (.iconst 1, 1) := dk_4 (dk_at dksX0_part_0 12 rfl rfl)
theorem dX0_part_13 : decode cX0_part 13 = .ok (.if_icmp .ne 10, 3) := dk_160 0 10 (dk_at dksX0_part_0 13 rfl rfl)
theorem dX0_part_16 : decode cX0_part 16 = .ok (.aload_n 0, 1) := dk_42 (dk_at dksX0_part_0 16 rfl rfl)
theorem dX0_part_17 : decode cX0_part 17 = .ok (.getfield 51, 3) := dk_180 0 51 (dk_at dksX0_part_0 17 rfl rfl)
theorem dX0_part_20 : decode cX0_part 20 = .ok (.goto 8, 3) := dk_167 0 8 (dk_at dksX0_part_0 20 rfl rfl)
theorem dX0_part_23 : decode cX0_part 23 = .ok (.aload_n 0, 1) := dk_42 (dk_at dksX0_part_0 23 rfl rfl)
theorem dX0_part_24 : decode cX0_part 24 = .ok (.invokevirtual 110, 3) := dk_182 0 110 (dk_at dksX0_part_1 0 rfl rfl)
theorem dX0_part_27 : decode cX0_part 27 = .ok (.i2l, 1) := dk_133 (dk_at dksX0_part_1 3 rfl rfl)
theorem dX0_part_28 : decode cX0_part 28 = .ok (.lreturn, 1) := dk_173 (dk_at dksX0_part_1 4 rfl rfl)
abbrev cX0_image : ByteArray := prog_1_method_48_code
def yX0_image : MethodName := ⟨RX0, "image", "(I)I"⟩
def dkwX0_image_2 : List UInt8 := [182, 0, 148, 4, 172]
abbrev dktX0_image_2 : List UInt8 := dkwX0_image_2 ++ []
def dkwX0_image_1 : List UInt8 := [42, 180, 0, 39, 27, 187, 0, 27, 89, 183, 0, 29, 83, 42, 180, 0, 39, 27, 50, 42, 180, 0, 30]
abbrev dktX0_image_1 : List UInt8 := dkwX0_image_1 ++ dktX0_image_2
def dkwX0_image_0 : List UInt8 := [27, 133, 9, 10, 184, 0, 89, 154, 0, 8, 42, 182, 0, 110, 172, 42, 180, 0, 39, 27, 50, 199, 0, 16]
abbrev dktX0_image_0 : List UInt8 := dkwX0_image_0 ++ dktX0_image_1
theorem dksX0_image_0 : cX0_image.data.toList.drop 0 = dktX0_image_0 := by decide +kernel
theorem dksX0_image_1 : cX0_image.data.toList.drop 24 = dktX0_image_1 := dk_seg dksX0_image_0 24 rfl rfl
theorem dksX0_image_2 : cX0_image.data.toList.drop 47 = dktX0_image_2 := dk_seg dksX0_image_1 23 rfl rfl
theorem dX0_image_0 : decode cX0_image 0 = .ok (.iload_n 1, 1) := dk_27 (dk_at dksX0_image_0 0 rfl rfl)
theorem dX0_image_1 : decode cX0_image 1 = .ok (.i2l, 1) := dk_133 (dk_at dksX0_image_0 1 rfl rfl)
theorem dX0_image_2 : decode cX0_image 2 = .ok (.lconst 0, 1) := dk_9 (dk_at dksX0_image_0 2 rfl rfl)
theorem dX0_image_3 : decode cX0_image 3 = .ok (.lconst 1, 1) := dk_10 (dk_at dksX0_image_0 3 rfl rfl)
theorem dX0_image_4 : decode cX0_image 4 = .ok (.invokestatic 89, 3) := dk_184 0 89 (dk_at dksX0_image_0 4 rfl rfl)
theorem dX0_image_7 : decode cX0_image 7 = .ok (.ifCond .ne 8, 3) := dk_154 0 8 (dk_at dksX0_image_0 7 rfl rfl)
theorem dX0_image_10 : decode cX0_image 10 = .ok (.aload_n 0, 1) := dk_42 (dk_at dksX0_image_0 10 rfl rfl)
theorem dX0_image_11 : decode cX0_image 11 = .ok (.invokevirtual 110, 3) := dk_182 0 110 (dk_at dksX0_image_0 11 rfl rfl)
theorem dX0_image_14 : decode cX0_image 14 = .ok (.ireturn, 1) := dk_172 (dk_at dksX0_image_0 14 rfl rfl)
theorem dX0_image_15 : decode cX0_image 15 = .ok (.aload_n 0, 1) := dk_42 (dk_at dksX0_image_0 15 rfl rfl)
theorem dX0_image_16 : decode cX0_image 16 = .ok (.getfield 39, 3) := dk_180 0 39 (dk_at dksX0_image_0 16 rfl rfl)
theorem dX0_image_19 : decode cX0_image 19 = .ok (.iload_n 1, 1) := dk_27 (dk_at dksX0_image_0 19 rfl rfl)
theorem dX0_image_20 : decode cX0_image 20 = .ok (.aaload, 1) := dk_50 (dk_at dksX0_image_0 20 rfl rfl)
theorem dX0_image_21 : decode cX0_image 21 = .ok (.ifnonnull 16, 3) := dk_199 0 16 (dk_at dksX0_image_0 21 rfl rfl)
theorem dX0_image_24 : decode cX0_image 24 = .ok (.aload_n 0, 1) := dk_42 (dk_at dksX0_image_1 0 rfl rfl)
theorem dX0_image_25 : decode cX0_image 25 = .ok (.getfield 39, 3) := dk_180 0 39 (dk_at dksX0_image_1 1 rfl rfl)
theorem dX0_image_28 : decode cX0_image 28 = .ok (.iload_n 1, 1) := dk_27 (dk_at dksX0_image_1 4 rfl rfl)
theorem dX0_image_29 : decode cX0_image 29 = .ok (.new 27, 3) := dk_187 0 27 (dk_at dksX0_image_1 5 rfl rfl)
theorem dX0_image_32 : decode cX0_image 32 = .ok (.dup, 1) := dk_89 (dk_at dksX0_image_1 8 rfl rfl)
theorem dX0_image_33 : decode cX0_image 33 = .ok (.invokespecial 29, 3) := dk_183 0 29 (dk_at dksX0_image_1 9 rfl rfl)
theorem dX0_image_36 : decode cX0_image 36 = .ok (.aastore, 1) := dk_83 (dk_at dksX0_image_1 12 rfl rfl)
theorem dX0_image_37 : decode cX0_image 37 = .ok (.aload_n 0, 1) := dk_42 (dk_at dksX0_image_1 13 rfl rfl)
theorem dX0_image_38 : decode cX0_image 38 = .ok (.getfield 39, 3) := dk_180 0 39 (dk_at dksX0_image_1 14 rfl rfl)
theorem dX0_image_41 : decode cX0_image 41 = .ok (.iload_n 1, 1) := dk_27 (dk_at dksX0_image_1 17 rfl rfl)
theorem dX0_image_42 : decode cX0_image 42 = .ok (.aaload, 1) := dk_50 (dk_at dksX0_image_1 18 rfl rfl)
theorem dX0_image_43 : decode cX0_image 43 = .ok (.aload_n 0, 1) := dk_42 (dk_at dksX0_image_1 19 rfl rfl)
theorem dX0_image_44 : decode cX0_image 44 = .ok (.getfield 30, 3) := dk_180 0 30 (dk_at dksX0_image_1 20 rfl rfl)
theorem dX0_image_47 : decode cX0_image 47 = .ok (.invokevirtual 148, 3) := dk_182 0 148 (dk_at dksX0_image_2 0 rfl rfl)
theorem dX0_image_50 : decode cX0_image 50 = .ok (.iconst 1, 1) := dk_4 (dk_at dksX0_image_2 3 rfl rfl)
theorem dX0_image_51 : decode cX0_image 51 = .ok (.ireturn, 1) := dk_172 (dk_at dksX0_image_2 4 rfl rfl)
abbrev cX0_from : ByteArray := prog_1_method_49_code
def yX0_from : MethodName := ⟨RX0, "from", "(I)I"⟩
def dkwX0_from_1 : List UInt8 := [42, 182, 0, 189, 172, 42, 180, 0, 30, 42, 180, 0, 39, 27, 50, 182, 0, 148, 4, 172]
abbrev dktX0_from_1 : List UInt8 := dkwX0_from_1 ++ []
def dkwX0_from_0 : List UInt8 := [27, 133, 9, 10, 184, 0, 89, 154, 0, 8, 42, 182, 0, 110, 172, 42, 180, 0, 39, 27, 50, 199, 0, 8]
abbrev dktX0_from_0 : List UInt8 := dkwX0_from_0 ++ dktX0_from_1
theorem dksX0_from_0 : cX0_from.data.toList.drop 0 = dktX0_from_0 := by decide +kernel
theorem dksX0_from_1 : cX0_from.data.toList.drop 24 = dktX0_from_1 := dk_seg dksX0_from_0 24 rfl rfl
theorem dX0_from_0 : decode cX0_from 0 = .ok (.iload_n 1, 1) := dk_27 (dk_at dksX0_from_0 0 rfl rfl)
theorem dX0_from_1 : decode cX0_from 1 = .ok (.i2l, 1) := dk_133 (dk_at dksX0_from_0 1 rfl rfl)
theorem dX0_from_2 : decode cX0_from 2 = .ok (.lconst 0, 1) := dk_9 (dk_at dksX0_from_0 2 rfl rfl)
theorem dX0_from_3 : decode cX0_from 3 = .ok (.lconst 1, 1) := dk_10 (dk_at dksX0_from_0 3 rfl rfl)
theorem dX0_from_4 : decode cX0_from 4 = .ok (.invokestatic 89, 3) := dk_184 0 89 (dk_at dksX0_from_0 4 rfl rfl)
theorem dX0_from_7 : decode cX0_from 7 = .ok (.ifCond .ne 8, 3) := dk_154 0 8 (dk_at dksX0_from_0 7 rfl rfl)
theorem dX0_from_10 : decode cX0_from 10 = .ok (.aload_n 0, 1) := dk_42 (dk_at dksX0_from_0 10 rfl rfl)
theorem dX0_from_11 : decode cX0_from 11 = .ok (.invokevirtual 110, 3) := dk_182 0 110 (dk_at dksX0_from_0 11 rfl rfl)
theorem dX0_from_14 : decode cX0_from 14 = .ok (.ireturn, 1) := dk_172 (dk_at dksX0_from_0 14 rfl rfl)
theorem dX0_from_15 : decode cX0_from 15 = .ok (.aload_n 0, 1) := dk_42 (dk_at dksX0_from_0 15 rfl rfl)
theorem dX0_from_16 : decode cX0_from 16 = .ok (.getfield 39, 3) := dk_180 0 39 (dk_at dksX0_from_0 16 rfl rfl)
theorem dX0_from_19 : decode cX0_from 19 = .ok (.iload_n 1, 1) := dk_27 (dk_at dksX0_from_0 19 rfl rfl)
theorem dX0_from_20 : decode cX0_from 20 = .ok (.aaload, 1) := dk_50 (dk_at dksX0_from_0 20 rfl rfl)
theorem dX0_from_21 : decode cX0_from 21 = .ok (.ifnonnull 8, 3) := dk_199 0 8 (dk_at dksX0_from_0 21 rfl rfl)
theorem dX0_from_24 : decode cX0_from 24 = .ok (.aload_n 0, 1) := dk_42 (dk_at dksX0_from_1 0 rfl rfl)
theorem dX0_from_25 : decode cX0_from 25 = .ok (.invokevirtual 189, 3) := dk_182 0 189 (dk_at dksX0_from_1 1 rfl rfl)
theorem dX0_from_28 : decode cX0_from 28 = .ok (.ireturn, 1) := dk_172 (dk_at dksX0_from_1 4 rfl rfl)
theorem dX0_from_29 : decode cX0_from 29 = .ok (.aload_n 0, 1) := dk_42 (dk_at dksX0_from_1 5 rfl rfl)
theorem dX0_from_30 : decode cX0_from 30 = .ok (.getfield 30, 3) := dk_180 0 30 (dk_at dksX0_from_1 6 rfl rfl)
theorem dX0_from_33 : decode cX0_from 33 = .ok (.aload_n 0, 1) := dk_42 (dk_at dksX0_from_1 9 rfl rfl)
theorem dX0_from_34 : decode cX0_from 34 = .ok (.getfield 39, 3) := dk_180 0 39 (dk_at dksX0_from_1 10 rfl rfl)
theorem dX0_from_37 : decode cX0_from 37 = .ok (.iload_n 1, 1) := dk_27 (dk_at dksX0_from_1 13 rfl rfl)
theorem dX0_from_38 : decode cX0_from 38 = .ok (.aaload, 1) := dk_50 (dk_at dksX0_from_1 14 rfl rfl)
theorem dX0_from_39 : decode cX0_from 39 = .ok (.invokevirtual 148, 3) := dk_182 0 148 (dk_at dksX0_from_1 15 rfl rfl)
theorem dX0_from_42 : decode cX0_from 42 = .ok (.iconst 1, 1) := dk_4 (dk_at dksX0_from_1 18 rfl rfl)
theorem dX0_from_43 : decode cX0_from 43 = .ok (.ireturn, 1) := dk_172 (dk_at dksX0_from_1 19 rfl rfl)
abbrev cX0_status : ByteArray := prog_1_method_50_code
def yX0_status : MethodName := ⟨RX0, "status", "(I)I"⟩
def dkwX0_status_1 : List UInt8 := [182, 0, 81, 172]
abbrev dktX0_status_1 : List UInt8 := dkwX0_status_1 ++ []
def dkwX0_status_0 : List UInt8 := [27, 133, 9, 20, 1, 11, 184, 0, 89, 153, 0, 12, 42, 180, 0, 47, 27, 46, 167, 0, 9, 42, 3, 2]
abbrev dktX0_status_0 : List UInt8 := dkwX0_status_0 ++ dktX0_status_1
theorem dksX0_status_0 : cX0_status.data.toList.drop 0 = dktX0_status_0 := by decide +kernel
theorem dksX0_status_1 : cX0_status.data.toList.drop 24 = dktX0_status_1 := dk_seg dksX0_status_0 24 rfl rfl
theorem dX0_status_0 : decode cX0_status 0 = .ok (.iload_n 1, 1) := dk_27 (dk_at dksX0_status_0 0 rfl rfl)
theorem dX0_status_1 : decode cX0_status 1 = .ok (.i2l, 1) := dk_133 (dk_at dksX0_status_0 1 rfl rfl)
theorem dX0_status_2 : decode cX0_status 2 = .ok (.lconst 0, 1) := dk_9 (dk_at dksX0_status_0 2 rfl rfl)
theorem dX0_status_3 : decode cX0_status 3 = .ok (.ldc2_w 267, 3) := dk_20 1 11 (dk_at dksX0_status_0 3 rfl rfl)
theorem dX0_status_6 : decode cX0_status 6 = .ok (.invokestatic 89, 3) := dk_184 0 89 (dk_at dksX0_status_0 6 rfl rfl)
theorem dX0_status_9 : decode cX0_status 9 = .ok (.ifCond .eq 12, 3) := dk_153 0 12 (dk_at dksX0_status_0 9 rfl rfl)
theorem dX0_status_12 : decode cX0_status 12 = .ok (.aload_n 0, 1) := dk_42 (dk_at dksX0_status_0 12 rfl rfl)
theorem dX0_status_13 : decode cX0_status 13 = .ok (.getfield 47, 3) := dk_180 0 47 (dk_at dksX0_status_0 13 rfl rfl)
theorem dX0_status_16 : decode cX0_status 16 = .ok (.iload_n 1, 1) := dk_27 (dk_at dksX0_status_0 16 rfl rfl)
theorem dX0_status_17 : decode cX0_status 17 = .ok (.iaload, 1) := dk_46 (dk_at dksX0_status_0 17 rfl rfl)
theorem dX0_status_18 : decode cX0_status 18 = .ok (.goto 9, 3) := dk_167 0 9 (dk_at dksX0_status_0 18 rfl rfl)
theorem dX0_status_21 : decode cX0_status 21 = .ok (.aload_n 0, 1) := dk_42 (dk_at dksX0_status_0 21 rfl rfl)
theorem dX0_status_22 : decode cX0_status 22 = .ok (.iconst 0, 1) := dk_3 (dk_at dksX0_status_0 22 rfl rfl)
theorem dX0_status_23 : decode cX0_status 23 = .ok (.iconst (-1), 1) := dk_2 (dk_at dksX0_status_0 23 rfl rfl)
theorem dX0_status_24 : decode cX0_status 24 = .ok (.invokevirtual 81, 3) := dk_182 0 81 (dk_at dksX0_status_1 0 rfl rfl)
theorem dX0_status_27 : decode cX0_status 27 = .ok (.ireturn, 1) := dk_172 (dk_at dksX0_status_1 3 rfl rfl)
abbrev cX0_count : ByteArray := prog_1_method_53_code
def yX0_count : MethodName := ⟨RX0, "count", "(I)I"⟩
def dkwX0_count_1 : List UInt8 := [172]
abbrev dktX0_count_1 : List UInt8 := dkwX0_count_1 ++ []
def dkwX0_count_0 : List UInt8 := [27, 133, 9, 20, 1, 78, 184, 0, 89, 153, 0, 11, 42, 27, 182, 1, 80, 167, 0, 7, 42, 182, 0, 110]
abbrev dktX0_count_0 : List UInt8 := dkwX0_count_0 ++ dktX0_count_1
theorem dksX0_count_0 : cX0_count.data.toList.drop 0 = dktX0_count_0 := by decide +kernel
theorem dksX0_count_1 : cX0_count.data.toList.drop 24 = dktX0_count_1 := dk_seg dksX0_count_0 24 rfl rfl
theorem dX0_count_0 : decode cX0_count 0 = .ok (.iload_n 1, 1) := dk_27 (dk_at dksX0_count_0 0 rfl rfl)
theorem dX0_count_1 : decode cX0_count 1 = .ok (.i2l, 1) := dk_133 (dk_at dksX0_count_0 1 rfl rfl)
theorem dX0_count_2 : decode cX0_count 2 = .ok (.lconst 0, 1) := dk_9 (dk_at dksX0_count_0 2 rfl rfl)
theorem dX0_count_3 : decode cX0_count 3 = .ok (.ldc2_w 334, 3) := dk_20 1 78 (dk_at dksX0_count_0 3 rfl rfl)
theorem dX0_count_6 : decode cX0_count 6 = .ok (.invokestatic 89, 3) := dk_184 0 89 (dk_at dksX0_count_0 6 rfl rfl)
theorem dX0_count_9 : decode cX0_count 9 = .ok (.ifCond .eq 11, 3) := dk_153 0 11 (dk_at dksX0_count_0 9 rfl rfl)
theorem dX0_count_12 : decode cX0_count 12 = .ok (.aload_n 0, 1) := dk_42 (dk_at dksX0_count_0 12 rfl rfl)
theorem dX0_count_13 : decode cX0_count 13 = .ok (.iload_n 1, 1) := dk_27 (dk_at dksX0_count_0 13 rfl rfl)
theorem dX0_count_14 : decode cX0_count 14 = .ok (.invokevirtual 336, 3) := dk_182 1 80 (dk_at dksX0_count_0 14 rfl rfl)
theorem dX0_count_17 : decode cX0_count 17 = .ok (.goto 7, 3) := dk_167 0 7 (dk_at dksX0_count_0 17 rfl rfl)
theorem dX0_count_20 : decode cX0_count 20 = .ok (.aload_n 0, 1) := dk_42 (dk_at dksX0_count_0 20 rfl rfl)
theorem dX0_count_21 : decode cX0_count 21 = .ok (.invokevirtual 110, 3) := dk_182 0 110 (dk_at dksX0_count_0 21 rfl rfl)
theorem dX0_count_24 : decode cX0_count 24 = .ok (.ireturn, 1) := dk_172 (dk_at dksX0_count_1 0 rfl rfl)
abbrev cX0_countOf : ByteArray := prog_1_method_52_code
def yX0_countOf : MethodName := ⟨RX0, "countOf", "(I)I"⟩
def dkwX0_countOf_5 : List UInt8 := [180, 0, 142, 172]
abbrev dktX0_countOf_5 : List UInt8 := dkwX0_countOf_5 ++ []
def dkwX0_countOf_4 : List UInt8 := [180, 0, 160, 180, 1, 28, 172, 42, 180, 0, 30, 180, 1, 34, 172, 42, 180, 0, 30, 180, 0, 211, 172, 42]
abbrev dktX0_countOf_4 : List UInt8 := dkwX0_countOf_4 ++ dktX0_countOf_5
def dkwX0_countOf_3 : List UInt8 := [180, 0, 208, 172, 42, 180, 0, 30, 180, 0, 160, 180, 0, 195, 172, 42, 182, 1, 75, 172, 42, 180, 0, 30]
abbrev dktX0_countOf_3 : List UInt8 := dkwX0_countOf_3 ++ dktX0_countOf_4
def dkwX0_countOf_2 : List UInt8 := [42, 180, 0, 30, 180, 0, 85, 172, 42, 180, 0, 30, 180, 0, 93, 172, 42, 180, 0, 30, 180, 0, 160]
abbrev dktX0_countOf_2 : List UInt8 := dkwX0_countOf_2 ++ dktX0_countOf_3
def dkwX0_countOf_1 : List UInt8 := [170, 0, 0, 0, 0, 0, 117, 0, 0, 0, 0, 0, 0, 0, 7, 0, 0, 0, 47, 0, 0, 0, 55, 0, 0, 0, 63, 0, 0, 0, 74, 0, 0, 0, 85, 0, 0, 0, 90, 0, 0, 0, 101, 0, 0, 0, 109]
abbrev dktX0_countOf_1 : List UInt8 := dkwX0_countOf_1 ++ dktX0_countOf_2
def dkwX0_countOf_0 : List UInt8 := [27]
abbrev dktX0_countOf_0 : List UInt8 := dkwX0_countOf_0 ++ dktX0_countOf_1
theorem dksX0_countOf_0 : cX0_countOf.data.toList.drop 0 = dktX0_countOf_0 := by decide +kernel
theorem dksX0_countOf_1 : cX0_countOf.data.toList.drop 1 = dktX0_countOf_1 := dk_seg dksX0_countOf_0 1 rfl rfl
theorem dksX0_countOf_2 : cX0_countOf.data.toList.drop 48 = dktX0_countOf_2 := dk_seg dksX0_countOf_1 47 rfl rfl
theorem dksX0_countOf_3 : cX0_countOf.data.toList.drop 71 = dktX0_countOf_3 := dk_seg dksX0_countOf_2 23 rfl rfl
theorem dksX0_countOf_4 : cX0_countOf.data.toList.drop 95 = dktX0_countOf_4 := dk_seg dksX0_countOf_3 24 rfl rfl
theorem dksX0_countOf_5 : cX0_countOf.data.toList.drop 119 = dktX0_countOf_5 := dk_seg dksX0_countOf_4 24 rfl rfl
theorem dX0_countOf_0 : decode cX0_countOf 0 = .ok (.iload_n 1, 1) := dk_27 (dk_at dksX0_countOf_0 0 rfl rfl)
theorem dX0_countOf_1 : decode cX0_countOf 1 = .ok (.tableswitch 117 0 7 #[47, 55, 63, 74, 85, 90, 101, 109], 47) := by decide +kernel
theorem dX0_countOf_48 : decode cX0_countOf 48 = .ok (.aload_n 0, 1) := dk_42 (dk_at dksX0_countOf_2 0 rfl rfl)
theorem dX0_countOf_49 : decode cX0_countOf 49 = .ok (.getfield 30, 3) := dk_180 0 30 (dk_at dksX0_countOf_2 1 rfl rfl)
theorem dX0_countOf_52 : decode cX0_countOf 52 = .ok (.getfield 85, 3) := dk_180 0 85 (dk_at dksX0_countOf_2 4 rfl rfl)
theorem dX0_countOf_55 : decode cX0_countOf 55 = .ok (.ireturn, 1) := dk_172 (dk_at dksX0_countOf_2 7 rfl rfl)
theorem dX0_countOf_56 : decode cX0_countOf 56 = .ok (.aload_n 0, 1) := dk_42 (dk_at dksX0_countOf_2 8 rfl rfl)
theorem dX0_countOf_57 : decode cX0_countOf 57 = .ok (.getfield 30, 3) := dk_180 0 30 (dk_at dksX0_countOf_2 9 rfl rfl)
theorem dX0_countOf_60 : decode cX0_countOf 60 = .ok (.getfield 93, 3) := dk_180 0 93 (dk_at dksX0_countOf_2 12 rfl rfl)
theorem dX0_countOf_63 : decode cX0_countOf 63 = .ok (.ireturn, 1) := dk_172 (dk_at dksX0_countOf_2 15 rfl rfl)
theorem dX0_countOf_64 : decode cX0_countOf 64 = .ok (.aload_n 0, 1) := dk_42 (dk_at dksX0_countOf_2 16 rfl rfl)
theorem dX0_countOf_65 : decode cX0_countOf 65 = .ok (.getfield 30, 3) := dk_180 0 30 (dk_at dksX0_countOf_2 17 rfl rfl)
theorem dX0_countOf_68 : decode cX0_countOf 68 = .ok (.getfield 160, 3) := dk_180 0 160 (dk_at dksX0_countOf_2 20 rfl rfl)
theorem dX0_countOf_71 : decode cX0_countOf 71 = .ok (.getfield 208, 3) := dk_180 0 208 (dk_at dksX0_countOf_3 0 rfl rfl)
theorem dX0_countOf_74 : decode cX0_countOf 74 = .ok (.ireturn, 1) := dk_172 (dk_at dksX0_countOf_3 3 rfl rfl)
theorem dX0_countOf_75 : decode cX0_countOf 75 = .ok (.aload_n 0, 1) := dk_42 (dk_at dksX0_countOf_3 4 rfl rfl)
theorem dX0_countOf_76 : decode cX0_countOf 76 = .ok (.getfield 30, 3) := dk_180 0 30 (dk_at dksX0_countOf_3 5 rfl rfl)
theorem dX0_countOf_79 : decode cX0_countOf 79 = .ok (.getfield 160, 3) := dk_180 0 160 (dk_at dksX0_countOf_3 8 rfl rfl)
theorem dX0_countOf_82 : decode cX0_countOf 82 = .ok (.getfield 195, 3) := dk_180 0 195 (dk_at dksX0_countOf_3 11 rfl rfl)
theorem dX0_countOf_85 : decode cX0_countOf 85 = .ok (.ireturn, 1) := dk_172 (dk_at dksX0_countOf_3 14 rfl rfl)
theorem dX0_countOf_86 : decode cX0_countOf 86 = .ok (.aload_n 0, 1) := dk_42 (dk_at dksX0_countOf_3 15 rfl rfl)
theorem dX0_countOf_87 : decode cX0_countOf 87 = .ok (.invokevirtual 331, 3) := dk_182 1 75 (dk_at dksX0_countOf_3 16 rfl rfl)
theorem dX0_countOf_90 : decode cX0_countOf 90 = .ok (.ireturn, 1) := dk_172 (dk_at dksX0_countOf_3 19 rfl rfl)
theorem dX0_countOf_91 : decode cX0_countOf 91 = .ok (.aload_n 0, 1) := dk_42 (dk_at dksX0_countOf_3 20 rfl rfl)
theorem dX0_countOf_92 : decode cX0_countOf 92 = .ok (.getfield 30, 3) := dk_180 0 30 (dk_at dksX0_countOf_3 21 rfl rfl)
theorem dX0_countOf_95 : decode cX0_countOf 95 = .ok (.getfield 160, 3) := dk_180 0 160 (dk_at dksX0_countOf_4 0 rfl rfl)
theorem dX0_countOf_98 : decode cX0_countOf 98 = .ok (.getfield 284, 3) := dk_180 1 28 (dk_at dksX0_countOf_4 3 rfl rfl)
theorem dX0_countOf_101 : decode cX0_countOf 101 = .ok (.ireturn, 1) := dk_172 (dk_at dksX0_countOf_4 6 rfl rfl)
theorem dX0_countOf_102 : decode cX0_countOf 102 = .ok (.aload_n 0, 1) := dk_42 (dk_at dksX0_countOf_4 7 rfl rfl)
theorem dX0_countOf_103 : decode cX0_countOf 103 = .ok (.getfield 30, 3) := dk_180 0 30 (dk_at dksX0_countOf_4 8 rfl rfl)
theorem dX0_countOf_106 : decode cX0_countOf 106 = .ok (.getfield 290, 3) := dk_180 1 34 (dk_at dksX0_countOf_4 11 rfl rfl)
theorem dX0_countOf_109 : decode cX0_countOf 109 = .ok (.ireturn, 1) := dk_172 (dk_at dksX0_countOf_4 14 rfl rfl)
theorem dX0_countOf_110 : decode cX0_countOf 110 = .ok (.aload_n 0, 1) := dk_42 (dk_at dksX0_countOf_4 15 rfl rfl)
theorem dX0_countOf_111 : decode cX0_countOf 111 = .ok (.getfield 30, 3) := dk_180 0 30 (dk_at dksX0_countOf_4 16 rfl rfl)
theorem dX0_countOf_114 : decode cX0_countOf 114 = .ok (.getfield 211, 3) := dk_180 0 211 (dk_at dksX0_countOf_4 19 rfl rfl)
theorem dX0_countOf_117 : decode cX0_countOf 117 = .ok (.ireturn, 1) := dk_172 (dk_at dksX0_countOf_4 22 rfl rfl)
theorem dX0_countOf_118 : decode cX0_countOf 118 = .ok (.aload_n 0, 1) := dk_42 (dk_at dksX0_countOf_4 23 rfl rfl)
theorem dX0_countOf_119 : decode cX0_countOf 119 = .ok (.getfield 142, 3) := dk_180 0 142 (dk_at dksX0_countOf_5 0 rfl rfl)
theorem dX0_countOf_122 : decode cX0_countOf 122 = .ok (.ireturn, 1) := dk_172 (dk_at dksX0_countOf_5 3 rfl rfl)
abbrev cX0_out : ByteArray := prog_1_method_51_code
def yX0_out : MethodName := ⟨RX0, "out", "()I"⟩
def dkwX0_out_1 : List UInt8 := [180, 0, 168, 28, 46, 2, 159, 0, 7, 4, 167, 0, 4, 3, 96, 60, 132, 2, 1, 167, 255, 218, 27, 172]
abbrev dktX0_out_1 : List UInt8 := dkwX0_out_1 ++ []
def dkwX0_out_0 : List UInt8 := [3, 60, 3, 61, 28, 42, 180, 0, 30, 180, 0, 85, 162, 0, 33, 27, 42, 180, 0, 30, 180, 0, 160]
abbrev dktX0_out_0 : List UInt8 := dkwX0_out_0 ++ dktX0_out_1
theorem dksX0_out_0 : cX0_out.data.toList.drop 0 = dktX0_out_0 := by decide +kernel
theorem dksX0_out_1 : cX0_out.data.toList.drop 23 = dktX0_out_1 := dk_seg dksX0_out_0 23 rfl rfl
theorem dX0_out_0 : decode cX0_out 0 = .ok (.iconst 0, 1) := dk_3 (dk_at dksX0_out_0 0 rfl rfl)
theorem dX0_out_1 : decode cX0_out 1 = .ok (.istore_n 1, 1) := dk_60 (dk_at dksX0_out_0 1 rfl rfl)
theorem dX0_out_2 : decode cX0_out 2 = .ok (.iconst 0, 1) := dk_3 (dk_at dksX0_out_0 2 rfl rfl)
theorem dX0_out_3 : decode cX0_out 3 = .ok (.istore_n 2, 1) := dk_61 (dk_at dksX0_out_0 3 rfl rfl)
theorem dX0_out_4 : decode cX0_out 4 = .ok (.iload_n 2, 1) := dk_28 (dk_at dksX0_out_0 4 rfl rfl)
theorem dX0_out_5 : decode cX0_out 5 = .ok (.aload_n 0, 1) := dk_42 (dk_at dksX0_out_0 5 rfl rfl)
theorem dX0_out_6 : decode cX0_out 6 = .ok (.getfield 30, 3) := dk_180 0 30 (dk_at dksX0_out_0 6 rfl rfl)
theorem dX0_out_9 : decode cX0_out 9 = .ok (.getfield 85, 3) := dk_180 0 85 (dk_at dksX0_out_0 9 rfl rfl)
theorem dX0_out_12 : decode cX0_out 12 = .ok (.if_icmp .ge 33, 3) := dk_162 0 33 (dk_at dksX0_out_0 12 rfl rfl)
theorem dX0_out_15 : decode cX0_out 15 = .ok (.iload_n 1, 1) := dk_27 (dk_at dksX0_out_0 15 rfl rfl)
theorem dX0_out_16 : decode cX0_out 16 = .ok (.aload_n 0, 1) := dk_42 (dk_at dksX0_out_0 16 rfl rfl)
theorem dX0_out_17 : decode cX0_out 17 = .ok (.getfield 30, 3) := dk_180 0 30 (dk_at dksX0_out_0 17 rfl rfl)
theorem dX0_out_20 : decode cX0_out 20 = .ok (.getfield 160, 3) := dk_180 0 160 (dk_at dksX0_out_0 20 rfl rfl)
theorem dX0_out_23 : decode cX0_out 23 = .ok (.getfield 168, 3) := dk_180 0 168 (dk_at dksX0_out_1 0 rfl rfl)
theorem dX0_out_26 : decode cX0_out 26 = .ok (.iload_n 2, 1) := dk_28 (dk_at dksX0_out_1 3 rfl rfl)
theorem dX0_out_27 : decode cX0_out 27 = .ok (.iaload, 1) := dk_46 (dk_at dksX0_out_1 4 rfl rfl)
theorem dX0_out_28 : decode cX0_out 28 = .ok (.iconst (-1), 1) := dk_2 (dk_at dksX0_out_1 5 rfl rfl)
theorem dX0_out_29 : decode cX0_out 29 = .ok (.if_icmp .eq 7, 3) := dk_159 0 7 (dk_at dksX0_out_1 6 rfl rfl)
theorem dX0_out_32 : decode cX0_out 32 = .ok (.iconst 1, 1) := dk_4 (dk_at dksX0_out_1 9 rfl rfl)
theorem dX0_out_33 : decode cX0_out 33 = .ok (.goto 4, 3) := dk_167 0 4 (dk_at dksX0_out_1 10 rfl rfl)
theorem dX0_out_36 : decode cX0_out 36 = .ok (.iconst 0, 1) := dk_3 (dk_at dksX0_out_1 13 rfl rfl)
theorem dX0_out_37 : decode cX0_out 37 = .ok (.iadd, 1) := dk_96 (dk_at dksX0_out_1 14 rfl rfl)
theorem dX0_out_38 : decode cX0_out 38 = .ok (.istore_n 1, 1) := dk_60 (dk_at dksX0_out_1 15 rfl rfl)
theorem dX0_out_39 : decode cX0_out 39 = .ok (.iinc 2 1, 3) := dk_132 2 1 (dk_at dksX0_out_1 16 rfl rfl)
theorem dX0_out_42 : decode cX0_out 42 = .ok (.goto (-38), 3) := dk_167 255 218 (dk_at dksX0_out_1 19 rfl rfl)
theorem dX0_out_45 : decode cX0_out 45 = .ok (.iload_n 1, 1) := dk_27 (dk_at dksX0_out_1 22 rfl rfl)
theorem dX0_out_46 : decode cX0_out 46 = .ok (.ireturn, 1) := dk_172 (dk_at dksX0_out_1 23 rfl rfl)
abbrev cX0_digest : ByteArray := prog_1_method_54_code
def yX0_digest : MethodName := ⟨RX0, "digest", "()J"⟩
def dkwX0_digest_13 : List UInt8 := [42, 180, 0, 51, 97, 173]
abbrev dktX0_digest_13 : List UInt8 := dkwX0_digest_13 ++ []
def dkwX0_digest_12 : List UInt8 := [46, 133, 97, 64, 132, 4, 1, 167, 255, 221, 20, 1, 85, 20, 1, 85, 31, 105, 42, 180, 1, 58, 97, 105]
abbrev dktX0_digest_12 : List UInt8 := dkwX0_digest_12 ++ dktX0_digest_13
def dkwX0_digest_11 : List UInt8 := [180, 0, 30, 180, 1, 34, 104, 162, 0, 27, 20, 1, 85, 31, 105, 42, 180, 0, 30, 180, 1, 37, 21, 4]
abbrev dktX0_digest_11 : List UInt8 := dkwX0_digest_11 ++ dktX0_digest_12
def dkwX0_digest_10 : List UInt8 := [105, 45, 180, 1, 31, 21, 4, 46, 133, 97, 64, 132, 4, 1, 167, 255, 227, 3, 54, 4, 21, 4, 6, 42]
abbrev dktX0_digest_10 : List UInt8 := dkwX0_digest_10 ++ dktX0_digest_11
def dkwX0_digest_9 : List UInt8 := [132, 4, 1, 167, 255, 194, 3, 54, 4, 21, 4, 6, 45, 180, 1, 28, 104, 162, 0, 24, 20, 1, 85, 31]
abbrev dktX0_digest_9 : List UInt8 := dkwX0_digest_9 ++ dktX0_digest_10
def dkwX0_digest_8 : List UInt8 := [180, 0, 186, 21, 4, 46, 133, 97, 105, 42, 180, 0, 30, 180, 0, 241, 21, 4, 46, 133, 97, 64]
abbrev dktX0_digest_8 : List UInt8 := dkwX0_digest_8 ++ dktX0_digest_9
def dkwX0_digest_7 : List UInt8 := [20, 1, 85, 20, 1, 85, 31, 105, 42, 180, 0, 30, 180, 0, 177, 21, 4, 46, 133, 97, 105, 45]
abbrev dktX0_digest_7 : List UInt8 := dkwX0_digest_7 ++ dktX0_digest_8
def dkwX0_digest_6 : List UInt8 := [132, 4, 1, 167, 255, 152, 3, 54, 4, 21, 4, 42, 180, 0, 30, 180, 0, 93, 162, 0, 56, 20, 1, 85]
abbrev dktX0_digest_6 : List UInt8 := dkwX0_digest_6 ++ dktX0_digest_7
def dkwX0_digest_5 : List UInt8 := [105, 45, 180, 0, 168, 21, 4, 46, 133, 97, 105, 42, 180, 0, 30, 180, 0, 137, 21, 4, 46, 133, 97, 64]
abbrev dktX0_digest_5 : List UInt8 := dkwX0_digest_5 ++ dktX0_digest_6
def dkwX0_digest_4 : List UInt8 := [180, 0, 230, 133, 97, 64, 20, 1, 85, 20, 1, 85, 20, 1, 85, 31, 105, 25, 5, 180, 0, 233, 133, 97]
abbrev dktX0_digest_4 : List UInt8 := dkwX0_digest_4 ++ dktX0_digest_5
def dkwX0_digest_3 : List UInt8 := [20, 1, 85, 31, 105, 25, 5, 182, 0, 224, 133, 97, 105, 25, 5, 180, 0, 227, 133, 97, 105, 25, 5]
abbrev dktX0_digest_3 : List UInt8 := dkwX0_digest_3 ++ dktX0_digest_4
def dkwX0_digest_2 : List UInt8 := [180, 0, 85, 162, 0, 98, 42, 180, 0, 30, 180, 0, 164, 21, 4, 50, 58, 5, 20, 1, 85, 20, 1, 85]
abbrev dktX0_digest_2 : List UInt8 := dkwX0_digest_2 ++ dktX0_digest_3
def dkwX0_digest_1 : List UInt8 := [64, 132, 3, 1, 167, 255, 234, 42, 180, 0, 30, 180, 0, 160, 78, 3, 54, 4, 21, 4, 42, 180, 0, 30]
abbrev dktX0_digest_1 : List UInt8 := dkwX0_digest_1 ++ dktX0_digest_2
def dkwX0_digest_0 : List UInt8 := [20, 1, 83, 64, 3, 62, 29, 16, 9, 162, 0, 22, 20, 1, 85, 31, 105, 42, 29, 182, 1, 80, 133, 97]
abbrev dktX0_digest_0 : List UInt8 := dkwX0_digest_0 ++ dktX0_digest_1
theorem dksX0_digest_0 : cX0_digest.data.toList.drop 0 = dktX0_digest_0 := by decide +kernel
theorem dksX0_digest_1 : cX0_digest.data.toList.drop 24 = dktX0_digest_1 := dk_seg dksX0_digest_0 24 rfl rfl
theorem dksX0_digest_2 : cX0_digest.data.toList.drop 48 = dktX0_digest_2 := dk_seg dksX0_digest_1 24 rfl rfl
theorem dksX0_digest_3 : cX0_digest.data.toList.drop 72 = dktX0_digest_3 := dk_seg dksX0_digest_2 24 rfl rfl
theorem dksX0_digest_4 : cX0_digest.data.toList.drop 95 = dktX0_digest_4 := dk_seg dksX0_digest_3 23 rfl rfl
theorem dksX0_digest_5 : cX0_digest.data.toList.drop 119 = dktX0_digest_5 := dk_seg dksX0_digest_4 24 rfl rfl
theorem dksX0_digest_6 : cX0_digest.data.toList.drop 143 = dktX0_digest_6 := dk_seg dksX0_digest_5 24 rfl rfl
theorem dksX0_digest_7 : cX0_digest.data.toList.drop 167 = dktX0_digest_7 := dk_seg dksX0_digest_6 24 rfl rfl
theorem dksX0_digest_8 : cX0_digest.data.toList.drop 189 = dktX0_digest_8 := dk_seg dksX0_digest_7 22 rfl rfl
theorem dksX0_digest_9 : cX0_digest.data.toList.drop 211 = dktX0_digest_9 := dk_seg dksX0_digest_8 22 rfl rfl
theorem dksX0_digest_10 : cX0_digest.data.toList.drop 235 = dktX0_digest_10 := dk_seg dksX0_digest_9 24 rfl rfl
theorem dksX0_digest_11 : cX0_digest.data.toList.drop 259 = dktX0_digest_11 := dk_seg dksX0_digest_10 24 rfl rfl
theorem dksX0_digest_12 : cX0_digest.data.toList.drop 283 = dktX0_digest_12 := dk_seg dksX0_digest_11 24 rfl rfl
theorem dksX0_digest_13 : cX0_digest.data.toList.drop 307 = dktX0_digest_13 := dk_seg dksX0_digest_12 24 rfl rfl
theorem dX0_digest_0 : decode cX0_digest 0 = .ok (.ldc2_w 339, 3) := dk_20 1 83 (dk_at dksX0_digest_0 0 rfl rfl)
theorem dX0_digest_3 : decode cX0_digest 3 = .ok (.lstore_n 1, 1) := dk_64 (dk_at dksX0_digest_0 3 rfl rfl)
theorem dX0_digest_4 : decode cX0_digest 4 = .ok (.iconst 0, 1) := dk_3 (dk_at dksX0_digest_0 4 rfl rfl)
theorem dX0_digest_5 : decode cX0_digest 5 = .ok (.istore_n 3, 1) := dk_62 (dk_at dksX0_digest_0 5 rfl rfl)
theorem dX0_digest_6 : decode cX0_digest 6 = .ok (.iload_n 3, 1) := dk_29 (dk_at dksX0_digest_0 6 rfl rfl)
theorem dX0_digest_7 : decode cX0_digest 7 = .ok (.bipush 9, 2) := dk_16 9 (dk_at dksX0_digest_0 7 rfl rfl)
theorem dX0_digest_9 : decode cX0_digest 9 = .ok (.if_icmp .ge 22, 3) := dk_162 0 22 (dk_at dksX0_digest_0 9 rfl rfl)
theorem dX0_digest_12 : decode cX0_digest 12 = .ok (.ldc2_w 341, 3) := dk_20 1 85 (dk_at dksX0_digest_0 12 rfl rfl)
theorem dX0_digest_15 : decode cX0_digest 15 = .ok (.lload_n 1, 1) := dk_31 (dk_at dksX0_digest_0 15 rfl rfl)
theorem dX0_digest_16 : decode cX0_digest 16 = .ok (.lmul, 1) := dk_105 (dk_at dksX0_digest_0 16 rfl rfl)
theorem dX0_digest_17 : decode cX0_digest 17 = .ok (.aload_n 0, 1) := dk_42 (dk_at dksX0_digest_0 17 rfl rfl)
theorem dX0_digest_18 : decode cX0_digest 18 = .ok (.iload_n 3, 1) := dk_29 (dk_at dksX0_digest_0 18 rfl rfl)
theorem dX0_digest_19 : decode cX0_digest 19 = .ok (.invokevirtual 336, 3) := dk_182 1 80 (dk_at dksX0_digest_0 19 rfl rfl)
theorem dX0_digest_22 : decode cX0_digest 22 = .ok (.i2l, 1) := dk_133 (dk_at dksX0_digest_0 22 rfl rfl)
theorem dX0_digest_23 : decode cX0_digest 23 = .ok (.ladd, 1) := dk_97 (dk_at dksX0_digest_0 23 rfl rfl)
theorem dX0_digest_24 : decode cX0_digest 24 = .ok (.lstore_n 1, 1) := dk_64 (dk_at dksX0_digest_1 0 rfl rfl)
theorem dX0_digest_25 : decode cX0_digest 25 = .ok (.iinc 3 1, 3) := dk_132 3 1 (dk_at dksX0_digest_1 1 rfl rfl)
theorem dX0_digest_28 : decode cX0_digest 28 = .ok (.goto (-22), 3) := dk_167 255 234 (dk_at dksX0_digest_1 4 rfl rfl)
theorem dX0_digest_31 : decode cX0_digest 31 = .ok (.aload_n 0, 1) := dk_42 (dk_at dksX0_digest_1 7 rfl rfl)
theorem dX0_digest_32 : decode cX0_digest 32 = .ok (.getfield 30, 3) := dk_180 0 30 (dk_at dksX0_digest_1 8 rfl rfl)
theorem dX0_digest_35 : decode cX0_digest 35 = .ok (.getfield 160, 3) := dk_180 0 160 (dk_at dksX0_digest_1 11 rfl rfl)
theorem dX0_digest_38 : decode cX0_digest 38 = .ok (.astore_n 3, 1) := dk_78 (dk_at dksX0_digest_1 14 rfl rfl)
theorem dX0_digest_39 : decode cX0_digest 39 = .ok (.iconst 0, 1) := dk_3 (dk_at dksX0_digest_1 15 rfl rfl)
theorem dX0_digest_40 : decode cX0_digest 40 = .ok (.istore 4, 2) := dk_54 4 (dk_at dksX0_digest_1 16 rfl rfl)
theorem dX0_digest_42 : decode cX0_digest 42 = .ok (.iload 4, 2) := dk_21 4 (dk_at dksX0_digest_1 18 rfl rfl)
theorem dX0_digest_44 : decode cX0_digest 44 = .ok (.aload_n 0, 1) := dk_42 (dk_at dksX0_digest_1 20 rfl rfl)
theorem dX0_digest_45 : decode cX0_digest 45 = .ok (.getfield 30, 3) := dk_180 0 30 (dk_at dksX0_digest_1 21 rfl rfl)
theorem dX0_digest_48 : decode cX0_digest 48 = .ok (.getfield 85, 3) := dk_180 0 85 (dk_at dksX0_digest_2 0 rfl rfl)
theorem dX0_digest_51 : decode cX0_digest 51 = .ok (.if_icmp .ge 98, 3) := dk_162 0 98 (dk_at dksX0_digest_2 3 rfl rfl)
theorem dX0_digest_54 : decode cX0_digest 54 = .ok (.aload_n 0, 1) := dk_42 (dk_at dksX0_digest_2 6 rfl rfl)
theorem dX0_digest_55 : decode cX0_digest 55 = .ok (.getfield 30, 3) := dk_180 0 30 (dk_at dksX0_digest_2 7 rfl rfl)
theorem dX0_digest_58 : decode cX0_digest 58 = .ok (.getfield 164, 3) := dk_180 0 164 (dk_at dksX0_digest_2 10 rfl rfl)
theorem dX0_digest_61 : decode cX0_digest 61 = .ok (.iload 4, 2) := dk_21 4 (dk_at dksX0_digest_2 13 rfl rfl)
theorem dX0_digest_63 : decode cX0_digest 63 = .ok (.aaload, 1) := dk_50 (dk_at dksX0_digest_2 15 rfl rfl)
theorem dX0_digest_64 : decode cX0_digest 64 = .ok (.astore 5, 2) := dk_58 5 (dk_at dksX0_digest_2 16 rfl rfl)
theorem dX0_digest_66 : decode cX0_digest 66 = .ok (.ldc2_w 341, 3) := dk_20 1 85 (dk_at dksX0_digest_2 18 rfl rfl)
theorem dX0_digest_69 : decode cX0_digest 69 = .ok (.ldc2_w 341, 3) := dk_20 1 85 (dk_at dksX0_digest_2 21 rfl rfl)
theorem dX0_digest_72 : decode cX0_digest 72 = .ok (.ldc2_w 341, 3) := dk_20 1 85 (dk_at dksX0_digest_3 0 rfl rfl)
theorem dX0_digest_75 : decode cX0_digest 75 = .ok (.lload_n 1, 1) := dk_31 (dk_at dksX0_digest_3 3 rfl rfl)
theorem dX0_digest_76 : decode cX0_digest 76 = .ok (.lmul, 1) := dk_105 (dk_at dksX0_digest_3 4 rfl rfl)
theorem dX0_digest_77 : decode cX0_digest 77 = .ok (.aload 5, 2) := dk_25 5 (dk_at dksX0_digest_3 5 rfl rfl)
theorem dX0_digest_79 : decode cX0_digest 79 = .ok (.invokevirtual 224, 3) := dk_182 0 224 (dk_at dksX0_digest_3 7 rfl rfl)
theorem dX0_digest_82 : decode cX0_digest 82 = .ok (.i2l, 1) := dk_133 (dk_at dksX0_digest_3 10 rfl rfl)
theorem dX0_digest_83 : decode cX0_digest 83 = .ok (.ladd, 1) := dk_97 (dk_at dksX0_digest_3 11 rfl rfl)
theorem dX0_digest_84 : decode cX0_digest 84 = .ok (.lmul, 1) := dk_105 (dk_at dksX0_digest_3 12 rfl rfl)
theorem dX0_digest_85 : decode cX0_digest 85 = .ok (.aload 5, 2) := dk_25 5 (dk_at dksX0_digest_3 13 rfl rfl)
theorem dX0_digest_87 : decode cX0_digest 87 = .ok (.getfield 227, 3) := dk_180 0 227 (dk_at dksX0_digest_3 15 rfl rfl)
theorem dX0_digest_90 : decode cX0_digest 90 = .ok (.i2l, 1) := dk_133 (dk_at dksX0_digest_3 18 rfl rfl)
theorem dX0_digest_91 : decode cX0_digest 91 = .ok (.ladd, 1) := dk_97 (dk_at dksX0_digest_3 19 rfl rfl)
theorem dX0_digest_92 : decode cX0_digest 92 = .ok (.lmul, 1) := dk_105 (dk_at dksX0_digest_3 20 rfl rfl)
theorem dX0_digest_93 : decode cX0_digest 93 = .ok (.aload 5, 2) := dk_25 5 (dk_at dksX0_digest_3 21 rfl rfl)
theorem dX0_digest_95 : decode cX0_digest 95 = .ok (.getfield 230, 3) := dk_180 0 230 (dk_at dksX0_digest_4 0 rfl rfl)
theorem dX0_digest_98 : decode cX0_digest 98 = .ok (.i2l, 1) := dk_133 (dk_at dksX0_digest_4 3 rfl rfl)
theorem dX0_digest_99 : decode cX0_digest 99 = .ok (.ladd, 1) := dk_97 (dk_at dksX0_digest_4 4 rfl rfl)
theorem dX0_digest_100 : decode cX0_digest 100 = .ok (.lstore_n 1, 1) := dk_64 (dk_at dksX0_digest_4 5 rfl rfl)
theorem dX0_digest_101 : decode cX0_digest 101 = .ok (.ldc2_w 341, 3) := dk_20 1 85 (dk_at dksX0_digest_4 6 rfl rfl)
theorem dX0_digest_104 : decode cX0_digest 104 = .ok (.ldc2_w 341, 3) := dk_20 1 85 (dk_at dksX0_digest_4 9 rfl rfl)
theorem dX0_digest_107 : decode cX0_digest 107 = .ok (.ldc2_w 341, 3) := dk_20 1 85 (dk_at dksX0_digest_4 12 rfl rfl)
theorem dX0_digest_110 : decode cX0_digest 110 = .ok (.lload_n 1, 1) := dk_31 (dk_at dksX0_digest_4 15 rfl rfl)
theorem dX0_digest_111 : decode cX0_digest 111 = .ok (.lmul, 1) := dk_105 (dk_at dksX0_digest_4 16 rfl rfl)
theorem dX0_digest_112 : decode cX0_digest 112 = .ok (.aload 5, 2) := dk_25 5 (dk_at dksX0_digest_4 17 rfl rfl)
theorem dX0_digest_114 : decode cX0_digest 114 = .ok (.getfield 233, 3) := dk_180 0 233 (dk_at dksX0_digest_4 19 rfl rfl)
theorem dX0_digest_117 : decode cX0_digest 117 = .ok (.i2l, 1) := dk_133 (dk_at dksX0_digest_4 22 rfl rfl)
theorem dX0_digest_118 : decode cX0_digest 118 = .ok (.ladd, 1) := dk_97 (dk_at dksX0_digest_4 23 rfl rfl)
theorem dX0_digest_119 : decode cX0_digest 119 = .ok (.lmul, 1) := dk_105 (dk_at dksX0_digest_5 0 rfl rfl)
theorem dX0_digest_120 : decode cX0_digest 120 = .ok (.aload_n 3, 1) := dk_45 (dk_at dksX0_digest_5 1 rfl rfl)
theorem dX0_digest_121 : decode cX0_digest 121 = .ok (.getfield 168, 3) := dk_180 0 168 (dk_at dksX0_digest_5 2 rfl rfl)
theorem dX0_digest_124 : decode cX0_digest 124 = .ok (.iload 4, 2) := dk_21 4 (dk_at dksX0_digest_5 5 rfl rfl)
theorem dX0_digest_126 : decode cX0_digest 126 = .ok (.iaload, 1) := dk_46 (dk_at dksX0_digest_5 7 rfl rfl)
theorem dX0_digest_127 : decode cX0_digest 127 = .ok (.i2l, 1) := dk_133 (dk_at dksX0_digest_5 8 rfl rfl)
theorem dX0_digest_128 : decode cX0_digest 128 = .ok (.ladd, 1) := dk_97 (dk_at dksX0_digest_5 9 rfl rfl)
theorem dX0_digest_129 : decode cX0_digest 129 = .ok (.lmul, 1) := dk_105 (dk_at dksX0_digest_5 10 rfl rfl)
theorem dX0_digest_130 : decode cX0_digest 130 = .ok (.aload_n 0, 1) := dk_42 (dk_at dksX0_digest_5 11 rfl rfl)
theorem dX0_digest_131 : decode cX0_digest 131 = .ok (.getfield 30, 3) := dk_180 0 30 (dk_at dksX0_digest_5 12 rfl rfl)
theorem dX0_digest_134 : decode cX0_digest 134 = .ok (.getfield 137, 3) := dk_180 0 137 (dk_at dksX0_digest_5 15 rfl rfl)
theorem dX0_digest_137 : decode cX0_digest 137 = .ok (.iload 4, 2) := dk_21 4 (dk_at dksX0_digest_5 18 rfl rfl)
theorem dX0_digest_139 : decode cX0_digest 139 = .ok (.iaload, 1) := dk_46 (dk_at dksX0_digest_5 20 rfl rfl)
theorem dX0_digest_140 : decode cX0_digest 140 = .ok (.i2l, 1) := dk_133 (dk_at dksX0_digest_5 21 rfl rfl)
theorem dX0_digest_141 : decode cX0_digest 141 = .ok (.ladd, 1) := dk_97 (dk_at dksX0_digest_5 22 rfl rfl)
theorem dX0_digest_142 : decode cX0_digest 142 = .ok (.lstore_n 1, 1) := dk_64 (dk_at dksX0_digest_5 23 rfl rfl)
theorem dX0_digest_143 : decode cX0_digest 143 = .ok (.iinc 4 1, 3) := dk_132 4 1 (dk_at dksX0_digest_6 0 rfl rfl)
theorem dX0_digest_146 : decode cX0_digest 146 = .ok (.goto (-104), 3) := dk_167 255 152 (dk_at dksX0_digest_6 3 rfl rfl)
theorem dX0_digest_149 : decode cX0_digest 149 = .ok (.iconst 0, 1) := dk_3 (dk_at dksX0_digest_6 6 rfl rfl)
theorem dX0_digest_150 : decode cX0_digest 150 = .ok (.istore 4, 2) := dk_54 4 (dk_at dksX0_digest_6 7 rfl rfl)
theorem dX0_digest_152 : decode cX0_digest 152 = .ok (.iload 4, 2) := dk_21 4 (dk_at dksX0_digest_6 9 rfl rfl)
theorem dX0_digest_154 : decode cX0_digest 154 = .ok (.aload_n 0, 1) := dk_42 (dk_at dksX0_digest_6 11 rfl rfl)
theorem dX0_digest_155 : decode cX0_digest 155 = .ok (.getfield 30, 3) := dk_180 0 30 (dk_at dksX0_digest_6 12 rfl rfl)
theorem dX0_digest_158 : decode cX0_digest 158 = .ok (.getfield 93, 3) := dk_180 0 93 (dk_at dksX0_digest_6 15 rfl rfl)
theorem dX0_digest_161 : decode cX0_digest 161 = .ok (.if_icmp .ge 56, 3) := dk_162 0 56 (dk_at dksX0_digest_6 18 rfl rfl)
theorem dX0_digest_164 : decode cX0_digest 164 = .ok (.ldc2_w 341, 3) := dk_20 1 85 (dk_at dksX0_digest_6 21 rfl rfl)
theorem dX0_digest_167 : decode cX0_digest 167 = .ok (.ldc2_w 341, 3) := dk_20 1 85 (dk_at dksX0_digest_7 0 rfl rfl)
theorem dX0_digest_170 : decode cX0_digest 170 = .ok (.ldc2_w 341, 3) := dk_20 1 85 (dk_at dksX0_digest_7 3 rfl rfl)
theorem dX0_digest_173 : decode cX0_digest 173 = .ok (.lload_n 1, 1) := dk_31 (dk_at dksX0_digest_7 6 rfl rfl)
theorem dX0_digest_174 : decode cX0_digest 174 = .ok (.lmul, 1) := dk_105 (dk_at dksX0_digest_7 7 rfl rfl)
theorem dX0_digest_175 : decode cX0_digest 175 = .ok (.aload_n 0, 1) := dk_42 (dk_at dksX0_digest_7 8 rfl rfl)
theorem dX0_digest_176 : decode cX0_digest 176 = .ok (.getfield 30, 3) := dk_180 0 30 (dk_at dksX0_digest_7 9 rfl rfl)
theorem dX0_digest_179 : decode cX0_digest 179 = .ok (.getfield 177, 3) := dk_180 0 177 (dk_at dksX0_digest_7 12 rfl rfl)
theorem dX0_digest_182 : decode cX0_digest 182 = .ok (.iload 4, 2) := dk_21 4 (dk_at dksX0_digest_7 15 rfl rfl)
theorem dX0_digest_184 : decode cX0_digest 184 = .ok (.iaload, 1) := dk_46 (dk_at dksX0_digest_7 17 rfl rfl)
theorem dX0_digest_185 : decode cX0_digest 185 = .ok (.i2l, 1) := dk_133 (dk_at dksX0_digest_7 18 rfl rfl)
theorem dX0_digest_186 : decode cX0_digest 186 = .ok (.ladd, 1) := dk_97 (dk_at dksX0_digest_7 19 rfl rfl)
theorem dX0_digest_187 : decode cX0_digest 187 = .ok (.lmul, 1) := dk_105 (dk_at dksX0_digest_7 20 rfl rfl)
theorem dX0_digest_188 : decode cX0_digest 188 = .ok (.aload_n 3, 1) := dk_45 (dk_at dksX0_digest_7 21 rfl rfl)
theorem dX0_digest_189 : decode cX0_digest 189 = .ok (.getfield 186, 3) := dk_180 0 186 (dk_at dksX0_digest_8 0 rfl rfl)
theorem dX0_digest_192 : decode cX0_digest 192 = .ok (.iload 4, 2) := dk_21 4 (dk_at dksX0_digest_8 3 rfl rfl)
theorem dX0_digest_194 : decode cX0_digest 194 = .ok (.iaload, 1) := dk_46 (dk_at dksX0_digest_8 5 rfl rfl)
theorem dX0_digest_195 : decode cX0_digest 195 = .ok (.i2l, 1) := dk_133 (dk_at dksX0_digest_8 6 rfl rfl)
theorem dX0_digest_196 : decode cX0_digest 196 = .ok (.ladd, 1) := dk_97 (dk_at dksX0_digest_8 7 rfl rfl)
theorem dX0_digest_197 : decode cX0_digest 197 = .ok (.lmul, 1) := dk_105 (dk_at dksX0_digest_8 8 rfl rfl)
theorem dX0_digest_198 : decode cX0_digest 198 = .ok (.aload_n 0, 1) := dk_42 (dk_at dksX0_digest_8 9 rfl rfl)
theorem dX0_digest_199 : decode cX0_digest 199 = .ok (.getfield 30, 3) := dk_180 0 30 (dk_at dksX0_digest_8 10 rfl rfl)
theorem dX0_digest_202 : decode cX0_digest 202 = .ok (.getfield 241, 3) := dk_180 0 241 (dk_at dksX0_digest_8 13 rfl rfl)
theorem dX0_digest_205 : decode cX0_digest 205 = .ok (.iload 4, 2) := dk_21 4 (dk_at dksX0_digest_8 16 rfl rfl)
theorem dX0_digest_207 : decode cX0_digest 207 = .ok (.iaload, 1) := dk_46 (dk_at dksX0_digest_8 18 rfl rfl)
theorem dX0_digest_208 : decode cX0_digest 208 = .ok (.i2l, 1) := dk_133 (dk_at dksX0_digest_8 19 rfl rfl)
theorem dX0_digest_209 : decode cX0_digest 209 = .ok (.ladd, 1) := dk_97 (dk_at dksX0_digest_8 20 rfl rfl)
theorem dX0_digest_210 : decode cX0_digest 210 = .ok (.lstore_n 1, 1) := dk_64 (dk_at dksX0_digest_8 21 rfl rfl)
theorem dX0_digest_211 : decode cX0_digest 211 = .ok (.iinc 4 1, 3) := dk_132 4 1 (dk_at dksX0_digest_9 0 rfl rfl)
theorem dX0_digest_214 : decode cX0_digest 214 = .ok (.goto (-62), 3) := dk_167 255 194 (dk_at dksX0_digest_9 3 rfl rfl)
theorem dX0_digest_217 : decode cX0_digest 217 = .ok (.iconst 0, 1) := dk_3 (dk_at dksX0_digest_9 6 rfl rfl)
theorem dX0_digest_218 : decode cX0_digest 218 = .ok (.istore 4, 2) := dk_54 4 (dk_at dksX0_digest_9 7 rfl rfl)
theorem dX0_digest_220 : decode cX0_digest 220 = .ok (.iload 4, 2) := dk_21 4 (dk_at dksX0_digest_9 9 rfl rfl)
theorem dX0_digest_222 : decode cX0_digest 222 = .ok (.iconst 3, 1) := dk_6 (dk_at dksX0_digest_9 11 rfl rfl)
theorem dX0_digest_223 : decode cX0_digest 223 = .ok (.aload_n 3, 1) := dk_45 (dk_at dksX0_digest_9 12 rfl rfl)
theorem dX0_digest_224 : decode cX0_digest 224 = .ok (.getfield 284, 3) := dk_180 1 28 (dk_at dksX0_digest_9 13 rfl rfl)
theorem dX0_digest_227 : decode cX0_digest 227 = .ok (.imul, 1) := dk_104 (dk_at dksX0_digest_9 16 rfl rfl)
theorem dX0_digest_228 : decode cX0_digest 228 = .ok (.if_icmp .ge 24, 3) := dk_162 0 24 (dk_at dksX0_digest_9 17 rfl rfl)
theorem dX0_digest_231 : decode cX0_digest 231 = .ok (.ldc2_w 341, 3) := dk_20 1 85 (dk_at dksX0_digest_9 20 rfl rfl)
theorem dX0_digest_234 : decode cX0_digest 234 = .ok (.lload_n 1, 1) := dk_31 (dk_at dksX0_digest_9 23 rfl rfl)
theorem dX0_digest_235 : decode cX0_digest 235 = .ok (.lmul, 1) := dk_105 (dk_at dksX0_digest_10 0 rfl rfl)
theorem dX0_digest_236 : decode cX0_digest 236 = .ok (.aload_n 3, 1) := dk_45 (dk_at dksX0_digest_10 1 rfl rfl)
theorem dX0_digest_237 : decode cX0_digest 237 = .ok (.getfield 287, 3) := dk_180 1 31 (dk_at dksX0_digest_10 2 rfl rfl)
theorem dX0_digest_240 : decode cX0_digest 240 = .ok (.iload 4, 2) := dk_21 4 (dk_at dksX0_digest_10 5 rfl rfl)
theorem dX0_digest_242 : decode cX0_digest 242 = .ok (.iaload, 1) := dk_46 (dk_at dksX0_digest_10 7 rfl rfl)
theorem dX0_digest_243 : decode cX0_digest 243 = .ok (.i2l, 1) := dk_133 (dk_at dksX0_digest_10 8 rfl rfl)
theorem dX0_digest_244 : decode cX0_digest 244 = .ok (.ladd, 1) := dk_97 (dk_at dksX0_digest_10 9 rfl rfl)
theorem dX0_digest_245 : decode cX0_digest 245 = .ok (.lstore_n 1, 1) := dk_64 (dk_at dksX0_digest_10 10 rfl rfl)
theorem dX0_digest_246 : decode cX0_digest 246 = .ok (.iinc 4 1, 3) := dk_132 4 1 (dk_at dksX0_digest_10 11 rfl rfl)
theorem dX0_digest_249 : decode cX0_digest 249 = .ok (.goto (-29), 3) := dk_167 255 227 (dk_at dksX0_digest_10 14 rfl rfl)
theorem dX0_digest_252 : decode cX0_digest 252 = .ok (.iconst 0, 1) := dk_3 (dk_at dksX0_digest_10 17 rfl rfl)
theorem dX0_digest_253 : decode cX0_digest 253 = .ok (.istore 4, 2) := dk_54 4 (dk_at dksX0_digest_10 18 rfl rfl)
theorem dX0_digest_255 : decode cX0_digest 255 = .ok (.iload 4, 2) := dk_21 4 (dk_at dksX0_digest_10 20 rfl rfl)
theorem dX0_digest_257 : decode cX0_digest 257 = .ok (.iconst 3, 1) := dk_6 (dk_at dksX0_digest_10 22 rfl rfl)
theorem dX0_digest_258 : decode cX0_digest 258 = .ok (.aload_n 0, 1) := dk_42 (dk_at dksX0_digest_10 23 rfl rfl)
theorem dX0_digest_259 : decode cX0_digest 259 = .ok (.getfield 30, 3) := dk_180 0 30 (dk_at dksX0_digest_11 0 rfl rfl)
theorem dX0_digest_262 : decode cX0_digest 262 = .ok (.getfield 290, 3) := dk_180 1 34 (dk_at dksX0_digest_11 3 rfl rfl)
theorem dX0_digest_265 : decode cX0_digest 265 = .ok (.imul, 1) := dk_104 (dk_at dksX0_digest_11 6 rfl rfl)
theorem dX0_digest_266 : decode cX0_digest 266 = .ok (.if_icmp .ge 27, 3) := dk_162 0 27 (dk_at dksX0_digest_11 7 rfl rfl)
theorem dX0_digest_269 : decode cX0_digest 269 = .ok (.ldc2_w 341, 3) := dk_20 1 85 (dk_at dksX0_digest_11 10 rfl rfl)
theorem dX0_digest_272 : decode cX0_digest 272 = .ok (.lload_n 1, 1) := dk_31 (dk_at dksX0_digest_11 13 rfl rfl)
theorem dX0_digest_273 : decode cX0_digest 273 = .ok (.lmul, 1) := dk_105 (dk_at dksX0_digest_11 14 rfl rfl)
theorem dX0_digest_274 : decode cX0_digest 274 = .ok (.aload_n 0, 1) := dk_42 (dk_at dksX0_digest_11 15 rfl rfl)
theorem dX0_digest_275 : decode cX0_digest 275 = .ok (.getfield 30, 3) := dk_180 0 30 (dk_at dksX0_digest_11 16 rfl rfl)
theorem dX0_digest_278 : decode cX0_digest 278 = .ok (.getfield 293, 3) := dk_180 1 37 (dk_at dksX0_digest_11 19 rfl rfl)
theorem dX0_digest_281 : decode cX0_digest 281 = .ok (.iload 4, 2) := dk_21 4 (dk_at dksX0_digest_11 22 rfl rfl)
theorem dX0_digest_283 : decode cX0_digest 283 = .ok (.iaload, 1) := dk_46 (dk_at dksX0_digest_12 0 rfl rfl)
theorem dX0_digest_284 : decode cX0_digest 284 = .ok (.i2l, 1) := dk_133 (dk_at dksX0_digest_12 1 rfl rfl)
theorem dX0_digest_285 : decode cX0_digest 285 = .ok (.ladd, 1) := dk_97 (dk_at dksX0_digest_12 2 rfl rfl)
theorem dX0_digest_286 : decode cX0_digest 286 = .ok (.lstore_n 1, 1) := dk_64 (dk_at dksX0_digest_12 3 rfl rfl)
theorem dX0_digest_287 : decode cX0_digest 287 = .ok (.iinc 4 1, 3) := dk_132 4 1 (dk_at dksX0_digest_12 4 rfl rfl)
theorem dX0_digest_290 : decode cX0_digest 290 = .ok (.goto (-35), 3) := dk_167 255 221 (dk_at dksX0_digest_12 7 rfl rfl)
theorem dX0_digest_293 : decode cX0_digest 293 = .ok (.ldc2_w 341, 3) := dk_20 1 85 (dk_at dksX0_digest_12 10 rfl rfl)
theorem dX0_digest_296 : decode cX0_digest 296 = .ok (.ldc2_w 341, 3) := dk_20 1 85 (dk_at dksX0_digest_12 13 rfl rfl)
theorem dX0_digest_299 : decode cX0_digest 299 = .ok (.lload_n 1, 1) := dk_31 (dk_at dksX0_digest_12 16 rfl rfl)
theorem dX0_digest_300 : decode cX0_digest 300 = .ok (.lmul, 1) := dk_105 (dk_at dksX0_digest_12 17 rfl rfl)
theorem dX0_digest_301 : decode cX0_digest 301 = .ok (.aload_n 0, 1) := dk_42 (dk_at dksX0_digest_12 18 rfl rfl)
theorem dX0_digest_302 : decode cX0_digest 302 = .ok (.getfield 314, 3) := dk_180 1 58 (dk_at dksX0_digest_12 19 rfl rfl)
theorem dX0_digest_305 : decode cX0_digest 305 = .ok (.ladd, 1) := dk_97 (dk_at dksX0_digest_12 22 rfl rfl)
theorem dX0_digest_306 : decode cX0_digest 306 = .ok (.lmul, 1) := dk_105 (dk_at dksX0_digest_12 23 rfl rfl)
theorem dX0_digest_307 : decode cX0_digest 307 = .ok (.aload_n 0, 1) := dk_42 (dk_at dksX0_digest_13 0 rfl rfl)
theorem dX0_digest_308 : decode cX0_digest 308 = .ok (.getfield 51, 3) := dk_180 0 51 (dk_at dksX0_digest_13 1 rfl rfl)
theorem dX0_digest_311 : decode cX0_digest 311 = .ok (.ladd, 1) := dk_97 (dk_at dksX0_digest_13 4 rfl rfl)
theorem dX0_digest_312 : decode cX0_digest 312 = .ok (.lreturn, 1) := dk_173 (dk_at dksX0_digest_13 5 rfl rfl)
theorem q61 : (Jvm.Cond.initialized "RentedViews") ∈ lw_all := lw_g (lw_at lw_m1 1 rfl) rfl
theorem q84 : (Jvm.Cond.instantiable "RentedViews" (14 : Nat)) ∈ lw_all := lw_g (lw_at lw_m1 24 rfl) rfl
theorem q86 : (Jvm.Cond.instanceMethod ({ cls := "RentedViews", name := "<init>", desc := "()V" } : Jvm.MethodName)) ∈ lw_all := lw_g (lw_at lw_m1 26 rfl) rfl
theorem q87 : (Jvm.Cond.code ({ cls := "RentedViews", name := "<init>", desc := "()V" } : Jvm.MethodName) prog_1_method_3_code (1 : Nat) (Option.none : Option Jvm.ClassFile.FieldType)) ∈ lw_all := lw_g (lw_at lw_m1 27 rfl) rfl
theorem q88 : (Jvm.Cond.methodLink "RentedViews" (22 : Nat) ({ cls := "java/lang/Object", name := "<init>", desc := "()V" } : Jvm.MethodName)) ∈ lw_all := lw_g (lw_at lw_m1 28 rfl) rfl
theorem q91 : (Jvm.Cond.classLink "RentedViews" (27 : Nat) "RentedViews$Shop") ∈ lw_all := lw_g (lw_at lw_m1 31 rfl) rfl
theorem q93 : (Jvm.Cond.methodLinkNest "RentedViews" (29 : Nat) ({ cls := "RentedViews$Shop", name := "<init>", desc := "()V" } : Jvm.MethodName) "RentedViews") ∈ lw_tbl := lw_at lw_m1 33 rfl
theorem q107 : (Jvm.Cond.fieldLinkNest "RentedViews" (186 : Nat) "RentedViews$State" "purses" "[I" "RentedViews") ∈ lw_tbl := lw_at lw_m1 47 rfl
theorem q110 : (Jvm.Cond.fieldLinkNest "RentedViews" (168 : Nat) "RentedViews$State" "let" "[I" "RentedViews") ∈ lw_tbl := lw_at lw_m1 50 rfl
theorem q113 : (Jvm.Cond.fieldLinkNest "RentedViews" (195 : Nat) "RentedViews$State" "takings" "I" "RentedViews") ∈ lw_tbl := lw_at lw_m1 53 rfl
theorem q116 : (Jvm.Cond.fieldLinkNest "RentedViews" (208 : Nat) "RentedViews$State" "evening" "I" "RentedViews") ∈ lw_tbl := lw_at lw_m1 56 rfl
theorem q118 : (Jvm.Cond.fieldLinkNest "RentedViews" (287 : Nat) "RentedViews$State" "history" "[I" "RentedViews") ∈ lw_tbl := lw_at lw_m1 58 rfl
theorem q121 : (Jvm.Cond.fieldLinkNest "RentedViews" (284 : Nat) "RentedViews$State" "told" "I" "RentedViews") ∈ lw_tbl := lw_at lw_m1 61 rfl
theorem q139 : (Jvm.Cond.fieldLinkNest "RentedViews" (164 : Nat) "RentedViews$Shop" "views" "[LRentedViews$View;" "RentedViews") ∈ lw_tbl := lw_at lw_m1 79 rfl
theorem q142 : (Jvm.Cond.fieldLinkNest "RentedViews" (137 : Nat) "RentedViews$Shop" "things" "[I" "RentedViews") ∈ lw_tbl := lw_at lw_m1 82 rfl
theorem q145 : (Jvm.Cond.fieldLinkNest "RentedViews" (85 : Nat) "RentedViews$Shop" "many" "I" "RentedViews") ∈ lw_tbl := lw_at lw_m1 85 rfl
theorem q148 : (Jvm.Cond.fieldLinkNest "RentedViews" (177 : Nat) "RentedViews$Shop" "walls" "[I" "RentedViews") ∈ lw_tbl := lw_at lw_m1 88 rfl
theorem q150 : (Jvm.Cond.fieldLinkNest "RentedViews" (241 : Nat) "RentedViews$Shop" "wants" "[I" "RentedViews") ∈ lw_tbl := lw_at lw_m1 90 rfl
theorem q154 : (Jvm.Cond.fieldLinkNest "RentedViews" (93 : Nat) "RentedViews$Shop" "renters" "I" "RentedViews") ∈ lw_tbl := lw_at lw_m1 94 rfl
theorem q156 : (Jvm.Cond.fieldLinkNest "RentedViews" (293 : Nat) "RentedViews$Shop" "readings" "[I" "RentedViews") ∈ lw_tbl := lw_at lw_m1 96 rfl
theorem q158 : (Jvm.Cond.fieldLinkNest "RentedViews" (290 : Nat) "RentedViews$Shop" "read" "I" "RentedViews") ∈ lw_tbl := lw_at lw_m1 98 rfl
theorem q160 : (Jvm.Cond.fieldLinkNest "RentedViews" (160 : Nat) "RentedViews$Shop" "now" "LRentedViews$State;" "RentedViews") ∈ lw_tbl := lw_at lw_m1 100 rfl
theorem q162 : (Jvm.Cond.fieldLinkNest "RentedViews" (214 : Nat) "RentedViews$Shop" "was" "[LRentedViews$State;" "RentedViews") ∈ lw_tbl := lw_at lw_m1 102 rfl
theorem q164 : (Jvm.Cond.fieldLinkNest "RentedViews" (211 : Nat) "RentedViews$Shop" "undos" "I" "RentedViews") ∈ lw_tbl := lw_at lw_m1 104 rfl
theorem q189 : (Jvm.Cond.classLink "RentedViews" (55 : Nat) "RentedViews$Reader") ∈ lw_all := lw_g (lw_at lw_m1 129 rfl) rfl
theorem q191 : (Jvm.Cond.methodLinkNest "RentedViews" (57 : Nat) ({ cls := "RentedViews$Reader", name := "<init>", desc := "(LRentedViews;)V" } : Jvm.MethodName) "RentedViews") ∈ lw_tbl := lw_at lw_m1 131 rfl
theorem q215 : (Jvm.Cond.classLink "RentedViews" (64 : Nat) "RentedViews$Best") ∈ lw_all := lw_g (lw_at lw_m1 155 rfl) rfl
theorem q217 : (Jvm.Cond.methodLinkNest "RentedViews" (66 : Nat) ({ cls := "RentedViews$Best", name := "<init>", desc := "(LRentedViews;)V" } : Jvm.MethodName) "RentedViews") ∈ lw_tbl := lw_at lw_m1 157 rfl
theorem q223 : (Jvm.Cond.fieldLinkNest "RentedViews" (255 : Nat) "RentedViews$Best" "first" "[I" "RentedViews") ∈ lw_tbl := lw_at lw_m1 163 rfl
theorem q225 : (Jvm.Cond.fieldLinkNest "RentedViews" (254 : Nat) "RentedViews$Best" "many" "I" "RentedViews") ∈ lw_tbl := lw_at lw_m1 165 rfl
theorem q227 : (Jvm.Cond.fieldLinkNest "RentedViews" (258 : Nat) "RentedViews$Best" "money" "I" "RentedViews") ∈ lw_tbl := lw_at lw_m1 167 rfl
theorem q243 : (Jvm.Cond.methodLink "RentedViews" (78 : Nat) ({ cls := "RentedViews$Shop", name := "begins", desc := "()V" } : Jvm.MethodName)) ∈ lw_all := lw_g (lw_at lw_m1 183 rfl) rfl
theorem q248 : (Jvm.Cond.fieldLink "RentedViews" (30 : Nat) "RentedViews" "shop" "LRentedViews$Shop;") ∈ lw_all := lw_g (lw_at lw_m1 188 rfl) rfl
theorem q249 : (Jvm.Cond.fieldLink "RentedViews" (36 : Nat) "RentedViews" "aside" "LRentedViews$Shop;") ∈ lw_all := lw_g (lw_at lw_m1 189 rfl) rfl
theorem q251 : (Jvm.Cond.fieldLink "RentedViews" (39 : Nat) "RentedViews" "images" "[LRentedViews$Shop;") ∈ lw_all := lw_g (lw_at lw_m1 191 rfl) rfl
theorem q253 : (Jvm.Cond.fieldLink "RentedViews" (43 : Nat) "RentedViews" "text" "[B") ∈ lw_all := lw_g (lw_at lw_m1 193 rfl) rfl
theorem q255 : (Jvm.Cond.fieldLink "RentedViews" (142 : Nat) "RentedViews" "typed" "I") ∈ lw_all := lw_g (lw_at lw_m1 195 rfl) rfl
theorem q256 : (Jvm.Cond.fieldLink "RentedViews" (47 : Nat) "RentedViews" "refused" "[I") ∈ lw_all := lw_g (lw_at lw_m1 196 rfl) rfl
theorem q257 : (Jvm.Cond.fieldLink "RentedViews" (314 : Nat) "RentedViews" "above" "J") ∈ lw_all := lw_g (lw_at lw_m1 197 rfl) rfl
theorem q258 : (Jvm.Cond.fieldLink "RentedViews" (51 : Nat) "RentedViews" "below" "J") ∈ lw_all := lw_g (lw_at lw_m1 198 rfl) rfl
theorem q259 : (Jvm.Cond.fieldLink "RentedViews" (60 : Nat) "RentedViews" "reader" "LRentedViews$Reader;") ∈ lw_all := lw_g (lw_at lw_m1 199 rfl) rfl
theorem q260 : (Jvm.Cond.fieldLink "RentedViews" (67 : Nat) "RentedViews" "best" "LRentedViews$Best;") ∈ lw_all := lw_g (lw_at lw_m1 200 rfl) rfl
theorem q261 : (Jvm.Cond.fieldLink "RentedViews" (261 : Nat) "RentedViews" "suited" "I") ∈ lw_all := lw_g (lw_at lw_m1 201 rfl) rfl
theorem q262 : (Jvm.Cond.fieldLink "RentedViews" (264 : Nat) "RentedViews" "paid" "I") ∈ lw_all := lw_g (lw_at lw_m1 202 rfl) rfl
theorem q263 : (Jvm.Cond.fieldLink "RentedViews" (71 : Nat) "RentedViews" "pairs" "[Z") ∈ lw_all := lw_g (lw_at lw_m1 203 rfl) rfl
theorem q264 : (Jvm.Cond.fieldLink "RentedViews" (75 : Nat) "RentedViews" "alike" "[I") ∈ lw_all := lw_g (lw_at lw_m1 204 rfl) rfl
theorem q265 : (Jvm.Cond.laysFinal "RentedViews" "RentedViews" "shop" "LRentedViews$Shop;") ∈ lw_all := lw_g (lw_at lw_m1 205 rfl) rfl
theorem q266 : (Jvm.Cond.soleField "RentedViews" "shop") ∈ lw_all := lw_g (lw_at lw_m1 206 rfl) rfl
theorem q267 : (Jvm.Cond.laysFinal "RentedViews" "RentedViews" "aside" "LRentedViews$Shop;") ∈ lw_all := lw_g (lw_at lw_m1 207 rfl) rfl
theorem q268 : (Jvm.Cond.soleField "RentedViews" "aside") ∈ lw_all := lw_g (lw_at lw_m1 208 rfl) rfl
theorem q269 : (Jvm.Cond.laysFinal "RentedViews" "RentedViews" "images" "[LRentedViews$Shop;") ∈ lw_all := lw_g (lw_at lw_m1 209 rfl) rfl
theorem q270 : (Jvm.Cond.soleField "RentedViews" "images") ∈ lw_all := lw_g (lw_at lw_m1 210 rfl) rfl
theorem q271 : (Jvm.Cond.laysFinal "RentedViews" "RentedViews" "text" "[B") ∈ lw_all := lw_g (lw_at lw_m1 211 rfl) rfl
theorem q272 : (Jvm.Cond.soleField "RentedViews" "text") ∈ lw_all := lw_g (lw_at lw_m1 212 rfl) rfl
theorem q273 : (Jvm.Cond.lays "RentedViews" "RentedViews" "typed" "I") ∈ lw_all := lw_g (lw_at lw_m1 213 rfl) rfl
theorem q274 : (Jvm.Cond.soleField "RentedViews" "typed") ∈ lw_all := lw_g (lw_at lw_m1 214 rfl) rfl
theorem q275 : (Jvm.Cond.laysFinal "RentedViews" "RentedViews" "refused" "[I") ∈ lw_all := lw_g (lw_at lw_m1 215 rfl) rfl
theorem q276 : (Jvm.Cond.soleField "RentedViews" "refused") ∈ lw_all := lw_g (lw_at lw_m1 216 rfl) rfl
theorem q277 : (Jvm.Cond.lays "RentedViews" "RentedViews" "above" "J") ∈ lw_all := lw_g (lw_at lw_m1 217 rfl) rfl
theorem q278 : (Jvm.Cond.soleField "RentedViews" "above") ∈ lw_all := lw_g (lw_at lw_m1 218 rfl) rfl
theorem q279 : (Jvm.Cond.lays "RentedViews" "RentedViews" "below" "J") ∈ lw_all := lw_g (lw_at lw_m1 219 rfl) rfl
theorem q280 : (Jvm.Cond.soleField "RentedViews" "below") ∈ lw_all := lw_g (lw_at lw_m1 220 rfl) rfl
theorem q281 : (Jvm.Cond.laysFinal "RentedViews" "RentedViews" "reader" "LRentedViews$Reader;") ∈ lw_all := lw_g (lw_at lw_m1 221 rfl) rfl
theorem q282 : (Jvm.Cond.soleField "RentedViews" "reader") ∈ lw_all := lw_g (lw_at lw_m1 222 rfl) rfl
theorem q283 : (Jvm.Cond.laysFinal "RentedViews" "RentedViews" "best" "LRentedViews$Best;") ∈ lw_all := lw_g (lw_at lw_m1 223 rfl) rfl
theorem q284 : (Jvm.Cond.soleField "RentedViews" "best") ∈ lw_all := lw_g (lw_at lw_m1 224 rfl) rfl
theorem q285 : (Jvm.Cond.lays "RentedViews" "RentedViews" "suited" "I") ∈ lw_all := lw_g (lw_at lw_m1 225 rfl) rfl
theorem q286 : (Jvm.Cond.soleField "RentedViews" "suited") ∈ lw_all := lw_g (lw_at lw_m1 226 rfl) rfl
theorem q287 : (Jvm.Cond.lays "RentedViews" "RentedViews" "paid" "I") ∈ lw_all := lw_g (lw_at lw_m1 227 rfl) rfl
theorem q288 : (Jvm.Cond.soleField "RentedViews" "paid") ∈ lw_all := lw_g (lw_at lw_m1 228 rfl) rfl
theorem q289 : (Jvm.Cond.laysFinal "RentedViews" "RentedViews" "pairs" "[Z") ∈ lw_all := lw_g (lw_at lw_m1 229 rfl) rfl
theorem q290 : (Jvm.Cond.soleField "RentedViews" "pairs") ∈ lw_all := lw_g (lw_at lw_m1 230 rfl) rfl
theorem q291 : (Jvm.Cond.laysFinal "RentedViews" "RentedViews" "alike" "[I") ∈ lw_all := lw_g (lw_at lw_m1 231 rfl) rfl
theorem q292 : (Jvm.Cond.soleField "RentedViews" "alike") ∈ lw_all := lw_g (lw_at lw_m1 232 rfl) rfl
theorem q293 : (Jvm.Cond.superclass "RentedViews" "java/lang/Object") ∈ lw_all := lw_g (lw_at lw_m1 233 rfl) rfl
theorem q296 : (Jvm.Cond.instanceMethod ({ cls := "RentedViews", name := "shop", desc := "()I" } : Jvm.MethodName)) ∈ lw_all := lw_g (lw_at lw_m1 236 rfl) rfl
theorem q297 : (Jvm.Cond.selects "RentedViews" ({ cls := "RentedViews", name := "shop", desc := "()I" } : Jvm.MethodName) ({ cls := "RentedViews", name := "shop", desc := "()I" } : Jvm.MethodName)) ∈ lw_all := lw_g (lw_at lw_m1 237 rfl) rfl
theorem q298 : (Jvm.Cond.code ({ cls := "RentedViews", name := "shop", desc := "()I" } : Jvm.MethodName) prog_1_method_14_code (2 : Nat) (Option.some Jvm.ClassFile.FieldType.int)) ∈ lw_all := lw_g (lw_at lw_m1 238 rfl) rfl
theorem q300 : (Jvm.Cond.instanceMethod ({ cls := "RentedViews", name := "view", desc := "(IIII)I" } : Jvm.MethodName)) ∈ lw_all := lw_g (lw_at lw_m2 0 rfl) rfl
theorem q301 : (Jvm.Cond.selects "RentedViews" ({ cls := "RentedViews", name := "view", desc := "(IIII)I" } : Jvm.MethodName) ({ cls := "RentedViews", name := "view", desc := "(IIII)I" } : Jvm.MethodName)) ∈ lw_all := lw_g (lw_at lw_m2 1 rfl) rfl
theorem q302 : (Jvm.Cond.code ({ cls := "RentedViews", name := "view", desc := "(IIII)I" } : Jvm.MethodName) prog_1_method_15_code (5 : Nat) (Option.some Jvm.ClassFile.FieldType.int)) ∈ lw_all := lw_g (lw_at lw_m2 2 rfl) rfl
theorem q303 : (Jvm.Cond.constantLong "RentedViews" (98 : Nat) (5 : Int64)) ∈ lw_all := lw_g (lw_at lw_m2 3 rfl) rfl
theorem q304 : (Jvm.Cond.methodLink "RentedViews" (89 : Nat) ({ cls := "RentedViews", name := "in", desc := "(JJJ)Z" } : Jvm.MethodName)) ∈ lw_all := lw_g (lw_at lw_m2 4 rfl) rfl
theorem q305 : (Jvm.Cond.static ({ cls := "RentedViews", name := "in", desc := "(JJJ)Z" } : Jvm.MethodName)) ∈ lw_all := lw_g (lw_at lw_m2 5 rfl) rfl
theorem q306 : (Jvm.Cond.code ({ cls := "RentedViews", name := "in", desc := "(JJJ)Z" } : Jvm.MethodName) prog_1_method_1_code (6 : Nat) (Option.some Jvm.ClassFile.FieldType.boolean)) ∈ lw_all := lw_g (lw_at lw_m2 6 rfl) rfl
theorem q307 : (Jvm.Cond.constantLong "RentedViews" (100 : Nat) (9 : Int64)) ∈ lw_all := lw_g (lw_at lw_m2 7 rfl) rfl
theorem q308 : (Jvm.Cond.constantLong "RentedViews" (96 : Nat) (99 : Int64)) ∈ lw_all := lw_g (lw_at lw_m2 8 rfl) rfl
theorem q309 : (Jvm.Cond.methodLink "RentedViews" (106 : Nat) ({ cls := "RentedViews", name := "isWeather", desc := "(I)Z" } : Jvm.MethodName)) ∈ lw_all := lw_g (lw_at lw_m2 9 rfl) rfl
theorem q310 : (Jvm.Cond.static ({ cls := "RentedViews", name := "isWeather", desc := "(I)Z" } : Jvm.MethodName)) ∈ lw_all := lw_g (lw_at lw_m2 10 rfl) rfl
theorem q311 : (Jvm.Cond.code ({ cls := "RentedViews", name := "isWeather", desc := "(I)Z" } : Jvm.MethodName) prog_1_method_12_code (1 : Nat) (Option.some Jvm.ClassFile.FieldType.boolean)) ∈ lw_all := lw_g (lw_at lw_m2 11 rfl) rfl
theorem q312 : (Jvm.Cond.methodLink "RentedViews" (110 : Nat) ({ cls := "RentedViews", name := "bad", desc := "()I" } : Jvm.MethodName)) ∈ lw_all := lw_g (lw_at lw_m2 12 rfl) rfl
theorem q313 : (Jvm.Cond.privateMethod ({ cls := "RentedViews", name := "bad", desc := "()I" } : Jvm.MethodName)) ∈ lw_tbl := lw_at lw_m2 13 rfl
theorem q314 : (Jvm.Cond.instanceMethod ({ cls := "RentedViews", name := "bad", desc := "()I" } : Jvm.MethodName)) ∈ lw_all := lw_g (lw_at lw_m2 14 rfl) rfl
theorem q315 : (Jvm.Cond.code ({ cls := "RentedViews", name := "bad", desc := "()I" } : Jvm.MethodName) prog_1_method_5_code (1 : Nat) (Option.some Jvm.ClassFile.FieldType.int)) ∈ lw_all := lw_g (lw_at lw_m2 15 rfl) rfl
theorem q316 : (Jvm.Cond.methodLink "RentedViews" (81 : Nat) ({ cls := "RentedViews", name := "refuses", desc := "(II)I" } : Jvm.MethodName)) ∈ lw_all := lw_g (lw_at lw_m2 16 rfl) rfl
theorem q317 : (Jvm.Cond.privateMethod ({ cls := "RentedViews", name := "refuses", desc := "(II)I" } : Jvm.MethodName)) ∈ lw_tbl := lw_at lw_m2 17 rfl
theorem q318 : (Jvm.Cond.instanceMethod ({ cls := "RentedViews", name := "refuses", desc := "(II)I" } : Jvm.MethodName)) ∈ lw_all := lw_g (lw_at lw_m2 18 rfl) rfl
theorem q319 : (Jvm.Cond.code ({ cls := "RentedViews", name := "refuses", desc := "(II)I" } : Jvm.MethodName) prog_1_method_4_code (3 : Nat) (Option.some Jvm.ClassFile.FieldType.int)) ∈ lw_all := lw_g (lw_at lw_m2 19 rfl) rfl
theorem q320 : (Jvm.Cond.methodLink "RentedViews" (114 : Nat) ({ cls := "RentedViews", name := "full", desc := "()I" } : Jvm.MethodName)) ∈ lw_all := lw_g (lw_at lw_m2 20 rfl) rfl
theorem q321 : (Jvm.Cond.privateMethod ({ cls := "RentedViews", name := "full", desc := "()I" } : Jvm.MethodName)) ∈ lw_tbl := lw_at lw_m2 21 rfl
theorem q322 : (Jvm.Cond.instanceMethod ({ cls := "RentedViews", name := "full", desc := "()I" } : Jvm.MethodName)) ∈ lw_all := lw_g (lw_at lw_m2 22 rfl) rfl
theorem q323 : (Jvm.Cond.code ({ cls := "RentedViews", name := "full", desc := "()I" } : Jvm.MethodName) prog_1_method_7_code (1 : Nat) (Option.some Jvm.ClassFile.FieldType.int)) ∈ lw_all := lw_g (lw_at lw_m2 23 rfl) rfl
theorem q324 : (Jvm.Cond.methodLink "RentedViews" (117 : Nat) ({ cls := "RentedViews", name := "made", desc := "(IIII)LRentedViews$View;" } : Jvm.MethodName)) ∈ lw_all := lw_g (lw_at lw_m2 24 rfl) rfl
theorem q325 : (Jvm.Cond.static ({ cls := "RentedViews", name := "made", desc := "(IIII)LRentedViews$View;" } : Jvm.MethodName)) ∈ lw_all := lw_g (lw_at lw_m2 25 rfl) rfl
theorem q326 : (Jvm.Cond.code ({ cls := "RentedViews", name := "made", desc := "(IIII)LRentedViews$View;" } : Jvm.MethodName) prog_1_method_2_code (4 : Nat) (Option.some (Jvm.ClassFile.FieldType.object "RentedViews$View"))) ∈ lw_all := lw_g (lw_at lw_m2 26 rfl) rfl
theorem q327 : (Jvm.Cond.classLink "RentedViews" (1 : Nat) "RentedViews$Street") ∈ lw_all := lw_g (lw_at lw_m2 27 rfl) rfl
theorem q329 : (Jvm.Cond.methodLink "RentedViews" (3 : Nat) ({ cls := "RentedViews$Street", name := "<init>", desc := "(III)V" } : Jvm.MethodName)) ∈ lw_all := lw_g (lw_at lw_m2 29 rfl) rfl
theorem q337 : (Jvm.Cond.fieldLinkNest "RentedViews" (227 : Nat) "RentedViews$View" "size" "I" "RentedViews") ∈ lw_tbl := lw_at lw_m2 37 rfl
theorem q339 : (Jvm.Cond.fieldLinkNest "RentedViews" (230 : Nat) "RentedViews$View" "price" "I" "RentedViews") ∈ lw_tbl := lw_at lw_m2 39 rfl
theorem q341 : (Jvm.Cond.fieldLinkNest "RentedViews" (233 : Nat) "RentedViews$View" "weather" "I" "RentedViews") ∈ lw_tbl := lw_at lw_m2 41 rfl
theorem q349 : (Jvm.Cond.classLink "RentedViews" (7 : Nat) "RentedViews$Fire") ∈ lw_all := lw_g (lw_at lw_m2 49 rfl) rfl
theorem q351 : (Jvm.Cond.methodLink "RentedViews" (9 : Nat) ({ cls := "RentedViews$Fire", name := "<init>", desc := "(III)V" } : Jvm.MethodName)) ∈ lw_all := lw_g (lw_at lw_m2 51 rfl) rfl
theorem q359 : (Jvm.Cond.classLink "RentedViews" (10 : Nat) "RentedViews$Kitchen") ∈ lw_all := lw_g (lw_at lw_m2 59 rfl) rfl
theorem q361 : (Jvm.Cond.methodLink "RentedViews" (12 : Nat) ({ cls := "RentedViews$Kitchen", name := "<init>", desc := "(III)V" } : Jvm.MethodName)) ∈ lw_all := lw_g (lw_at lw_m2 61 rfl) rfl
theorem q369 : (Jvm.Cond.classLink "RentedViews" (13 : Nat) "RentedViews$Bricks") ∈ lw_all := lw_g (lw_at lw_m2 69 rfl) rfl
theorem q371 : (Jvm.Cond.methodLink "RentedViews" (15 : Nat) ({ cls := "RentedViews$Bricks", name := "<init>", desc := "(III)V" } : Jvm.MethodName)) ∈ lw_all := lw_g (lw_at lw_m2 71 rfl) rfl
theorem q379 : (Jvm.Cond.classLink "RentedViews" (16 : Nat) "RentedViews$Fogged") ∈ lw_all := lw_g (lw_at lw_m2 79 rfl) rfl
theorem q381 : (Jvm.Cond.methodLink "RentedViews" (18 : Nat) ({ cls := "RentedViews$Fogged", name := "<init>", desc := "(III)V" } : Jvm.MethodName)) ∈ lw_all := lw_g (lw_at lw_m2 81 rfl) rfl
theorem q389 : (Jvm.Cond.classLink "RentedViews" (19 : Nat) "RentedViews$View") ∈ lw_all := lw_g (lw_at lw_m2 89 rfl) rfl
theorem q391 : (Jvm.Cond.methodLink "RentedViews" (21 : Nat) ({ cls := "RentedViews$View", name := "<init>", desc := "(III)V" } : Jvm.MethodName)) ∈ lw_all := lw_g (lw_at lw_m2 91 rfl) rfl
theorem q396 : (Jvm.Cond.methodLink "RentedViews" (121 : Nat) ({ cls := "RentedViews$Shop", name := "hangs", desc := "(LRentedViews$View;)V" } : Jvm.MethodName)) ∈ lw_all := lw_g (lw_at lw_m2 96 rfl) rfl
theorem q401 : (Jvm.Cond.instanceMethod ({ cls := "RentedViews", name := "renter", desc := "(III)I" } : Jvm.MethodName)) ∈ lw_all := lw_g (lw_at lw_m2 101 rfl) rfl
theorem q402 : (Jvm.Cond.selects "RentedViews" ({ cls := "RentedViews", name := "renter", desc := "(III)I" } : Jvm.MethodName) ({ cls := "RentedViews", name := "renter", desc := "(III)I" } : Jvm.MethodName)) ∈ lw_all := lw_g (lw_at lw_m2 102 rfl) rfl
theorem q403 : (Jvm.Cond.code ({ cls := "RentedViews", name := "renter", desc := "(III)I" } : Jvm.MethodName) prog_1_method_16_code (4 : Nat) (Option.some Jvm.ClassFile.FieldType.int)) ∈ lw_all := lw_g (lw_at lw_m2 103 rfl) rfl
theorem q404 : (Jvm.Cond.methodLink "RentedViews" (125 : Nat) ({ cls := "RentedViews", name := "isOne", desc := "(III)Z" } : Jvm.MethodName)) ∈ lw_all := lw_g (lw_at lw_m2 104 rfl) rfl
theorem q405 : (Jvm.Cond.static ({ cls := "RentedViews", name := "isOne", desc := "(III)Z" } : Jvm.MethodName)) ∈ lw_all := lw_g (lw_at lw_m2 105 rfl) rfl
theorem q406 : (Jvm.Cond.code ({ cls := "RentedViews", name := "isOne", desc := "(III)Z" } : Jvm.MethodName) prog_1_method_13_code (3 : Nat) (Option.some Jvm.ClassFile.FieldType.boolean)) ∈ lw_all := lw_g (lw_at lw_m2 106 rfl) rfl
theorem q407 : (Jvm.Cond.constantLong "RentedViews" (102 : Nat) (999 : Int64)) ∈ lw_all := lw_g (lw_at lw_m2 107 rfl) rfl
theorem q408 : (Jvm.Cond.constantLong "RentedViews" (104 : Nat) (6 : Int64)) ∈ lw_all := lw_g (lw_at lw_m2 108 rfl) rfl
theorem q409 : (Jvm.Cond.methodLink "RentedViews" (129 : Nat) ({ cls := "RentedViews$Shop", name := "comes", desc := "(III)V" } : Jvm.MethodName)) ∈ lw_all := lw_g (lw_at lw_m2 109 rfl) rfl
theorem q414 : (Jvm.Cond.instanceMethod ({ cls := "RentedViews", name := "things", desc := "(II)I" } : Jvm.MethodName)) ∈ lw_all := lw_g (lw_at lw_m2 114 rfl) rfl
theorem q415 : (Jvm.Cond.selects "RentedViews" ({ cls := "RentedViews", name := "things", desc := "(II)I" } : Jvm.MethodName) ({ cls := "RentedViews", name := "things", desc := "(II)I" } : Jvm.MethodName)) ∈ lw_all := lw_g (lw_at lw_m2 115 rfl) rfl
theorem q416 : (Jvm.Cond.code ({ cls := "RentedViews", name := "things", desc := "(II)I" } : Jvm.MethodName) prog_1_method_17_code (4 : Nat) (Option.some Jvm.ClassFile.FieldType.int)) ∈ lw_all := lw_g (lw_at lw_m2 116 rfl) rfl
theorem q417 : (Jvm.Cond.methodLink "RentedViews" (132 : Nat) ({ cls := "RentedViews", name := "isView", desc := "(I)Z" } : Jvm.MethodName)) ∈ lw_all := lw_g (lw_at lw_m2 117 rfl) rfl
theorem q418 : (Jvm.Cond.privateMethod ({ cls := "RentedViews", name := "isView", desc := "(I)Z" } : Jvm.MethodName)) ∈ lw_tbl := lw_at lw_m2 118 rfl
theorem q419 : (Jvm.Cond.instanceMethod ({ cls := "RentedViews", name := "isView", desc := "(I)Z" } : Jvm.MethodName)) ∈ lw_all := lw_g (lw_at lw_m2 119 rfl) rfl
theorem q420 : (Jvm.Cond.code ({ cls := "RentedViews", name := "isView", desc := "(I)Z" } : Jvm.MethodName) prog_1_method_9_code (2 : Nat) (Option.some Jvm.ClassFile.FieldType.boolean)) ∈ lw_all := lw_g (lw_at lw_m2 120 rfl) rfl
theorem q421 : (Jvm.Cond.constantLong "RentedViews" (135 : Nat) (255 : Int64)) ∈ lw_all := lw_g (lw_at lw_m2 121 rfl) rfl
theorem q423 : (Jvm.Cond.instanceMethod ({ cls := "RentedViews", name := "type", desc := "(I)I" } : Jvm.MethodName)) ∈ lw_all := lw_g (lw_at lw_m2 123 rfl) rfl
theorem q424 : (Jvm.Cond.selects "RentedViews" ({ cls := "RentedViews", name := "type", desc := "(I)I" } : Jvm.MethodName) ({ cls := "RentedViews", name := "type", desc := "(I)I" } : Jvm.MethodName)) ∈ lw_all := lw_g (lw_at lw_m2 124 rfl) rfl
theorem q425 : (Jvm.Cond.code ({ cls := "RentedViews", name := "type", desc := "(I)I" } : Jvm.MethodName) prog_1_method_18_code (2 : Nat) (Option.some Jvm.ClassFile.FieldType.int)) ∈ lw_all := lw_g (lw_at lw_m2 125 rfl) rfl
theorem q426 : (Jvm.Cond.constantLong "RentedViews" (140 : Nat) (127 : Int64)) ∈ lw_all := lw_g (lw_at lw_m2 126 rfl) rfl
theorem q428 : (Jvm.Cond.instanceMethod ({ cls := "RentedViews", name := "clear", desc := "()I" } : Jvm.MethodName)) ∈ lw_all := lw_g (lw_at lw_m2 128 rfl) rfl
theorem q429 : (Jvm.Cond.selects "RentedViews" ({ cls := "RentedViews", name := "clear", desc := "()I" } : Jvm.MethodName) ({ cls := "RentedViews", name := "clear", desc := "()I" } : Jvm.MethodName)) ∈ lw_all := lw_g (lw_at lw_m2 129 rfl) rfl
theorem q430 : (Jvm.Cond.code ({ cls := "RentedViews", name := "clear", desc := "()I" } : Jvm.MethodName) prog_1_method_19_code (2 : Nat) (Option.some Jvm.ClassFile.FieldType.int)) ∈ lw_all := lw_g (lw_at lw_m2 130 rfl) rfl
theorem q432 : (Jvm.Cond.instanceMethod ({ cls := "RentedViews", name := "read", desc := "()I" } : Jvm.MethodName)) ∈ lw_all := lw_g (lw_at lw_m2 132 rfl) rfl
theorem q433 : (Jvm.Cond.selects "RentedViews" ({ cls := "RentedViews", name := "read", desc := "()I" } : Jvm.MethodName) ({ cls := "RentedViews", name := "read", desc := "()I" } : Jvm.MethodName)) ∈ lw_all := lw_g (lw_at lw_m2 133 rfl) rfl
theorem q434 : (Jvm.Cond.codeWith ({ cls := "RentedViews", name := "read", desc := "()I" } : Jvm.MethodName) prog_1_method_20_code (2 : Nat) (Option.some Jvm.ClassFile.FieldType.int) [((0 : Nat), (20 : Nat), (21 : Nat), (152 : Nat))]) ∈ lw_all := lw_g (lw_at lw_m2 134 rfl) rfl
theorem q435 : (Jvm.Cond.classLink "RentedViews" (152 : Nat) "RentedViews$Fault") ∈ lw_all := lw_g (lw_at lw_m2 135 rfl) rfl
theorem q436 : (Jvm.Cond.methodLink "RentedViews" (145 : Nat) ({ cls := "RentedViews$Reader", name := "reads", desc := "()I" } : Jvm.MethodName)) ∈ lw_all := lw_g (lw_at lw_m2 136 rfl) rfl
theorem q504 : (Jvm.Cond.fieldLinkNest "RentedViews" (154 : Nat) "RentedViews$Fault" "place" "I" "RentedViews") ∈ lw_tbl := lw_at lw_m2 204 rfl
theorem q588 : (Jvm.Cond.methodLink "RentedViews" (148 : Nat) ({ cls := "RentedViews$Shop", name := "takes", desc := "(LRentedViews$Shop;)V" } : Jvm.MethodName)) ∈ lw_all := lw_g (lw_at lw_m3 48 rfl) rfl
theorem q601 : (Jvm.Cond.instanceMethod ({ cls := "RentedViews", name := "let", desc := "(II)I" } : Jvm.MethodName)) ∈ lw_all := lw_g (lw_at lw_m3 61 rfl) rfl
theorem q602 : (Jvm.Cond.selects "RentedViews" ({ cls := "RentedViews", name := "let", desc := "(II)I" } : Jvm.MethodName) ({ cls := "RentedViews", name := "let", desc := "(II)I" } : Jvm.MethodName)) ∈ lw_all := lw_g (lw_at lw_m3 62 rfl) rfl
theorem q603 : (Jvm.Cond.code ({ cls := "RentedViews", name := "let", desc := "(II)I" } : Jvm.MethodName) prog_1_method_21_code (6 : Nat) (Option.some Jvm.ClassFile.FieldType.int)) ∈ lw_all := lw_g (lw_at lw_m3 63 rfl) rfl
theorem q604 : (Jvm.Cond.methodLink "RentedViews" (157 : Nat) ({ cls := "RentedViews", name := "isRenter", desc := "(I)Z" } : Jvm.MethodName)) ∈ lw_all := lw_g (lw_at lw_m3 64 rfl) rfl
theorem q605 : (Jvm.Cond.privateMethod ({ cls := "RentedViews", name := "isRenter", desc := "(I)Z" } : Jvm.MethodName)) ∈ lw_tbl := lw_at lw_m3 65 rfl
theorem q606 : (Jvm.Cond.instanceMethod ({ cls := "RentedViews", name := "isRenter", desc := "(I)Z" } : Jvm.MethodName)) ∈ lw_all := lw_g (lw_at lw_m3 66 rfl) rfl
theorem q607 : (Jvm.Cond.code ({ cls := "RentedViews", name := "isRenter", desc := "(I)Z" } : Jvm.MethodName) prog_1_method_10_code (2 : Nat) (Option.some Jvm.ClassFile.FieldType.boolean)) ∈ lw_all := lw_g (lw_at lw_m3 67 rfl) rfl
theorem q608 : (Jvm.Cond.methodLink "RentedViews" (173 : Nat) ({ cls := "RentedViews$Shop", name := "viewOf", desc := "(I)I" } : Jvm.MethodName)) ∈ lw_all := lw_g (lw_at lw_m3 68 rfl) rfl
theorem q612 : (Jvm.Cond.methodLink "RentedViews" (180 : Nat) ({ cls := "RentedViews$View", name := "fits", desc := "(I)Z" } : Jvm.MethodName)) ∈ lw_all := lw_g (lw_at lw_m3 72 rfl) rfl
theorem q624 : (Jvm.Cond.methodLink "RentedViews" (183 : Nat) ({ cls := "RentedViews$View", name := "lets", desc := "()I" } : Jvm.MethodName)) ∈ lw_all := lw_g (lw_at lw_m3 84 rfl) rfl
theorem q648 : (Jvm.Cond.methodLink "RentedViews" (189 : Nat) ({ cls := "RentedViews", name := "no", desc := "()I" } : Jvm.MethodName)) ∈ lw_all := lw_g (lw_at lw_m3 108 rfl) rfl
theorem q649 : (Jvm.Cond.privateMethod ({ cls := "RentedViews", name := "no", desc := "()I" } : Jvm.MethodName)) ∈ lw_tbl := lw_at lw_m3 109 rfl
theorem q650 : (Jvm.Cond.instanceMethod ({ cls := "RentedViews", name := "no", desc := "()I" } : Jvm.MethodName)) ∈ lw_all := lw_g (lw_at lw_m3 110 rfl) rfl
theorem q651 : (Jvm.Cond.code ({ cls := "RentedViews", name := "no", desc := "()I" } : Jvm.MethodName) prog_1_method_6_code (1 : Nat) (Option.some Jvm.ClassFile.FieldType.int)) ∈ lw_all := lw_g (lw_at lw_m3 111 rfl) rfl
theorem q652 : (Jvm.Cond.methodLink "RentedViews" (192 : Nat) ({ cls := "RentedViews$Shop", name := "remembers", desc := "()V" } : Jvm.MethodName)) ∈ lw_all := lw_g (lw_at lw_m3 112 rfl) rfl
theorem q656 : (Jvm.Cond.methodLink "RentedViews" (198 : Nat) ({ cls := "RentedViews$State", name := "tells", desc := "(II)V" } : Jvm.MethodName)) ∈ lw_all := lw_g (lw_at lw_m3 116 rfl) rfl
theorem q661 : (Jvm.Cond.instanceMethod ({ cls := "RentedViews", name := "night", desc := "()I" } : Jvm.MethodName)) ∈ lw_all := lw_g (lw_at lw_m3 121 rfl) rfl
theorem q662 : (Jvm.Cond.selects "RentedViews" ({ cls := "RentedViews", name := "night", desc := "()I" } : Jvm.MethodName) ({ cls := "RentedViews", name := "night", desc := "()I" } : Jvm.MethodName)) ∈ lw_all := lw_g (lw_at lw_m3 122 rfl) rfl
theorem q663 : (Jvm.Cond.code ({ cls := "RentedViews", name := "night", desc := "()I" } : Jvm.MethodName) prog_1_method_22_code (1 : Nat) (Option.some Jvm.ClassFile.FieldType.int)) ∈ lw_all := lw_g (lw_at lw_m3 123 rfl) rfl
theorem q664 : (Jvm.Cond.methodLink "RentedViews" (202 : Nat) ({ cls := "java/util/Arrays", name := "fill", desc := "([II)V" } : Jvm.MethodName)) ∈ lw_all := lw_g (lw_at lw_m3 124 rfl) rfl
theorem q668 : (Jvm.Cond.instanceMethod ({ cls := "RentedViews", name := "undo", desc := "()I" } : Jvm.MethodName)) ∈ lw_all := lw_g (lw_at lw_m3 128 rfl) rfl
theorem q669 : (Jvm.Cond.selects "RentedViews" ({ cls := "RentedViews", name := "undo", desc := "()I" } : Jvm.MethodName) ({ cls := "RentedViews", name := "undo", desc := "()I" } : Jvm.MethodName)) ∈ lw_all := lw_g (lw_at lw_m3 129 rfl) rfl
theorem q670 : (Jvm.Cond.code ({ cls := "RentedViews", name := "undo", desc := "()I" } : Jvm.MethodName) prog_1_method_23_code (1 : Nat) (Option.some Jvm.ClassFile.FieldType.int)) ∈ lw_all := lw_g (lw_at lw_m3 130 rfl) rfl
theorem q671 : (Jvm.Cond.methodLink "RentedViews" (218 : Nat) ({ cls := "RentedViews$State", name := "takes", desc := "(LRentedViews$State;)V" } : Jvm.MethodName)) ∈ lw_all := lw_g (lw_at lw_m3 131 rfl) rfl
theorem q673 : (Jvm.Cond.instanceMethod ({ cls := "RentedViews", name := "of", desc := "(II)I" } : Jvm.MethodName)) ∈ lw_all := lw_g (lw_at lw_m3 133 rfl) rfl
theorem q674 : (Jvm.Cond.selects "RentedViews" ({ cls := "RentedViews", name := "of", desc := "(II)I" } : Jvm.MethodName) ({ cls := "RentedViews", name := "of", desc := "(II)I" } : Jvm.MethodName)) ∈ lw_all := lw_g (lw_at lw_m3 134 rfl) rfl
theorem q675 : (Jvm.Cond.code ({ cls := "RentedViews", name := "of", desc := "(II)I" } : Jvm.MethodName) prog_1_method_24_code (4 : Nat) (Option.some Jvm.ClassFile.FieldType.int)) ∈ lw_all := lw_g (lw_at lw_m3 135 rfl) rfl
theorem q676 : (Jvm.Cond.methodLink "RentedViews" (221 : Nat) ({ cls := "RentedViews", name := "badAsk", desc := "()I" } : Jvm.MethodName)) ∈ lw_all := lw_g (lw_at lw_m3 136 rfl) rfl
theorem q677 : (Jvm.Cond.privateMethod ({ cls := "RentedViews", name := "badAsk", desc := "()I" } : Jvm.MethodName)) ∈ lw_tbl := lw_at lw_m3 137 rfl
theorem q678 : (Jvm.Cond.instanceMethod ({ cls := "RentedViews", name := "badAsk", desc := "()I" } : Jvm.MethodName)) ∈ lw_all := lw_g (lw_at lw_m3 138 rfl) rfl
theorem q679 : (Jvm.Cond.code ({ cls := "RentedViews", name := "badAsk", desc := "()I" } : Jvm.MethodName) prog_1_method_8_code (1 : Nat) (Option.some Jvm.ClassFile.FieldType.int)) ∈ lw_all := lw_g (lw_at lw_m3 139 rfl) rfl
theorem q680 : (Jvm.Cond.methodLink "RentedViews" (224 : Nat) ({ cls := "RentedViews$View", name := "kind", desc := "()I" } : Jvm.MethodName)) ∈ lw_all := lw_g (lw_at lw_m3 140 rfl) rfl
theorem q700 : (Jvm.Cond.methodLink "RentedViews" (236 : Nat) ({ cls := "RentedViews$View", name := "shows", desc := "(I)I" } : Jvm.MethodName)) ∈ lw_all := lw_g (lw_at lw_m3 160 rfl) rfl
theorem q729 : (Jvm.Cond.instanceMethod ({ cls := "RentedViews", name := "about", desc := "(II)I" } : Jvm.MethodName)) ∈ lw_all := lw_g (lw_at lw_m3 189 rfl) rfl
theorem q730 : (Jvm.Cond.selects "RentedViews" ({ cls := "RentedViews", name := "about", desc := "(II)I" } : Jvm.MethodName) ({ cls := "RentedViews", name := "about", desc := "(II)I" } : Jvm.MethodName)) ∈ lw_all := lw_g (lw_at lw_m3 190 rfl) rfl
theorem q731 : (Jvm.Cond.code ({ cls := "RentedViews", name := "about", desc := "(II)I" } : Jvm.MethodName) prog_1_method_25_code (4 : Nat) (Option.some Jvm.ClassFile.FieldType.int)) ∈ lw_all := lw_g (lw_at lw_m3 191 rfl) rfl
theorem q732 : (Jvm.Cond.constantLong "RentedViews" (239 : Nat) (3 : Int64)) ∈ lw_all := lw_g (lw_at lw_m3 192 rfl) rfl
theorem q734 : (Jvm.Cond.instanceMethod ({ cls := "RentedViews", name := "shows", desc := "(II)I" } : Jvm.MethodName)) ∈ lw_all := lw_g (lw_at lw_m3 194 rfl) rfl
theorem q735 : (Jvm.Cond.selects "RentedViews" ({ cls := "RentedViews", name := "shows", desc := "(II)I" } : Jvm.MethodName) ({ cls := "RentedViews", name := "shows", desc := "(II)I" } : Jvm.MethodName)) ∈ lw_all := lw_g (lw_at lw_m3 195 rfl) rfl
theorem q736 : (Jvm.Cond.code ({ cls := "RentedViews", name := "shows", desc := "(II)I" } : Jvm.MethodName) prog_1_method_26_code (3 : Nat) (Option.some Jvm.ClassFile.FieldType.int)) ∈ lw_all := lw_g (lw_at lw_m3 196 rfl) rfl
theorem q737 : (Jvm.Cond.methodLink "RentedViews" (244 : Nat) ({ cls := "RentedViews", name := "isEvening", desc := "(I)Z" } : Jvm.MethodName)) ∈ lw_all := lw_g (lw_at lw_m3 197 rfl) rfl
theorem q738 : (Jvm.Cond.static ({ cls := "RentedViews", name := "isEvening", desc := "(I)Z" } : Jvm.MethodName)) ∈ lw_all := lw_g (lw_at lw_m3 198 rfl) rfl
theorem q739 : (Jvm.Cond.code ({ cls := "RentedViews", name := "isEvening", desc := "(I)Z" } : Jvm.MethodName) prog_1_method_11_code (1 : Nat) (Option.some Jvm.ClassFile.FieldType.boolean)) ∈ lw_all := lw_g (lw_at lw_m3 199 rfl) rfl
theorem q741 : (Jvm.Cond.instanceMethod ({ cls := "RentedViews", name := "suits", desc := "(III)I" } : Jvm.MethodName)) ∈ lw_all := lw_g (lw_at lw_m3 201 rfl) rfl
theorem q742 : (Jvm.Cond.selects "RentedViews" ({ cls := "RentedViews", name := "suits", desc := "(III)I" } : Jvm.MethodName) ({ cls := "RentedViews", name := "suits", desc := "(III)I" } : Jvm.MethodName)) ∈ lw_all := lw_g (lw_at lw_m3 202 rfl) rfl
theorem q743 : (Jvm.Cond.code ({ cls := "RentedViews", name := "suits", desc := "(III)I" } : Jvm.MethodName) prog_1_method_27_code (4 : Nat) (Option.some Jvm.ClassFile.FieldType.int)) ∈ lw_all := lw_g (lw_at lw_m3 203 rfl) rfl
theorem q744 : (Jvm.Cond.methodLink "RentedViews" (247 : Nat) ({ cls := "RentedViews$Shop", name := "suits", desc := "(III)Z" } : Jvm.MethodName)) ∈ lw_all := lw_g (lw_at lw_m3 204 rfl) rfl
theorem q752 : (Jvm.Cond.instanceMethod ({ cls := "RentedViews", name := "best", desc := "(II)I" } : Jvm.MethodName)) ∈ lw_all := lw_g (lw_at lw_m3 212 rfl) rfl
theorem q753 : (Jvm.Cond.selects "RentedViews" ({ cls := "RentedViews", name := "best", desc := "(II)I" } : Jvm.MethodName) ({ cls := "RentedViews", name := "best", desc := "(II)I" } : Jvm.MethodName)) ∈ lw_all := lw_g (lw_at lw_m3 213 rfl) rfl
theorem q754 : (Jvm.Cond.code ({ cls := "RentedViews", name := "best", desc := "(II)I" } : Jvm.MethodName) prog_1_method_28_code (3 : Nat) (Option.some Jvm.ClassFile.FieldType.int)) ∈ lw_all := lw_g (lw_at lw_m3 214 rfl) rfl
theorem q755 : (Jvm.Cond.methodLink "RentedViews" (250 : Nat) ({ cls := "RentedViews$Best", name := "goes", desc := "(I)V" } : Jvm.MethodName)) ∈ lw_all := lw_g (lw_at lw_m3 215 rfl) rfl
theorem q767 : (Jvm.Cond.instanceMethod ({ cls := "RentedViews", name := "money", desc := "(I)I" } : Jvm.MethodName)) ∈ lw_all := lw_g (lw_at lw_m3 227 rfl) rfl
theorem q768 : (Jvm.Cond.selects "RentedViews" ({ cls := "RentedViews", name := "money", desc := "(I)I" } : Jvm.MethodName) ({ cls := "RentedViews", name := "money", desc := "(I)I" } : Jvm.MethodName)) ∈ lw_all := lw_g (lw_at lw_m3 228 rfl) rfl
theorem q769 : (Jvm.Cond.code ({ cls := "RentedViews", name := "money", desc := "(I)I" } : Jvm.MethodName) prog_1_method_29_code (2 : Nat) (Option.some Jvm.ClassFile.FieldType.int)) ∈ lw_all := lw_g (lw_at lw_m3 229 rfl) rfl
theorem q771 : (Jvm.Cond.instanceMethod ({ cls := "RentedViews", name := "come", desc := "(II)I" } : Jvm.MethodName)) ∈ lw_all := lw_g (lw_at lw_m3 231 rfl) rfl
theorem q772 : (Jvm.Cond.selects "RentedViews" ({ cls := "RentedViews", name := "come", desc := "(II)I" } : Jvm.MethodName) ({ cls := "RentedViews", name := "come", desc := "(II)I" } : Jvm.MethodName)) ∈ lw_all := lw_g (lw_at lw_m3 232 rfl) rfl
theorem q773 : (Jvm.Cond.code ({ cls := "RentedViews", name := "come", desc := "(II)I" } : Jvm.MethodName) prog_1_method_32_code (3 : Nat) (Option.some Jvm.ClassFile.FieldType.int)) ∈ lw_all := lw_g (lw_at lw_m3 233 rfl) rfl
theorem q774 : (Jvm.Cond.constantLong "RentedViews" (267 : Nat) (2 : Int64)) ∈ lw_all := lw_g (lw_at lw_m3 234 rfl) rfl
theorem q775 : (Jvm.Cond.methodLink "RentedViews" (269 : Nat) ({ cls := "RentedViews", name := "all", desc := "()I" } : Jvm.MethodName)) ∈ lw_all := lw_g (lw_at lw_m3 235 rfl) rfl
theorem q776 : (Jvm.Cond.privateMethod ({ cls := "RentedViews", name := "all", desc := "()I" } : Jvm.MethodName)) ∈ lw_tbl := lw_at lw_m3 236 rfl
theorem q777 : (Jvm.Cond.instanceMethod ({ cls := "RentedViews", name := "all", desc := "()I" } : Jvm.MethodName)) ∈ lw_all := lw_g (lw_at lw_m3 237 rfl) rfl
theorem q778 : (Jvm.Cond.code ({ cls := "RentedViews", name := "all", desc := "()I" } : Jvm.MethodName) prog_1_method_31_code (1 : Nat) (Option.some Jvm.ClassFile.FieldType.int)) ∈ lw_all := lw_g (lw_at lw_m3 238 rfl) rfl
theorem q779 : (Jvm.Cond.methodLink "RentedViews" (272 : Nat) ({ cls := "RentedViews", name := "comes", desc := "(II)V" } : Jvm.MethodName)) ∈ lw_all := lw_g (lw_at lw_m3 239 rfl) rfl
theorem q780 : (Jvm.Cond.privateMethod ({ cls := "RentedViews", name := "comes", desc := "(II)V" } : Jvm.MethodName)) ∈ lw_tbl := lw_at lw_m4 0 rfl
theorem q781 : (Jvm.Cond.instanceMethod ({ cls := "RentedViews", name := "comes", desc := "(II)V" } : Jvm.MethodName)) ∈ lw_all := lw_g (lw_at lw_m4 1 rfl) rfl
theorem q782 : (Jvm.Cond.code ({ cls := "RentedViews", name := "comes", desc := "(II)V" } : Jvm.MethodName) prog_1_method_30_code (8 : Nat) (Option.none : Option Jvm.ClassFile.FieldType)) ∈ lw_all := lw_g (lw_at lw_m4 2 rfl) rfl
theorem q784 : (Jvm.Cond.instanceMethod ({ cls := "RentedViews", name := "more", desc := "(IIII)I" } : Jvm.MethodName)) ∈ lw_all := lw_g (lw_at lw_m4 4 rfl) rfl
theorem q785 : (Jvm.Cond.selects "RentedViews" ({ cls := "RentedViews", name := "more", desc := "(IIII)I" } : Jvm.MethodName) ({ cls := "RentedViews", name := "more", desc := "(IIII)I" } : Jvm.MethodName)) ∈ lw_all := lw_g (lw_at lw_m4 5 rfl) rfl
theorem q786 : (Jvm.Cond.code ({ cls := "RentedViews", name := "more", desc := "(IIII)I" } : Jvm.MethodName) prog_1_method_33_code (8 : Nat) (Option.some Jvm.ClassFile.FieldType.int)) ∈ lw_all := lw_g (lw_at lw_m4 6 rfl) rfl
theorem q788 : (Jvm.Cond.instanceMethod ({ cls := "RentedViews", name := "changed", desc := "(II)I" } : Jvm.MethodName)) ∈ lw_all := lw_g (lw_at lw_m4 8 rfl) rfl
theorem q789 : (Jvm.Cond.selects "RentedViews" ({ cls := "RentedViews", name := "changed", desc := "(II)I" } : Jvm.MethodName) ({ cls := "RentedViews", name := "changed", desc := "(II)I" } : Jvm.MethodName)) ∈ lw_all := lw_g (lw_at lw_m4 9 rfl) rfl
theorem q790 : (Jvm.Cond.code ({ cls := "RentedViews", name := "changed", desc := "(II)I" } : Jvm.MethodName) prog_1_method_34_code (7 : Nat) (Option.some Jvm.ClassFile.FieldType.int)) ∈ lw_all := lw_g (lw_at lw_m4 10 rfl) rfl
theorem q791 : (Jvm.Cond.methodLink "RentedViews" (274 : Nat) ({ cls := "java/lang/Math", name := "max", desc := "(II)I" } : Jvm.MethodName)) ∈ lw_all := lw_g (lw_at lw_m4 11 rfl) rfl
theorem q795 : (Jvm.Cond.instanceMethod ({ cls := "RentedViews", name := "air", desc := "(I)I" } : Jvm.MethodName)) ∈ lw_all := lw_g (lw_at lw_m4 15 rfl) rfl
theorem q796 : (Jvm.Cond.selects "RentedViews" ({ cls := "RentedViews", name := "air", desc := "(I)I" } : Jvm.MethodName) ({ cls := "RentedViews", name := "air", desc := "(I)I" } : Jvm.MethodName)) ∈ lw_all := lw_g (lw_at lw_m4 16 rfl) rfl
theorem q797 : (Jvm.Cond.code ({ cls := "RentedViews", name := "air", desc := "(I)I" } : Jvm.MethodName) prog_1_method_36_code (2 : Nat) (Option.some Jvm.ClassFile.FieldType.int)) ∈ lw_all := lw_g (lw_at lw_m4 17 rfl) rfl
theorem q798 : (Jvm.Cond.methodLink "RentedViews" (279 : Nat) ({ cls := "RentedViews", name := "airOf", desc := "(II)I" } : Jvm.MethodName)) ∈ lw_all := lw_g (lw_at lw_m4 18 rfl) rfl
theorem q799 : (Jvm.Cond.privateMethod ({ cls := "RentedViews", name := "airOf", desc := "(II)I" } : Jvm.MethodName)) ∈ lw_tbl := lw_at lw_m4 19 rfl
theorem q800 : (Jvm.Cond.instanceMethod ({ cls := "RentedViews", name := "airOf", desc := "(II)I" } : Jvm.MethodName)) ∈ lw_all := lw_g (lw_at lw_m4 20 rfl) rfl
theorem q801 : (Jvm.Cond.code ({ cls := "RentedViews", name := "airOf", desc := "(II)I" } : Jvm.MethodName) prog_1_method_35_code (4 : Nat) (Option.some Jvm.ClassFile.FieldType.int)) ∈ lw_all := lw_g (lw_at lw_m4 21 rfl) rfl
theorem q803 : (Jvm.Cond.instanceMethod ({ cls := "RentedViews", name := "bring", desc := "(III)I" } : Jvm.MethodName)) ∈ lw_all := lw_g (lw_at lw_m4 23 rfl) rfl
theorem q804 : (Jvm.Cond.selects "RentedViews" ({ cls := "RentedViews", name := "bring", desc := "(III)I" } : Jvm.MethodName) ({ cls := "RentedViews", name := "bring", desc := "(III)I" } : Jvm.MethodName)) ∈ lw_all := lw_g (lw_at lw_m4 24 rfl) rfl
theorem q805 : (Jvm.Cond.code ({ cls := "RentedViews", name := "bring", desc := "(III)I" } : Jvm.MethodName) prog_1_method_37_code (12 : Nat) (Option.some Jvm.ClassFile.FieldType.int)) ∈ lw_all := lw_g (lw_at lw_m4 25 rfl) rfl
theorem q807 : (Jvm.Cond.instanceMethod ({ cls := "RentedViews", name := "left", desc := "(III)I" } : Jvm.MethodName)) ∈ lw_all := lw_g (lw_at lw_m4 27 rfl) rfl
theorem q808 : (Jvm.Cond.selects "RentedViews" ({ cls := "RentedViews", name := "left", desc := "(III)I" } : Jvm.MethodName) ({ cls := "RentedViews", name := "left", desc := "(III)I" } : Jvm.MethodName)) ∈ lw_all := lw_g (lw_at lw_m4 28 rfl) rfl
theorem q809 : (Jvm.Cond.code ({ cls := "RentedViews", name := "left", desc := "(III)I" } : Jvm.MethodName) prog_1_method_38_code (8 : Nat) (Option.some Jvm.ClassFile.FieldType.int)) ∈ lw_all := lw_g (lw_at lw_m4 29 rfl) rfl
theorem q810 : (Jvm.Cond.constantLong "RentedViews" (282 : Nat) (7 : Int64)) ∈ lw_all := lw_g (lw_at lw_m4 30 rfl) rfl
theorem q812 : (Jvm.Cond.instanceMethod ({ cls := "RentedViews", name := "reading", desc := "(III)I" } : Jvm.MethodName)) ∈ lw_all := lw_g (lw_at lw_m4 32 rfl) rfl
theorem q813 : (Jvm.Cond.selects "RentedViews" ({ cls := "RentedViews", name := "reading", desc := "(III)I" } : Jvm.MethodName) ({ cls := "RentedViews", name := "reading", desc := "(III)I" } : Jvm.MethodName)) ∈ lw_all := lw_g (lw_at lw_m4 33 rfl) rfl
theorem q814 : (Jvm.Cond.code ({ cls := "RentedViews", name := "reading", desc := "(III)I" } : Jvm.MethodName) prog_1_method_39_code (5 : Nat) (Option.some Jvm.ClassFile.FieldType.int)) ∈ lw_all := lw_g (lw_at lw_m4 34 rfl) rfl
theorem q816 : (Jvm.Cond.instanceMethod ({ cls := "RentedViews", name := "forget", desc := "()I" } : Jvm.MethodName)) ∈ lw_all := lw_g (lw_at lw_m4 36 rfl) rfl
theorem q817 : (Jvm.Cond.selects "RentedViews" ({ cls := "RentedViews", name := "forget", desc := "()I" } : Jvm.MethodName) ({ cls := "RentedViews", name := "forget", desc := "()I" } : Jvm.MethodName)) ∈ lw_all := lw_g (lw_at lw_m4 37 rfl) rfl
theorem q818 : (Jvm.Cond.code ({ cls := "RentedViews", name := "forget", desc := "()I" } : Jvm.MethodName) prog_1_method_40_code (2 : Nat) (Option.some Jvm.ClassFile.FieldType.int)) ∈ lw_all := lw_g (lw_at lw_m4 38 rfl) rfl
theorem q820 : (Jvm.Cond.instanceMethod ({ cls := "RentedViews", name := "is", desc := "(II)I" } : Jvm.MethodName)) ∈ lw_all := lw_g (lw_at lw_m4 40 rfl) rfl
theorem q821 : (Jvm.Cond.selects "RentedViews" ({ cls := "RentedViews", name := "is", desc := "(II)I" } : Jvm.MethodName) ({ cls := "RentedViews", name := "is", desc := "(II)I" } : Jvm.MethodName)) ∈ lw_all := lw_g (lw_at lw_m4 41 rfl) rfl
theorem q822 : (Jvm.Cond.code ({ cls := "RentedViews", name := "is", desc := "(II)I" } : Jvm.MethodName) prog_1_method_42_code (6 : Nat) (Option.some Jvm.ClassFile.FieldType.int)) ∈ lw_all := lw_g (lw_at lw_m4 42 rfl) rfl
theorem q823 : (Jvm.Cond.methodLink "RentedViews" (299 : Nat) ({ cls := "RentedViews", name := "tries", desc := "(I)I" } : Jvm.MethodName)) ∈ lw_all := lw_g (lw_at lw_m4 43 rfl) rfl
theorem q824 : (Jvm.Cond.privateMethod ({ cls := "RentedViews", name := "tries", desc := "(I)I" } : Jvm.MethodName)) ∈ lw_tbl := lw_at lw_m4 44 rfl
theorem q825 : (Jvm.Cond.instanceMethod ({ cls := "RentedViews", name := "tries", desc := "(I)I" } : Jvm.MethodName)) ∈ lw_all := lw_g (lw_at lw_m4 45 rfl) rfl
theorem q826 : (Jvm.Cond.code ({ cls := "RentedViews", name := "tries", desc := "(I)I" } : Jvm.MethodName) prog_1_method_41_code (6 : Nat) (Option.some Jvm.ClassFile.FieldType.int)) ∈ lw_all := lw_g (lw_at lw_m4 46 rfl) rfl
theorem q827 : (Jvm.Cond.fieldLink "RentedViews" (296 : Nat) "RentedViews" "ALL" "[LRentedViews$View;") ∈ lw_all := lw_g (lw_at lw_m4 47 rfl) rfl
theorem q828 : (Jvm.Cond.laysStatic "RentedViews" "ALL" "[LRentedViews$View;") ∈ lw_tbl := lw_at lw_m4 48 rfl
theorem q830 : (Jvm.Cond.instanceMethod ({ cls := "RentedViews", name := "look", desc := "(I)I" } : Jvm.MethodName)) ∈ lw_all := lw_g (lw_at lw_m4 50 rfl) rfl
theorem q831 : (Jvm.Cond.selects "RentedViews" ({ cls := "RentedViews", name := "look", desc := "(I)I" } : Jvm.MethodName) ({ cls := "RentedViews", name := "look", desc := "(I)I" } : Jvm.MethodName)) ∈ lw_all := lw_g (lw_at lw_m4 51 rfl) rfl
theorem q832 : (Jvm.Cond.code ({ cls := "RentedViews", name := "look", desc := "(I)I" } : Jvm.MethodName) prog_1_method_43_code (9 : Nat) (Option.some Jvm.ClassFile.FieldType.int)) ∈ lw_all := lw_g (lw_at lw_m4 52 rfl) rfl
theorem q833 : (Jvm.Cond.constant "RentedViews" (304 : Nat) (2147483647 : Int32)) ∈ lw_all := lw_g (lw_at lw_m4 53 rfl) rfl
theorem q834 : (Jvm.Cond.methodLink "RentedViews" (305 : Nat) ({ cls := "java/lang/Math", name := "min", desc := "(II)I" } : Jvm.MethodName)) ∈ lw_all := lw_g (lw_at lw_m4 54 rfl) rfl
theorem q838 : (Jvm.Cond.instanceMethod ({ cls := "RentedViews", name := "odds", desc := "(I)I" } : Jvm.MethodName)) ∈ lw_all := lw_g (lw_at lw_m4 58 rfl) rfl
theorem q839 : (Jvm.Cond.selects "RentedViews" ({ cls := "RentedViews", name := "odds", desc := "(I)I" } : Jvm.MethodName) ({ cls := "RentedViews", name := "odds", desc := "(I)I" } : Jvm.MethodName)) ∈ lw_all := lw_g (lw_at lw_m4 59 rfl) rfl
theorem q840 : (Jvm.Cond.code ({ cls := "RentedViews", name := "odds", desc := "(I)I" } : Jvm.MethodName) prog_1_method_45_code (10 : Nat) (Option.some Jvm.ClassFile.FieldType.int)) ∈ lw_all := lw_g (lw_at lw_m4 60 rfl) rfl
theorem q841 : (Jvm.Cond.constantLong "RentedViews" (308 : Nat) (10 : Int64)) ∈ lw_all := lw_g (lw_at lw_m4 61 rfl) rfl
theorem q842 : (Jvm.Cond.methodLink "RentedViews" (310 : Nat) ({ cls := "RentedViews", name := "divisor", desc := "(JJ)J" } : Jvm.MethodName)) ∈ lw_all := lw_g (lw_at lw_m4 62 rfl) rfl
theorem q843 : (Jvm.Cond.static ({ cls := "RentedViews", name := "divisor", desc := "(JJ)J" } : Jvm.MethodName)) ∈ lw_all := lw_g (lw_at lw_m4 63 rfl) rfl
theorem q844 : (Jvm.Cond.code ({ cls := "RentedViews", name := "divisor", desc := "(JJ)J" } : Jvm.MethodName) prog_1_method_44_code (10 : Nat) (Option.some Jvm.ClassFile.FieldType.long)) ∈ lw_all := lw_g (lw_at lw_m4 64 rfl) rfl
theorem q846 : (Jvm.Cond.instanceMethod ({ cls := "RentedViews", name := "drawn", desc := "(III)I" } : Jvm.MethodName)) ∈ lw_all := lw_g (lw_at lw_m4 66 rfl) rfl
theorem q847 : (Jvm.Cond.selects "RentedViews" ({ cls := "RentedViews", name := "drawn", desc := "(III)I" } : Jvm.MethodName) ({ cls := "RentedViews", name := "drawn", desc := "(III)I" } : Jvm.MethodName)) ∈ lw_all := lw_g (lw_at lw_m4 67 rfl) rfl
theorem q848 : (Jvm.Cond.code ({ cls := "RentedViews", name := "drawn", desc := "(III)I" } : Jvm.MethodName) prog_1_method_46_code (10 : Nat) (Option.some Jvm.ClassFile.FieldType.int)) ∈ lw_all := lw_g (lw_at lw_m4 68 rfl) rfl
theorem q849 : (Jvm.Cond.constantLong "RentedViews" (317 : Nat) (999999 : Int64)) ∈ lw_all := lw_g (lw_at lw_m4 69 rfl) rfl
theorem q850 : (Jvm.Cond.constantLong "RentedViews" (319 : Nat) (30 : Int64)) ∈ lw_all := lw_g (lw_at lw_m4 70 rfl) rfl
theorem q851 : (Jvm.Cond.constantLong "RentedViews" (321 : Nat) (100 : Int64)) ∈ lw_all := lw_g (lw_at lw_m4 71 rfl) rfl
theorem q852 : (Jvm.Cond.constantLong "RentedViews" (323 : Nat) (1103515245 : Int64)) ∈ lw_all := lw_g (lw_at lw_m4 72 rfl) rfl
theorem q853 : (Jvm.Cond.constantLong "RentedViews" (325 : Nat) (12345 : Int64)) ∈ lw_all := lw_g (lw_at lw_m4 73 rfl) rfl
theorem q854 : (Jvm.Cond.constantLong "RentedViews" (327 : Nat) (2147483648 : Int64)) ∈ lw_all := lw_g (lw_at lw_m4 74 rfl) rfl
theorem q855 : (Jvm.Cond.constantLong "RentedViews" (329 : Nat) (65536 : Int64)) ∈ lw_all := lw_g (lw_at lw_m4 75 rfl) rfl
theorem q857 : (Jvm.Cond.instanceMethod ({ cls := "RentedViews", name := "part", desc := "(I)J" } : Jvm.MethodName)) ∈ lw_all := lw_g (lw_at lw_m4 77 rfl) rfl
theorem q858 : (Jvm.Cond.selects "RentedViews" ({ cls := "RentedViews", name := "part", desc := "(I)J" } : Jvm.MethodName) ({ cls := "RentedViews", name := "part", desc := "(I)J" } : Jvm.MethodName)) ∈ lw_all := lw_g (lw_at lw_m4 78 rfl) rfl
theorem q859 : (Jvm.Cond.code ({ cls := "RentedViews", name := "part", desc := "(I)J" } : Jvm.MethodName) prog_1_method_47_code (2 : Nat) (Option.some Jvm.ClassFile.FieldType.long)) ∈ lw_all := lw_g (lw_at lw_m4 79 rfl) rfl
theorem q861 : (Jvm.Cond.instanceMethod ({ cls := "RentedViews", name := "image", desc := "(I)I" } : Jvm.MethodName)) ∈ lw_all := lw_g (lw_at lw_m4 81 rfl) rfl
theorem q862 : (Jvm.Cond.selects "RentedViews" ({ cls := "RentedViews", name := "image", desc := "(I)I" } : Jvm.MethodName) ({ cls := "RentedViews", name := "image", desc := "(I)I" } : Jvm.MethodName)) ∈ lw_all := lw_g (lw_at lw_m4 82 rfl) rfl
theorem q863 : (Jvm.Cond.code ({ cls := "RentedViews", name := "image", desc := "(I)I" } : Jvm.MethodName) prog_1_method_48_code (2 : Nat) (Option.some Jvm.ClassFile.FieldType.int)) ∈ lw_all := lw_g (lw_at lw_m4 83 rfl) rfl
theorem q865 : (Jvm.Cond.instanceMethod ({ cls := "RentedViews", name := "from", desc := "(I)I" } : Jvm.MethodName)) ∈ lw_all := lw_g (lw_at lw_m4 85 rfl) rfl
theorem q866 : (Jvm.Cond.selects "RentedViews" ({ cls := "RentedViews", name := "from", desc := "(I)I" } : Jvm.MethodName) ({ cls := "RentedViews", name := "from", desc := "(I)I" } : Jvm.MethodName)) ∈ lw_all := lw_g (lw_at lw_m4 86 rfl) rfl
theorem q867 : (Jvm.Cond.code ({ cls := "RentedViews", name := "from", desc := "(I)I" } : Jvm.MethodName) prog_1_method_49_code (2 : Nat) (Option.some Jvm.ClassFile.FieldType.int)) ∈ lw_all := lw_g (lw_at lw_m4 87 rfl) rfl
theorem q869 : (Jvm.Cond.instanceMethod ({ cls := "RentedViews", name := "status", desc := "(I)I" } : Jvm.MethodName)) ∈ lw_all := lw_g (lw_at lw_m4 89 rfl) rfl
theorem q870 : (Jvm.Cond.selects "RentedViews" ({ cls := "RentedViews", name := "status", desc := "(I)I" } : Jvm.MethodName) ({ cls := "RentedViews", name := "status", desc := "(I)I" } : Jvm.MethodName)) ∈ lw_all := lw_g (lw_at lw_m4 90 rfl) rfl
theorem q871 : (Jvm.Cond.code ({ cls := "RentedViews", name := "status", desc := "(I)I" } : Jvm.MethodName) prog_1_method_50_code (2 : Nat) (Option.some Jvm.ClassFile.FieldType.int)) ∈ lw_all := lw_g (lw_at lw_m4 91 rfl) rfl
theorem q873 : (Jvm.Cond.instanceMethod ({ cls := "RentedViews", name := "count", desc := "(I)I" } : Jvm.MethodName)) ∈ lw_all := lw_g (lw_at lw_m4 93 rfl) rfl
theorem q874 : (Jvm.Cond.selects "RentedViews" ({ cls := "RentedViews", name := "count", desc := "(I)I" } : Jvm.MethodName) ({ cls := "RentedViews", name := "count", desc := "(I)I" } : Jvm.MethodName)) ∈ lw_all := lw_g (lw_at lw_m4 94 rfl) rfl
theorem q875 : (Jvm.Cond.code ({ cls := "RentedViews", name := "count", desc := "(I)I" } : Jvm.MethodName) prog_1_method_53_code (2 : Nat) (Option.some Jvm.ClassFile.FieldType.int)) ∈ lw_all := lw_g (lw_at lw_m4 95 rfl) rfl
theorem q876 : (Jvm.Cond.constantLong "RentedViews" (334 : Nat) (8 : Int64)) ∈ lw_all := lw_g (lw_at lw_m4 96 rfl) rfl
theorem q877 : (Jvm.Cond.methodLink "RentedViews" (336 : Nat) ({ cls := "RentedViews", name := "countOf", desc := "(I)I" } : Jvm.MethodName)) ∈ lw_all := lw_g (lw_at lw_m4 97 rfl) rfl
theorem q878 : (Jvm.Cond.privateMethod ({ cls := "RentedViews", name := "countOf", desc := "(I)I" } : Jvm.MethodName)) ∈ lw_tbl := lw_at lw_m4 98 rfl
theorem q879 : (Jvm.Cond.instanceMethod ({ cls := "RentedViews", name := "countOf", desc := "(I)I" } : Jvm.MethodName)) ∈ lw_all := lw_g (lw_at lw_m4 99 rfl) rfl
theorem q880 : (Jvm.Cond.code ({ cls := "RentedViews", name := "countOf", desc := "(I)I" } : Jvm.MethodName) prog_1_method_52_code (2 : Nat) (Option.some Jvm.ClassFile.FieldType.int)) ∈ lw_all := lw_g (lw_at lw_m4 100 rfl) rfl
theorem q881 : (Jvm.Cond.methodLink "RentedViews" (331 : Nat) ({ cls := "RentedViews", name := "out", desc := "()I" } : Jvm.MethodName)) ∈ lw_all := lw_g (lw_at lw_m4 101 rfl) rfl
theorem q882 : (Jvm.Cond.privateMethod ({ cls := "RentedViews", name := "out", desc := "()I" } : Jvm.MethodName)) ∈ lw_tbl := lw_at lw_m4 102 rfl
theorem q883 : (Jvm.Cond.instanceMethod ({ cls := "RentedViews", name := "out", desc := "()I" } : Jvm.MethodName)) ∈ lw_all := lw_g (lw_at lw_m4 103 rfl) rfl
theorem q884 : (Jvm.Cond.code ({ cls := "RentedViews", name := "out", desc := "()I" } : Jvm.MethodName) prog_1_method_51_code (3 : Nat) (Option.some Jvm.ClassFile.FieldType.int)) ∈ lw_all := lw_g (lw_at lw_m4 104 rfl) rfl
theorem q886 : (Jvm.Cond.instanceMethod ({ cls := "RentedViews", name := "digest", desc := "()J" } : Jvm.MethodName)) ∈ lw_all := lw_g (lw_at lw_m4 106 rfl) rfl
theorem q887 : (Jvm.Cond.selects "RentedViews" ({ cls := "RentedViews", name := "digest", desc := "()J" } : Jvm.MethodName) ({ cls := "RentedViews", name := "digest", desc := "()J" } : Jvm.MethodName)) ∈ lw_all := lw_g (lw_at lw_m4 107 rfl) rfl
theorem q888 : (Jvm.Cond.code ({ cls := "RentedViews", name := "digest", desc := "()J" } : Jvm.MethodName) prog_1_method_54_code (6 : Nat) (Option.some Jvm.ClassFile.FieldType.long)) ∈ lw_all := lw_g (lw_at lw_m4 108 rfl) rfl
theorem q889 : (Jvm.Cond.constantLong "RentedViews" (339 : Nat) (997 : Int64)) ∈ lw_all := lw_g (lw_at lw_m4 109 rfl) rfl
theorem q890 : (Jvm.Cond.constantLong "RentedViews" (341 : Nat) (31 : Int64)) ∈ lw_all := lw_g (lw_at lw_m4 110 rfl) rfl
theorem in_X0 : ∀ w ∈ wsX00, w ∈ lw_all := lw_in wsX00 [265, 267, 269, 271, 273, 275, 277, 279, 281, 283, 285, 287, 289, 291] (by decide +kernel) (by decide +kernel)
