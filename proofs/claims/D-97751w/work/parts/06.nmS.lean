/-! RentedViews$Shop -/
set_option maxRecDepth 100000
def RX1 : String := "RentedViews$Shop"
def TX1 : u_T := fun k => match k with
  | 0 => ("RentedViews$Shop", "views", "[LRentedViews$View;", true)
  | 1 => ("RentedViews$Shop", "things", "[I", true)
  | 2 => ("RentedViews$Shop", "many", "I", false)
  | 3 => ("RentedViews$Shop", "walls", "[I", true)
  | 4 => ("RentedViews$Shop", "wants", "[I", true)
  | 5 => ("RentedViews$Shop", "renters", "I", false)
  | 6 => ("RentedViews$Shop", "readings", "[I", true)
  | 7 => ("RentedViews$Shop", "read", "I", false)
  | 8 => ("RentedViews$Shop", "now", "LRentedViews$State;", true)
  | 9 => ("RentedViews$Shop", "was", "[LRentedViews$State;", true)
  | _ => ("RentedViews$Shop", "undos", "I", false)
def tyX1 : Nat → FieldType := fun k => match k with
  | 0 => .array (.object "RentedViews$View")
  | 1 => .array .int
  | 2 => .int
  | 3 => .array .int
  | 4 => .array .int
  | 5 => .int
  | 6 => .array .int
  | 7 => .int
  | 8 => .object "RentedViews$State"
  | 9 => .array (.object "RentedViews$State")
  | _ => .int
abbrev wsX10 : List Cond := u_ws RX1 TX1 11
theorem nmX1 : ∀ a, a < 11 → ∀ b, b < 11 → a ≠ b → (TX1 a).2.1 ≠ (TX1 b).2.1 := by decide +kernel
theorem tyX1_ok : ∀ k, k < 11 → parseFieldDescriptor (TX1 k).2.2.1 = some (tyX1 k) := by decide +kernel
abbrev cX1_init : ByteArray := prog_9_method_1_code
def yX1_init : MethodName := ⟨RX1, "<init>", "()V"⟩
def dkwX1_init_6 : List UInt8 := [187, 0, 30, 89, 183, 0, 32, 83, 181, 0, 37, 177]
abbrev dktX1_init_6 : List UInt8 := dkwX1_init_6 ++ []
def dkwX1_init_5 : List UInt8 := [187, 0, 30, 89, 183, 0, 32, 83, 89, 16, 6, 187, 0, 30, 89, 183, 0, 32, 83, 89, 16, 7]
abbrev dktX1_init_5 : List UInt8 := dkwX1_init_5 ++ dktX1_init_6
def dkwX1_init_4 : List UInt8 := [89, 6, 187, 0, 30, 89, 183, 0, 32, 83, 89, 7, 187, 0, 30, 89, 183, 0, 32, 83, 89, 8]
abbrev dktX1_init_4 : List UInt8 := dkwX1_init_4 ++ dktX1_init_5
def dkwX1_init_3 : List UInt8 := [183, 0, 32, 83, 89, 4, 187, 0, 30, 89, 183, 0, 32, 83, 89, 5, 187, 0, 30, 89, 183, 0, 32, 83]
abbrev dktX1_init_3 : List UInt8 := dkwX1_init_3 ++ dktX1_init_4
def dkwX1_init_2 : List UInt8 := [187, 0, 30, 89, 183, 0, 32, 181, 0, 33, 42, 16, 8, 189, 0, 30, 89, 3, 187, 0, 30, 89]
abbrev dktX1_init_2 : List UInt8 := dkwX1_init_2 ++ dktX1_init_3
def dkwX1_init_1 : List UInt8 := [188, 10, 181, 0, 21, 42, 16, 6, 188, 10, 181, 0, 24, 42, 16, 18, 188, 10, 181, 0, 27, 42]
abbrev dktX1_init_1 : List UInt8 := dkwX1_init_1 ++ dktX1_init_2
def dkwX1_init_0 : List UInt8 := [42, 183, 0, 3, 42, 16, 6, 189, 0, 9, 181, 0, 11, 42, 16, 6, 188, 10, 181, 0, 17, 42, 16, 6]
abbrev dktX1_init_0 : List UInt8 := dkwX1_init_0 ++ dktX1_init_1
theorem dksX1_init_0 : cX1_init.data.toList.drop 0 = dktX1_init_0 := by decide +kernel
theorem dksX1_init_1 : cX1_init.data.toList.drop 24 = dktX1_init_1 := dk_seg dksX1_init_0 24 rfl rfl
theorem dksX1_init_2 : cX1_init.data.toList.drop 46 = dktX1_init_2 := dk_seg dksX1_init_1 22 rfl rfl
theorem dksX1_init_3 : cX1_init.data.toList.drop 68 = dktX1_init_3 := dk_seg dksX1_init_2 22 rfl rfl
theorem dksX1_init_4 : cX1_init.data.toList.drop 92 = dktX1_init_4 := dk_seg dksX1_init_3 24 rfl rfl
theorem dksX1_init_5 : cX1_init.data.toList.drop 114 = dktX1_init_5 := dk_seg dksX1_init_4 22 rfl rfl
theorem dksX1_init_6 : cX1_init.data.toList.drop 136 = dktX1_init_6 := dk_seg dksX1_init_5 22 rfl rfl
theorem dX1_init_0 : decode cX1_init 0 = .ok (.aload_n 0, 1) := dk_42 (dk_at dksX1_init_0 0 rfl rfl)
theorem dX1_init_1 : decode cX1_init 1 = .ok (.invokespecial 3, 3) := dk_183 0 3 (dk_at dksX1_init_0 1 rfl rfl)
theorem dX1_init_4 : decode cX1_init 4 = .ok (.aload_n 0, 1) := dk_42 (dk_at dksX1_init_0 4 rfl rfl)
theorem dX1_init_5 : decode cX1_init 5 = .ok (.bipush 6, 2) := dk_16 6 (dk_at dksX1_init_0 5 rfl rfl)
theorem dX1_init_7 : decode cX1_init 7 = .ok (.anewarray 9, 3) := dk_189 0 9 (dk_at dksX1_init_0 7 rfl rfl)
theorem dX1_init_10 : decode cX1_init 10 = .ok (.putfield 11, 3) := dk_181 0 11 (dk_at dksX1_init_0 10 rfl rfl)
theorem dX1_init_13 : decode cX1_init 13 = .ok (.aload_n 0, 1) := dk_42 (dk_at dksX1_init_0 13 rfl rfl)
theorem dX1_init_14 : decode cX1_init 14 = .ok (.bipush 6, 2) := dk_16 6 (dk_at dksX1_init_0 14 rfl rfl)
theorem dX1_init_16 : decode cX1_init 16 = .ok (.newarray .int, 2) := dk_188_10 (dk_at dksX1_init_0 16 rfl rfl)
theorem dX1_init_18 : decode cX1_init 18 = .ok (.putfield 17, 3) := dk_181 0 17 (dk_at dksX1_init_0 18 rfl rfl)
theorem dX1_init_21 : decode cX1_init 21 = .ok (.aload_n 0, 1) := dk_42 (dk_at dksX1_init_0 21 rfl rfl)
theorem dX1_init_22 : decode cX1_init 22 = .ok (.bipush 6, 2) := dk_16 6 (dk_at dksX1_init_0 22 rfl rfl)
theorem dX1_init_24 : decode cX1_init 24 = .ok (.newarray .int, 2) := dk_188_10 (dk_at dksX1_init_1 0 rfl rfl)
theorem dX1_init_26 : decode cX1_init 26 = .ok (.putfield 21, 3) := dk_181 0 21 (dk_at dksX1_init_1 2 rfl rfl)
theorem dX1_init_29 : decode cX1_init 29 = .ok (.aload_n 0, 1) := dk_42 (dk_at dksX1_init_1 5 rfl rfl)
theorem dX1_init_30 : decode cX1_init 30 = .ok (.bipush 6, 2) := dk_16 6 (dk_at dksX1_init_1 6 rfl rfl)
theorem dX1_init_32 : decode cX1_init 32 = .ok (.newarray .int, 2) := dk_188_10 (dk_at dksX1_init_1 8 rfl rfl)
theorem dX1_init_34 : decode cX1_init 34 = .ok (.putfield 24, 3) := dk_181 0 24 (dk_at dksX1_init_1 10 rfl rfl)
theorem dX1_init_37 : decode cX1_init 37 = .ok (.aload_n 0, 1) := dk_42 (dk_at dksX1_init_1 13 rfl rfl)
theorem dX1_init_38 : decode cX1_init 38 = .ok (.bipush 18, 2) := dk_16 18 (dk_at dksX1_init_1 14 rfl rfl)
theorem dX1_init_40 : decode cX1_init 40 = .ok (.newarray .int, 2) := dk_188_10 (dk_at dksX1_init_1 16 rfl rfl)
theorem dX1_init_42 : decode cX1_init 42 = .ok (.putfield 27, 3) := dk_181 0 27 (dk_at dksX1_init_1 18 rfl rfl)
theorem dX1_init_45 : decode cX1_init 45 = .ok (.aload_n 0, 1) := dk_42 (dk_at dksX1_init_1 21 rfl rfl)
theorem dX1_init_46 : decode cX1_init 46 = .ok (.new 30, 3) := dk_187 0 30 (dk_at dksX1_init_2 0 rfl rfl)
theorem dX1_init_49 : decode cX1_init 49 = .ok (.dup, 1) := dk_89 (dk_at dksX1_init_2 3 rfl rfl)
theorem dX1_init_50 : decode cX1_init 50 = .ok (.invokespecial 32, 3) := dk_183 0 32 (dk_at dksX1_init_2 4 rfl rfl)
theorem dX1_init_53 : decode cX1_init 53 = .ok (.putfield 33, 3) := dk_181 0 33 (dk_at dksX1_init_2 7 rfl rfl)
theorem dX1_init_56 : decode cX1_init 56 = .ok (.aload_n 0, 1) := dk_42 (dk_at dksX1_init_2 10 rfl rfl)
theorem dX1_init_57 : decode cX1_init 57 = .ok (.bipush 8, 2) := dk_16 8 (dk_at dksX1_init_2 11 rfl rfl)
theorem dX1_init_59 : decode cX1_init 59 = .ok (.anewarray 30, 3) := dk_189 0 30 (dk_at dksX1_init_2 13 rfl rfl)
theorem dX1_init_62 : decode cX1_init 62 = .ok (.dup, 1) := dk_89 (dk_at dksX1_init_2 16 rfl rfl)
theorem dX1_init_63 : decode cX1_init 63 = .ok (.iconst 0, 1) := dk_3 (dk_at dksX1_init_2 17 rfl rfl)
theorem dX1_init_64 : decode cX1_init 64 = .ok (.new 30, 3) := dk_187 0 30 (dk_at dksX1_init_2 18 rfl rfl)
theorem dX1_init_67 : decode cX1_init 67 = .ok (.dup, 1) := dk_89 (dk_at dksX1_init_2 21 rfl rfl)
theorem dX1_init_68 : decode cX1_init 68 = .ok (.invokespecial 32, 3) := dk_183 0 32 (dk_at dksX1_init_3 0 rfl rfl)
theorem dX1_init_71 : decode cX1_init 71 = .ok (.aastore, 1) := dk_83 (dk_at dksX1_init_3 3 rfl rfl)
theorem dX1_init_72 : decode cX1_init 72 = .ok (.dup, 1) := dk_89 (dk_at dksX1_init_3 4 rfl rfl)
theorem dX1_init_73 : decode cX1_init 73 = .ok (.iconst 1, 1) := dk_4 (dk_at dksX1_init_3 5 rfl rfl)
theorem dX1_init_74 : decode cX1_init 74 = .ok (.new 30, 3) := dk_187 0 30 (dk_at dksX1_init_3 6 rfl rfl)
theorem dX1_init_77 : decode cX1_init 77 = .ok (.dup, 1) := dk_89 (dk_at dksX1_init_3 9 rfl rfl)
theorem dX1_init_78 : decode cX1_init 78 = .ok (.invokespecial 32, 3) := dk_183 0 32 (dk_at dksX1_init_3 10 rfl rfl)
theorem dX1_init_81 : decode cX1_init 81 = .ok (.aastore, 1) := dk_83 (dk_at dksX1_init_3 13 rfl rfl)
theorem dX1_init_82 : decode cX1_init 82 = .ok (.dup, 1) := dk_89 (dk_at dksX1_init_3 14 rfl rfl)
theorem dX1_init_83 : decode cX1_init 83 = .ok (.iconst 2, 1) := dk_5 (dk_at dksX1_init_3 15 rfl rfl)
theorem dX1_init_84 : decode cX1_init 84 = .ok (.new 30, 3) := dk_187 0 30 (dk_at dksX1_init_3 16 rfl rfl)
theorem dX1_init_87 : decode cX1_init 87 = .ok (.dup, 1) := dk_89 (dk_at dksX1_init_3 19 rfl rfl)
theorem dX1_init_88 : decode cX1_init 88 = .ok (.invokespecial 32, 3) := dk_183 0 32 (dk_at dksX1_init_3 20 rfl rfl)
theorem dX1_init_91 : decode cX1_init 91 = .ok (.aastore, 1) := dk_83 (dk_at dksX1_init_3 23 rfl rfl)
theorem dX1_init_92 : decode cX1_init 92 = .ok (.dup, 1) := dk_89 (dk_at dksX1_init_4 0 rfl rfl)
theorem dX1_init_93 : decode cX1_init 93 = .ok (.iconst 3, 1) := dk_6 (dk_at dksX1_init_4 1 rfl rfl)
theorem dX1_init_94 : decode cX1_init 94 = .ok (.new 30, 3) := dk_187 0 30 (dk_at dksX1_init_4 2 rfl rfl)
theorem dX1_init_97 : decode cX1_init 97 = .ok (.dup, 1) := dk_89 (dk_at dksX1_init_4 5 rfl rfl)
theorem dX1_init_98 : decode cX1_init 98 = .ok (.invokespecial 32, 3) := dk_183 0 32 (dk_at dksX1_init_4 6 rfl rfl)
theorem dX1_init_101 : decode cX1_init 101 = .ok (.aastore, 1) := dk_83 (dk_at dksX1_init_4 9 rfl rfl)
theorem dX1_init_102 : decode cX1_init 102 = .ok (.dup, 1) := dk_89 (dk_at dksX1_init_4 10 rfl rfl)
theorem dX1_init_103 : decode cX1_init 103 = .ok (.iconst 4, 1) := dk_7 (dk_at dksX1_init_4 11 rfl rfl)
theorem dX1_init_104 : decode cX1_init 104 = .ok (.new 30, 3) := dk_187 0 30 (dk_at dksX1_init_4 12 rfl rfl)
theorem dX1_init_107 : decode cX1_init 107 = .ok (.dup, 1) := dk_89 (dk_at dksX1_init_4 15 rfl rfl)
theorem dX1_init_108 : decode cX1_init 108 = .ok (.invokespecial 32, 3) := dk_183 0 32 (dk_at dksX1_init_4 16 rfl rfl)
theorem dX1_init_111 : decode cX1_init 111 = .ok (.aastore, 1) := dk_83 (dk_at dksX1_init_4 19 rfl rfl)
theorem dX1_init_112 : decode cX1_init 112 = .ok (.dup, 1) := dk_89 (dk_at dksX1_init_4 20 rfl rfl)
theorem dX1_init_113 : decode cX1_init 113 = .ok (.iconst 5, 1) := dk_8 (dk_at dksX1_init_4 21 rfl rfl)
theorem dX1_init_114 : decode cX1_init 114 = .ok (.new 30, 3) := dk_187 0 30 (dk_at dksX1_init_5 0 rfl rfl)
theorem dX1_init_117 : decode cX1_init 117 = .ok (.dup, 1) := dk_89 (dk_at dksX1_init_5 3 rfl rfl)
theorem dX1_init_118 : decode cX1_init 118 = .ok (.invokespecial 32, 3) := dk_183 0 32 (dk_at dksX1_init_5 4 rfl rfl)
theorem dX1_init_121 : decode cX1_init 121 = .ok (.aastore, 1) := dk_83 (dk_at dksX1_init_5 7 rfl rfl)
theorem dX1_init_122 : decode cX1_init 122 = .ok (.dup, 1) := dk_89 (dk_at dksX1_init_5 8 rfl rfl)
theorem dX1_init_123 : decode cX1_init 123 = .ok (.bipush 6, 2) := dk_16 6 (dk_at dksX1_init_5 9 rfl rfl)
theorem dX1_init_125 : decode cX1_init 125 = .ok (.new 30, 3) := dk_187 0 30 (dk_at dksX1_init_5 11 rfl rfl)
theorem dX1_init_128 : decode cX1_init 128 = .ok (.dup, 1) := dk_89 (dk_at dksX1_init_5 14 rfl rfl)
theorem dX1_init_129 : decode cX1_init 129 = .ok (.invokespecial 32, 3) := dk_183 0 32 (dk_at dksX1_init_5 15 rfl rfl)
theorem dX1_init_132 : decode cX1_init 132 = .ok (.aastore, 1) := dk_83 (dk_at dksX1_init_5 18 rfl rfl)
theorem dX1_init_133 : decode cX1_init 133 = .ok (.dup, 1) := dk_89 (dk_at dksX1_init_5 19 rfl rfl)
theorem dX1_init_134 : decode cX1_init 134 = .ok (.bipush 7, 2) := dk_16 7 (dk_at dksX1_init_5 20 rfl rfl)
theorem dX1_init_136 : decode cX1_init 136 = .ok (.new 30, 3) := dk_187 0 30 (dk_at dksX1_init_6 0 rfl rfl)
theorem dX1_init_139 : decode cX1_init 139 = .ok (.dup, 1) := dk_89 (dk_at dksX1_init_6 3 rfl rfl)
theorem dX1_init_140 : decode cX1_init 140 = .ok (.invokespecial 32, 3) := dk_183 0 32 (dk_at dksX1_init_6 4 rfl rfl)
theorem dX1_init_143 : decode cX1_init 143 = .ok (.aastore, 1) := dk_83 (dk_at dksX1_init_6 7 rfl rfl)
theorem dX1_init_144 : decode cX1_init 144 = .ok (.putfield 37, 3) := dk_181 0 37 (dk_at dksX1_init_6 8 rfl rfl)
theorem dX1_init_147 : decode cX1_init 147 = .ok (.return_, 1) := dk_177 (dk_at dksX1_init_6 11 rfl rfl)
abbrev cX1_begins : ByteArray := prog_9_method_2_code
def yX1_begins : MethodName := ⟨RX1, "begins", "()V"⟩
def dkwX1_begins_1 : List UInt8 := [180, 0, 33, 3, 181, 0, 54, 42, 180, 0, 33, 3, 181, 0, 57, 42, 3, 181, 0, 60, 177]
abbrev dktX1_begins_1 : List UInt8 := dkwX1_begins_1 ++ []
def dkwX1_begins_0 : List UInt8 := [42, 3, 181, 0, 41, 42, 3, 181, 0, 45, 42, 3, 181, 0, 48, 42, 180, 0, 33, 3, 181, 0, 51, 42]
abbrev dktX1_begins_0 : List UInt8 := dkwX1_begins_0 ++ dktX1_begins_1
theorem dksX1_begins_0 : cX1_begins.data.toList.drop 0 = dktX1_begins_0 := by decide +kernel
theorem dksX1_begins_1 : cX1_begins.data.toList.drop 24 = dktX1_begins_1 := dk_seg dksX1_begins_0 24 rfl rfl
theorem dX1_begins_0 : decode cX1_begins 0 = .ok (.aload_n 0, 1) := dk_42 (dk_at dksX1_begins_0 0 rfl rfl)
theorem dX1_begins_1 : decode cX1_begins 1 = .ok (.iconst 0, 1) := dk_3 (dk_at dksX1_begins_0 1 rfl rfl)
theorem dX1_begins_2 : decode cX1_begins 2 = .ok (.putfield 41, 3) := dk_181 0 41 (dk_at dksX1_begins_0 2 rfl rfl)
theorem dX1_begins_5 : decode cX1_begins 5 = .ok (.aload_n 0, 1) := dk_42 (dk_at dksX1_begins_0 5 rfl rfl)
theorem dX1_begins_6 : decode cX1_begins 6 = .ok (.iconst 0, 1) := dk_3 (dk_at dksX1_begins_0 6 rfl rfl)
theorem dX1_begins_7 : decode cX1_begins 7 = .ok (.putfield 45, 3) := dk_181 0 45 (dk_at dksX1_begins_0 7 rfl rfl)
theorem dX1_begins_10 : decode cX1_begins 10 = .ok (.aload_n 0, 1) := dk_42 (dk_at dksX1_begins_0 10 rfl rfl)
theorem dX1_begins_11 : decode cX1_begins 11 = .ok (.iconst 0, 1) := dk_3 (dk_at dksX1_begins_0 11 rfl rfl)
theorem dX1_begins_12 : decode cX1_begins 12 = .ok (.putfield 48, 3) := dk_181 0 48 (dk_at dksX1_begins_0 12 rfl rfl)
theorem dX1_begins_15 : decode cX1_begins 15 = .ok (.aload_n 0, 1) := dk_42 (dk_at dksX1_begins_0 15 rfl rfl)
theorem dX1_begins_16 : decode cX1_begins 16 = .ok (.getfield 33, 3) := dk_180 0 33 (dk_at dksX1_begins_0 16 rfl rfl)
theorem dX1_begins_19 : decode cX1_begins 19 = .ok (.iconst 0, 1) := dk_3 (dk_at dksX1_begins_0 19 rfl rfl)
theorem dX1_begins_20 : decode cX1_begins 20 = .ok (.putfield 51, 3) := dk_181 0 51 (dk_at dksX1_begins_0 20 rfl rfl)
theorem dX1_begins_23 : decode cX1_begins 23 = .ok (.aload_n 0, 1) := dk_42 (dk_at dksX1_begins_0 23 rfl rfl)
theorem dX1_begins_24 : decode cX1_begins 24 = .ok (.getfield 33, 3) := dk_180 0 33 (dk_at dksX1_begins_1 0 rfl rfl)
theorem dX1_begins_27 : decode cX1_begins 27 = .ok (.iconst 0, 1) := dk_3 (dk_at dksX1_begins_1 3 rfl rfl)
theorem dX1_begins_28 : decode cX1_begins 28 = .ok (.putfield 54, 3) := dk_181 0 54 (dk_at dksX1_begins_1 4 rfl rfl)
theorem dX1_begins_31 : decode cX1_begins 31 = .ok (.aload_n 0, 1) := dk_42 (dk_at dksX1_begins_1 7 rfl rfl)
theorem dX1_begins_32 : decode cX1_begins 32 = .ok (.getfield 33, 3) := dk_180 0 33 (dk_at dksX1_begins_1 8 rfl rfl)
theorem dX1_begins_35 : decode cX1_begins 35 = .ok (.iconst 0, 1) := dk_3 (dk_at dksX1_begins_1 11 rfl rfl)
theorem dX1_begins_36 : decode cX1_begins 36 = .ok (.putfield 57, 3) := dk_181 0 57 (dk_at dksX1_begins_1 12 rfl rfl)
theorem dX1_begins_39 : decode cX1_begins 39 = .ok (.aload_n 0, 1) := dk_42 (dk_at dksX1_begins_1 15 rfl rfl)
theorem dX1_begins_40 : decode cX1_begins 40 = .ok (.iconst 0, 1) := dk_3 (dk_at dksX1_begins_1 16 rfl rfl)
theorem dX1_begins_41 : decode cX1_begins 41 = .ok (.putfield 60, 3) := dk_181 0 60 (dk_at dksX1_begins_1 17 rfl rfl)
theorem dX1_begins_44 : decode cX1_begins 44 = .ok (.return_, 1) := dk_177 (dk_at dksX1_begins_1 20 rfl rfl)
abbrev cX1_hangs : ByteArray := prog_9_method_3_code
def yX1_hangs : MethodName := ⟨RX1, "hangs", "(LRentedViews$View;)V"⟩
def dkwX1_hangs_2 : List UInt8 := [177]
abbrev dktX1_hangs_2 : List UInt8 := dkwX1_hangs_2 ++ []
def dkwX1_hangs_1 : List UInt8 := [180, 0, 63, 42, 180, 0, 41, 2, 79, 42, 89, 180, 0, 41, 4, 96, 181, 0, 41, 42, 3, 181, 0, 60]
abbrev dktX1_hangs_1 : List UInt8 := dkwX1_hangs_1 ++ dktX1_hangs_2
def dkwX1_hangs_0 : List UInt8 := [42, 180, 0, 11, 42, 180, 0, 41, 43, 83, 42, 180, 0, 17, 42, 180, 0, 41, 3, 79, 42, 180, 0, 33]
abbrev dktX1_hangs_0 : List UInt8 := dkwX1_hangs_0 ++ dktX1_hangs_1
theorem dksX1_hangs_0 : cX1_hangs.data.toList.drop 0 = dktX1_hangs_0 := by decide +kernel
theorem dksX1_hangs_1 : cX1_hangs.data.toList.drop 24 = dktX1_hangs_1 := dk_seg dksX1_hangs_0 24 rfl rfl
theorem dksX1_hangs_2 : cX1_hangs.data.toList.drop 48 = dktX1_hangs_2 := dk_seg dksX1_hangs_1 24 rfl rfl
theorem dX1_hangs_0 : decode cX1_hangs 0 = .ok (.aload_n 0, 1) := dk_42 (dk_at dksX1_hangs_0 0 rfl rfl)
theorem dX1_hangs_1 : decode cX1_hangs 1 = .ok (.getfield 11, 3) := dk_180 0 11 (dk_at dksX1_hangs_0 1 rfl rfl)
theorem dX1_hangs_4 : decode cX1_hangs 4 = .ok (.aload_n 0, 1) := dk_42 (dk_at dksX1_hangs_0 4 rfl rfl)
theorem dX1_hangs_5 : decode cX1_hangs 5 = .ok (.getfield 41, 3) := dk_180 0 41 (dk_at dksX1_hangs_0 5 rfl rfl)
theorem dX1_hangs_8 : decode cX1_hangs 8 = .ok (.aload_n 1, 1) := dk_43 (dk_at dksX1_hangs_0 8 rfl rfl)
theorem dX1_hangs_9 : decode cX1_hangs 9 = .ok (.aastore, 1) := dk_83 (dk_at dksX1_hangs_0 9 rfl rfl)
theorem dX1_hangs_10 : decode cX1_hangs 10 = .ok (.aload_n 0, 1) := dk_42 (dk_at dksX1_hangs_0 10 rfl rfl)
theorem dX1_hangs_11 : decode cX1_hangs 11 = .ok (.getfield 17, 3) := dk_180 0 17 (dk_at dksX1_hangs_0 11 rfl rfl)
theorem dX1_hangs_14 : decode cX1_hangs 14 = .ok (.aload_n 0, 1) := dk_42 (dk_at dksX1_hangs_0 14 rfl rfl)
theorem dX1_hangs_15 : decode cX1_hangs 15 = .ok (.getfield 41, 3) := dk_180 0 41 (dk_at dksX1_hangs_0 15 rfl rfl)
theorem dX1_hangs_18 : decode cX1_hangs 18 = .ok (.iconst 0, 1) := dk_3 (dk_at dksX1_hangs_0 18 rfl rfl)
theorem dX1_hangs_19 : decode cX1_hangs 19 = .ok (.iastore, 1) := dk_79 (dk_at dksX1_hangs_0 19 rfl rfl)
theorem dX1_hangs_20 : decode cX1_hangs 20 = .ok (.aload_n 0, 1) := dk_42 (dk_at dksX1_hangs_0 20 rfl rfl)
theorem dX1_hangs_21 : decode cX1_hangs 21 = .ok (.getfield 33, 3) := dk_180 0 33 (dk_at dksX1_hangs_0 21 rfl rfl)
theorem dX1_hangs_24 : decode cX1_hangs 24 = .ok (.getfield 63, 3) := dk_180 0 63 (dk_at dksX1_hangs_1 0 rfl rfl)
theorem dX1_hangs_27 : decode cX1_hangs 27 = .ok (.aload_n 0, 1) := dk_42 (dk_at dksX1_hangs_1 3 rfl rfl)
theorem dX1_hangs_28 : decode cX1_hangs 28 = .ok (.getfield 41, 3) := dk_180 0 41 (dk_at dksX1_hangs_1 4 rfl rfl)
theorem dX1_hangs_31 : decode cX1_hangs 31 = .ok (.iconst (-1), 1) := dk_2 (dk_at dksX1_hangs_1 7 rfl rfl)
theorem dX1_hangs_32 : decode cX1_hangs 32 = .ok (.iastore, 1) := dk_79 (dk_at dksX1_hangs_1 8 rfl rfl)
theorem dX1_hangs_33 : decode cX1_hangs 33 = .ok (.aload_n 0, 1) := dk_42 (dk_at dksX1_hangs_1 9 rfl rfl)
theorem dX1_hangs_34 : decode cX1_hangs 34 = .ok (.dup, 1) := dk_89 (dk_at dksX1_hangs_1 10 rfl rfl)
theorem dX1_hangs_35 : decode cX1_hangs 35 = .ok (.getfield 41, 3) := dk_180 0 41 (dk_at dksX1_hangs_1 11 rfl rfl)
theorem dX1_hangs_38 : decode cX1_hangs 38 = .ok (.iconst 1, 1) := dk_4 (dk_at dksX1_hangs_1 14 rfl rfl)
theorem dX1_hangs_39 : decode cX1_hangs 39 = .ok (.iadd, 1) := dk_96 (dk_at dksX1_hangs_1 15 rfl rfl)
theorem dX1_hangs_40 : decode cX1_hangs 40 = .ok (.putfield 41, 3) := dk_181 0 41 (dk_at dksX1_hangs_1 16 rfl rfl)
theorem dX1_hangs_43 : decode cX1_hangs 43 = .ok (.aload_n 0, 1) := dk_42 (dk_at dksX1_hangs_1 19 rfl rfl)
theorem dX1_hangs_44 : decode cX1_hangs 44 = .ok (.iconst 0, 1) := dk_3 (dk_at dksX1_hangs_1 20 rfl rfl)
theorem dX1_hangs_45 : decode cX1_hangs 45 = .ok (.putfield 60, 3) := dk_181 0 60 (dk_at dksX1_hangs_1 21 rfl rfl)
theorem dX1_hangs_48 : decode cX1_hangs 48 = .ok (.return_, 1) := dk_177 (dk_at dksX1_hangs_2 0 rfl rfl)
abbrev cX1_comes : ByteArray := prog_9_method_4_code
def yX1_comes : MethodName := ⟨RX1, "comes", "(III)V"⟩
def dkwX1_comes_2 : List UInt8 := [177]
abbrev dktX1_comes_2 : List UInt8 := dkwX1_comes_2 ++ []
def dkwX1_comes_1 : List UInt8 := [180, 0, 66, 42, 180, 0, 45, 28, 79, 42, 89, 180, 0, 45, 4, 96, 181, 0, 45, 42, 3, 181, 0, 60]
abbrev dktX1_comes_1 : List UInt8 := dkwX1_comes_1 ++ dktX1_comes_2
def dkwX1_comes_0 : List UInt8 := [42, 180, 0, 21, 42, 180, 0, 45, 27, 79, 42, 180, 0, 24, 42, 180, 0, 45, 29, 79, 42, 180, 0, 33]
abbrev dktX1_comes_0 : List UInt8 := dkwX1_comes_0 ++ dktX1_comes_1
theorem dksX1_comes_0 : cX1_comes.data.toList.drop 0 = dktX1_comes_0 := by decide +kernel
theorem dksX1_comes_1 : cX1_comes.data.toList.drop 24 = dktX1_comes_1 := dk_seg dksX1_comes_0 24 rfl rfl
theorem dksX1_comes_2 : cX1_comes.data.toList.drop 48 = dktX1_comes_2 := dk_seg dksX1_comes_1 24 rfl rfl
theorem dX1_comes_0 : decode cX1_comes 0 = .ok (.aload_n 0, 1) := dk_42 (dk_at dksX1_comes_0 0 rfl rfl)
theorem dX1_comes_1 : decode cX1_comes 1 = .ok (.getfield 21, 3) := dk_180 0 21 (dk_at dksX1_comes_0 1 rfl rfl)
theorem dX1_comes_4 : decode cX1_comes 4 = .ok (.aload_n 0, 1) := dk_42 (dk_at dksX1_comes_0 4 rfl rfl)
theorem dX1_comes_5 : decode cX1_comes 5 = .ok (.getfield 45, 3) := dk_180 0 45 (dk_at dksX1_comes_0 5 rfl rfl)
theorem dX1_comes_8 : decode cX1_comes 8 = .ok (.iload_n 1, 1) := dk_27 (dk_at dksX1_comes_0 8 rfl rfl)
theorem dX1_comes_9 : decode cX1_comes 9 = .ok (.iastore, 1) := dk_79 (dk_at dksX1_comes_0 9 rfl rfl)
theorem dX1_comes_10 : decode cX1_comes 10 = .ok (.aload_n 0, 1) := dk_42 (dk_at dksX1_comes_0 10 rfl rfl)
theorem dX1_comes_11 : decode cX1_comes 11 = .ok (.getfield 24, 3) := dk_180 0 24 (dk_at dksX1_comes_0 11 rfl rfl)
theorem dX1_comes_14 : decode cX1_comes 14 = .ok (.aload_n 0, 1) := dk_42 (dk_at dksX1_comes_0 14 rfl rfl)
theorem dX1_comes_15 : decode cX1_comes 15 = .ok (.getfield 45, 3) := dk_180 0 45 (dk_at dksX1_comes_0 15 rfl rfl)
theorem dX1_comes_18 : decode cX1_comes 18 = .ok (.iload_n 3, 1) := dk_29 (dk_at dksX1_comes_0 18 rfl rfl)
theorem dX1_comes_19 : decode cX1_comes 19 = .ok (.iastore, 1) := dk_79 (dk_at dksX1_comes_0 19 rfl rfl)
theorem dX1_comes_20 : decode cX1_comes 20 = .ok (.aload_n 0, 1) := dk_42 (dk_at dksX1_comes_0 20 rfl rfl)
theorem dX1_comes_21 : decode cX1_comes 21 = .ok (.getfield 33, 3) := dk_180 0 33 (dk_at dksX1_comes_0 21 rfl rfl)
theorem dX1_comes_24 : decode cX1_comes 24 = .ok (.getfield 66, 3) := dk_180 0 66 (dk_at dksX1_comes_1 0 rfl rfl)
theorem dX1_comes_27 : decode cX1_comes 27 = .ok (.aload_n 0, 1) := dk_42 (dk_at dksX1_comes_1 3 rfl rfl)
theorem dX1_comes_28 : decode cX1_comes 28 = .ok (.getfield 45, 3) := dk_180 0 45 (dk_at dksX1_comes_1 4 rfl rfl)
theorem dX1_comes_31 : decode cX1_comes 31 = .ok (.iload_n 2, 1) := dk_28 (dk_at dksX1_comes_1 7 rfl rfl)
theorem dX1_comes_32 : decode cX1_comes 32 = .ok (.iastore, 1) := dk_79 (dk_at dksX1_comes_1 8 rfl rfl)
theorem dX1_comes_33 : decode cX1_comes 33 = .ok (.aload_n 0, 1) := dk_42 (dk_at dksX1_comes_1 9 rfl rfl)
theorem dX1_comes_34 : decode cX1_comes 34 = .ok (.dup, 1) := dk_89 (dk_at dksX1_comes_1 10 rfl rfl)
theorem dX1_comes_35 : decode cX1_comes 35 = .ok (.getfield 45, 3) := dk_180 0 45 (dk_at dksX1_comes_1 11 rfl rfl)
theorem dX1_comes_38 : decode cX1_comes 38 = .ok (.iconst 1, 1) := dk_4 (dk_at dksX1_comes_1 14 rfl rfl)
theorem dX1_comes_39 : decode cX1_comes 39 = .ok (.iadd, 1) := dk_96 (dk_at dksX1_comes_1 15 rfl rfl)
theorem dX1_comes_40 : decode cX1_comes 40 = .ok (.putfield 45, 3) := dk_181 0 45 (dk_at dksX1_comes_1 16 rfl rfl)
theorem dX1_comes_43 : decode cX1_comes 43 = .ok (.aload_n 0, 1) := dk_42 (dk_at dksX1_comes_1 19 rfl rfl)
theorem dX1_comes_44 : decode cX1_comes 44 = .ok (.iconst 0, 1) := dk_3 (dk_at dksX1_comes_1 20 rfl rfl)
theorem dX1_comes_45 : decode cX1_comes 45 = .ok (.putfield 60, 3) := dk_181 0 60 (dk_at dksX1_comes_1 21 rfl rfl)
theorem dX1_comes_48 : decode cX1_comes 48 = .ok (.return_, 1) := dk_177 (dk_at dksX1_comes_2 0 rfl rfl)
abbrev cX1_takes : ByteArray := prog_9_method_6_code
def yX1_takes : MethodName := ⟨RX1, "takes", "(LRentedViews$Shop;)V"⟩
def dkwX1_takes_6 : List UInt8 := [167, 255, 230, 42, 43, 180, 0, 60, 181, 0, 60, 177]
abbrev dktX1_takes_6 : List UInt8 := dkwX1_takes_6 ++ []
def dkwX1_takes_5 : List UInt8 := [180, 0, 60, 162, 0, 24, 42, 180, 0, 37, 28, 50, 43, 180, 0, 37, 28, 50, 182, 0, 69, 132, 2, 1]
abbrev dktX1_takes_5 : List UInt8 := dkwX1_takes_5 ++ dktX1_takes_6
def dkwX1_takes_4 : List UInt8 := [42, 43, 180, 0, 48, 181, 0, 48, 42, 180, 0, 33, 43, 180, 0, 33, 182, 0, 69, 3, 61, 28, 43]
abbrev dktX1_takes_4 : List UInt8 := dkwX1_takes_4 ++ dktX1_takes_5
def dkwX1_takes_3 : List UInt8 := [180, 0, 45, 181, 0, 45, 43, 180, 0, 27, 3, 42, 180, 0, 27, 3, 42, 180, 0, 27, 190, 184, 0, 73]
abbrev dktX1_takes_3 : List UInt8 := dkwX1_takes_3 ++ dktX1_takes_4
def dkwX1_takes_2 : List UInt8 := [16, 6, 184, 0, 73, 43, 180, 0, 24, 3, 42, 180, 0, 24, 3, 16, 6, 184, 0, 73, 42, 43]
abbrev dktX1_takes_2 : List UInt8 := dkwX1_takes_2 ++ dktX1_takes_3
def dkwX1_takes_1 : List UInt8 := [3, 16, 6, 184, 0, 73, 42, 43, 180, 0, 41, 181, 0, 41, 43, 180, 0, 21, 3, 42, 180, 0, 21, 3]
abbrev dktX1_takes_1 : List UInt8 := dkwX1_takes_1 ++ dktX1_takes_2
def dkwX1_takes_0 : List UInt8 := [43, 180, 0, 11, 3, 42, 180, 0, 11, 3, 16, 6, 184, 0, 73, 43, 180, 0, 17, 3, 42, 180, 0, 17]
abbrev dktX1_takes_0 : List UInt8 := dkwX1_takes_0 ++ dktX1_takes_1
theorem dksX1_takes_0 : cX1_takes.data.toList.drop 0 = dktX1_takes_0 := by decide +kernel
theorem dksX1_takes_1 : cX1_takes.data.toList.drop 24 = dktX1_takes_1 := dk_seg dksX1_takes_0 24 rfl rfl
theorem dksX1_takes_2 : cX1_takes.data.toList.drop 48 = dktX1_takes_2 := dk_seg dksX1_takes_1 24 rfl rfl
theorem dksX1_takes_3 : cX1_takes.data.toList.drop 70 = dktX1_takes_3 := dk_seg dksX1_takes_2 22 rfl rfl
theorem dksX1_takes_4 : cX1_takes.data.toList.drop 94 = dktX1_takes_4 := dk_seg dksX1_takes_3 24 rfl rfl
theorem dksX1_takes_5 : cX1_takes.data.toList.drop 117 = dktX1_takes_5 := dk_seg dksX1_takes_4 23 rfl rfl
theorem dksX1_takes_6 : cX1_takes.data.toList.drop 141 = dktX1_takes_6 := dk_seg dksX1_takes_5 24 rfl rfl
theorem dX1_takes_0 : decode cX1_takes 0 = .ok (.aload_n 1, 1) := dk_43 (dk_at dksX1_takes_0 0 rfl rfl)
theorem dX1_takes_1 : decode cX1_takes 1 = .ok (.getfield 11, 3) := dk_180 0 11 (dk_at dksX1_takes_0 1 rfl rfl)
theorem dX1_takes_4 : decode cX1_takes 4 = .ok (.iconst 0, 1) := dk_3 (dk_at dksX1_takes_0 4 rfl rfl)
theorem dX1_takes_5 : decode cX1_takes 5 = .ok (.aload_n 0, 1) := dk_42 (dk_at dksX1_takes_0 5 rfl rfl)
theorem dX1_takes_6 : decode cX1_takes 6 = .ok (.getfield 11, 3) := dk_180 0 11 (dk_at dksX1_takes_0 6 rfl rfl)
theorem dX1_takes_9 : decode cX1_takes 9 = .ok (.iconst 0, 1) := dk_3 (dk_at dksX1_takes_0 9 rfl rfl)
theorem dX1_takes_10 : decode cX1_takes 10 = .ok (.bipush 6, 2) := dk_16 6 (dk_at dksX1_takes_0 10 rfl rfl)
theorem dX1_takes_12 : decode cX1_takes 12 = .ok (.invokestatic 73, 3) := dk_184 0 73 (dk_at dksX1_takes_0 12 rfl rfl)
theorem dX1_takes_15 : decode cX1_takes 15 = .ok (.aload_n 1, 1) := dk_43 (dk_at dksX1_takes_0 15 rfl rfl)
theorem dX1_takes_16 : decode cX1_takes 16 = .ok (.getfield 17, 3) := dk_180 0 17 (dk_at dksX1_takes_0 16 rfl rfl)
theorem dX1_takes_19 : decode cX1_takes 19 = .ok (.iconst 0, 1) := dk_3 (dk_at dksX1_takes_0 19 rfl rfl)
theorem dX1_takes_20 : decode cX1_takes 20 = .ok (.aload_n 0, 1) := dk_42 (dk_at dksX1_takes_0 20 rfl rfl)
theorem dX1_takes_21 : decode cX1_takes 21 = .ok (.getfield 17, 3) := dk_180 0 17 (dk_at dksX1_takes_0 21 rfl rfl)
theorem dX1_takes_24 : decode cX1_takes 24 = .ok (.iconst 0, 1) := dk_3 (dk_at dksX1_takes_1 0 rfl rfl)
theorem dX1_takes_25 : decode cX1_takes 25 = .ok (.bipush 6, 2) := dk_16 6 (dk_at dksX1_takes_1 1 rfl rfl)
theorem dX1_takes_27 : decode cX1_takes 27 = .ok (.invokestatic 73, 3) := dk_184 0 73 (dk_at dksX1_takes_1 3 rfl rfl)
theorem dX1_takes_30 : decode cX1_takes 30 = .ok (.aload_n 0, 1) := dk_42 (dk_at dksX1_takes_1 6 rfl rfl)
theorem dX1_takes_31 : decode cX1_takes 31 = .ok (.aload_n 1, 1) := dk_43 (dk_at dksX1_takes_1 7 rfl rfl)
theorem dX1_takes_32 : decode cX1_takes 32 = .ok (.getfield 41, 3) := dk_180 0 41 (dk_at dksX1_takes_1 8 rfl rfl)
theorem dX1_takes_35 : decode cX1_takes 35 = .ok (.putfield 41, 3) := dk_181 0 41 (dk_at dksX1_takes_1 11 rfl rfl)
theorem dX1_takes_38 : decode cX1_takes 38 = .ok (.aload_n 1, 1) := dk_43 (dk_at dksX1_takes_1 14 rfl rfl)
theorem dX1_takes_39 : decode cX1_takes 39 = .ok (.getfield 21, 3) := dk_180 0 21 (dk_at dksX1_takes_1 15 rfl rfl)
theorem dX1_takes_42 : decode cX1_takes 42 = .ok (.iconst 0, 1) := dk_3 (dk_at dksX1_takes_1 18 rfl rfl)
theorem dX1_takes_43 : decode cX1_takes 43 = .ok (.aload_n 0, 1) := dk_42 (dk_at dksX1_takes_1 19 rfl rfl)
theorem dX1_takes_44 : decode cX1_takes 44 = .ok (.getfield 21, 3) := dk_180 0 21 (dk_at dksX1_takes_1 20 rfl rfl)
theorem dX1_takes_47 : decode cX1_takes 47 = .ok (.iconst 0, 1) := dk_3 (dk_at dksX1_takes_1 23 rfl rfl)
theorem dX1_takes_48 : decode cX1_takes 48 = .ok (.bipush 6, 2) := dk_16 6 (dk_at dksX1_takes_2 0 rfl rfl)
theorem dX1_takes_50 : decode cX1_takes 50 = .ok (.invokestatic 73, 3) := dk_184 0 73 (dk_at dksX1_takes_2 2 rfl rfl)
theorem dX1_takes_53 : decode cX1_takes 53 = .ok (.aload_n 1, 1) := dk_43 (dk_at dksX1_takes_2 5 rfl rfl)
theorem dX1_takes_54 : decode cX1_takes 54 = .ok (.getfield 24, 3) := dk_180 0 24 (dk_at dksX1_takes_2 6 rfl rfl)
theorem dX1_takes_57 : decode cX1_takes 57 = .ok (.iconst 0, 1) := dk_3 (dk_at dksX1_takes_2 9 rfl rfl)
theorem dX1_takes_58 : decode cX1_takes 58 = .ok (.aload_n 0, 1) := dk_42 (dk_at dksX1_takes_2 10 rfl rfl)
theorem dX1_takes_59 : decode cX1_takes 59 = .ok (.getfield 24, 3) := dk_180 0 24 (dk_at dksX1_takes_2 11 rfl rfl)
theorem dX1_takes_62 : decode cX1_takes 62 = .ok (.iconst 0, 1) := dk_3 (dk_at dksX1_takes_2 14 rfl rfl)
theorem dX1_takes_63 : decode cX1_takes 63 = .ok (.bipush 6, 2) := dk_16 6 (dk_at dksX1_takes_2 15 rfl rfl)
theorem dX1_takes_65 : decode cX1_takes 65 = .ok (.invokestatic 73, 3) := dk_184 0 73 (dk_at dksX1_takes_2 17 rfl rfl)
theorem dX1_takes_68 : decode cX1_takes 68 = .ok (.aload_n 0, 1) := dk_42 (dk_at dksX1_takes_2 20 rfl rfl)
theorem dX1_takes_69 : decode cX1_takes 69 = .ok (.aload_n 1, 1) := dk_43 (dk_at dksX1_takes_2 21 rfl rfl)
theorem dX1_takes_70 : decode cX1_takes 70 = .ok (.getfield 45, 3) := dk_180 0 45 (dk_at dksX1_takes_3 0 rfl rfl)
theorem dX1_takes_73 : decode cX1_takes 73 = .ok (.putfield 45, 3) := dk_181 0 45 (dk_at dksX1_takes_3 3 rfl rfl)
theorem dX1_takes_76 : decode cX1_takes 76 = .ok (.aload_n 1, 1) := dk_43 (dk_at dksX1_takes_3 6 rfl rfl)
theorem dX1_takes_77 : decode cX1_takes 77 = .ok (.getfield 27, 3) := dk_180 0 27 (dk_at dksX1_takes_3 7 rfl rfl)
theorem dX1_takes_80 : decode cX1_takes 80 = .ok (.iconst 0, 1) := dk_3 (dk_at dksX1_takes_3 10 rfl rfl)
theorem dX1_takes_81 : decode cX1_takes 81 = .ok (.aload_n 0, 1) := dk_42 (dk_at dksX1_takes_3 11 rfl rfl)
theorem dX1_takes_82 : decode cX1_takes 82 = .ok (.getfield 27, 3) := dk_180 0 27 (dk_at dksX1_takes_3 12 rfl rfl)
theorem dX1_takes_85 : decode cX1_takes 85 = .ok (.iconst 0, 1) := dk_3 (dk_at dksX1_takes_3 15 rfl rfl)
theorem dX1_takes_86 : decode cX1_takes 86 = .ok (.aload_n 0, 1) := dk_42 (dk_at dksX1_takes_3 16 rfl rfl)
theorem dX1_takes_87 : decode cX1_takes 87 = .ok (.getfield 27, 3) := dk_180 0 27 (dk_at dksX1_takes_3 17 rfl rfl)
theorem dX1_takes_90 : decode cX1_takes 90 = .ok (.arraylength, 1) := dk_190 (dk_at dksX1_takes_3 20 rfl rfl)
theorem dX1_takes_91 : decode cX1_takes 91 = .ok (.invokestatic 73, 3) := dk_184 0 73 (dk_at dksX1_takes_3 21 rfl rfl)
theorem dX1_takes_94 : decode cX1_takes 94 = .ok (.aload_n 0, 1) := dk_42 (dk_at dksX1_takes_4 0 rfl rfl)
theorem dX1_takes_95 : decode cX1_takes 95 = .ok (.aload_n 1, 1) := dk_43 (dk_at dksX1_takes_4 1 rfl rfl)
theorem dX1_takes_96 : decode cX1_takes 96 = .ok (.getfield 48, 3) := dk_180 0 48 (dk_at dksX1_takes_4 2 rfl rfl)
theorem dX1_takes_99 : decode cX1_takes 99 = .ok (.putfield 48, 3) := dk_181 0 48 (dk_at dksX1_takes_4 5 rfl rfl)
theorem dX1_takes_102 : decode cX1_takes 102 = .ok (.aload_n 0, 1) := dk_42 (dk_at dksX1_takes_4 8 rfl rfl)
theorem dX1_takes_103 : decode cX1_takes 103 = .ok (.getfield 33, 3) := dk_180 0 33 (dk_at dksX1_takes_4 9 rfl rfl)
theorem dX1_takes_106 : decode cX1_takes 106 = .ok (.aload_n 1, 1) := dk_43 (dk_at dksX1_takes_4 12 rfl rfl)
theorem dX1_takes_107 : decode cX1_takes 107 = .ok (.getfield 33, 3) := dk_180 0 33 (dk_at dksX1_takes_4 13 rfl rfl)
theorem dX1_takes_110 : decode cX1_takes 110 = .ok (.invokevirtual 69, 3) := dk_182 0 69 (dk_at dksX1_takes_4 16 rfl rfl)
theorem dX1_takes_113 : decode cX1_takes 113 = .ok (.iconst 0, 1) := dk_3 (dk_at dksX1_takes_4 19 rfl rfl)
theorem dX1_takes_114 : decode cX1_takes 114 = .ok (.istore_n 2, 1) := dk_61 (dk_at dksX1_takes_4 20 rfl rfl)
theorem dX1_takes_115 : decode cX1_takes 115 = .ok (.iload_n 2, 1) := dk_28 (dk_at dksX1_takes_4 21 rfl rfl)
theorem dX1_takes_116 : decode cX1_takes 116 = .ok (.aload_n 1, 1) := dk_43 (dk_at dksX1_takes_4 22 rfl rfl)
theorem dX1_takes_117 : decode cX1_takes 117 = .ok (.getfield 60, 3) := dk_180 0 60 (dk_at dksX1_takes_5 0 rfl rfl)
theorem dX1_takes_120 : decode cX1_takes 120 = .ok (.if_icmp .ge 24, 3) := dk_162 0 24 (dk_at dksX1_takes_5 3 rfl rfl)
theorem dX1_takes_123 : decode cX1_takes 123 = .ok (.aload_n 0, 1) := dk_42 (dk_at dksX1_takes_5 6 rfl rfl)
theorem dX1_takes_124 : decode cX1_takes 124 = .ok (.getfield 37, 3) := dk_180 0 37 (dk_at dksX1_takes_5 7 rfl rfl)
theorem dX1_takes_127 : decode cX1_takes 127 = .ok (.iload_n 2, 1) := dk_28 (dk_at dksX1_takes_5 10 rfl rfl)
theorem dX1_takes_128 : decode cX1_takes 128 = .ok (.aaload, 1) := dk_50 (dk_at dksX1_takes_5 11 rfl rfl)
theorem dX1_takes_129 : decode cX1_takes 129 = .ok (.aload_n 1, 1) := dk_43 (dk_at dksX1_takes_5 12 rfl rfl)
theorem dX1_takes_130 : decode cX1_takes 130 = .ok (.getfield 37, 3) := dk_180 0 37 (dk_at dksX1_takes_5 13 rfl rfl)
theorem dX1_takes_133 : decode cX1_takes 133 = .ok (.iload_n 2, 1) := dk_28 (dk_at dksX1_takes_5 16 rfl rfl)
theorem dX1_takes_134 : decode cX1_takes 134 = .ok (.aaload, 1) := dk_50 (dk_at dksX1_takes_5 17 rfl rfl)
theorem dX1_takes_135 : decode cX1_takes 135 = .ok (.invokevirtual 69, 3) := dk_182 0 69 (dk_at dksX1_takes_5 18 rfl rfl)
theorem dX1_takes_138 : decode cX1_takes 138 = .ok (.iinc 2 1, 3) := dk_132 2 1 (dk_at dksX1_takes_5 21 rfl rfl)
theorem dX1_takes_141 : decode cX1_takes 141 = .ok (.goto (-26), 3) := dk_167 255 230 (dk_at dksX1_takes_6 0 rfl rfl)
theorem dX1_takes_144 : decode cX1_takes 144 = .ok (.aload_n 0, 1) := dk_42 (dk_at dksX1_takes_6 3 rfl rfl)
theorem dX1_takes_145 : decode cX1_takes 145 = .ok (.aload_n 1, 1) := dk_43 (dk_at dksX1_takes_6 4 rfl rfl)
theorem dX1_takes_146 : decode cX1_takes 146 = .ok (.getfield 60, 3) := dk_180 0 60 (dk_at dksX1_takes_6 5 rfl rfl)
theorem dX1_takes_149 : decode cX1_takes 149 = .ok (.putfield 60, 3) := dk_181 0 60 (dk_at dksX1_takes_6 8 rfl rfl)
theorem dX1_takes_152 : decode cX1_takes 152 = .ok (.return_, 1) := dk_177 (dk_at dksX1_takes_6 11 rfl rfl)
abbrev cX1_viewOf : ByteArray := prog_9_method_8_code
def yX1_viewOf : MethodName := ⟨RX1, "viewOf", "(I)I"⟩
def dkwX1_viewOf_1 : List UInt8 := [160, 0, 7, 29, 167, 0, 4, 28, 61, 132, 3, 1, 167, 255, 226, 28, 172]
abbrev dktX1_viewOf_1 : List UInt8 := dkwX1_viewOf_1 ++ []
def dkwX1_viewOf_0 : List UInt8 := [2, 61, 3, 62, 29, 42, 180, 0, 41, 162, 0, 28, 42, 180, 0, 33, 180, 0, 63, 29, 46, 27]
abbrev dktX1_viewOf_0 : List UInt8 := dkwX1_viewOf_0 ++ dktX1_viewOf_1
theorem dksX1_viewOf_0 : cX1_viewOf.data.toList.drop 0 = dktX1_viewOf_0 := by decide +kernel
theorem dksX1_viewOf_1 : cX1_viewOf.data.toList.drop 22 = dktX1_viewOf_1 := dk_seg dksX1_viewOf_0 22 rfl rfl
theorem dX1_viewOf_0 : decode cX1_viewOf 0 = .ok (.iconst (-1), 1) := dk_2 (dk_at dksX1_viewOf_0 0 rfl rfl)
theorem dX1_viewOf_1 : decode cX1_viewOf 1 = .ok (.istore_n 2, 1) := dk_61 (dk_at dksX1_viewOf_0 1 rfl rfl)
theorem dX1_viewOf_2 : decode cX1_viewOf 2 = .ok (.iconst 0, 1) := dk_3 (dk_at dksX1_viewOf_0 2 rfl rfl)
theorem dX1_viewOf_3 : decode cX1_viewOf 3 = .ok (.istore_n 3, 1) := dk_62 (dk_at dksX1_viewOf_0 3 rfl rfl)
theorem dX1_viewOf_4 : decode cX1_viewOf 4 = .ok (.iload_n 3, 1) := dk_29 (dk_at dksX1_viewOf_0 4 rfl rfl)
theorem dX1_viewOf_5 : decode cX1_viewOf 5 = .ok (.aload_n 0, 1) := dk_42 (dk_at dksX1_viewOf_0 5 rfl rfl)
theorem dX1_viewOf_6 : decode cX1_viewOf 6 = .ok (.getfield 41, 3) := dk_180 0 41 (dk_at dksX1_viewOf_0 6 rfl rfl)
theorem dX1_viewOf_9 : decode cX1_viewOf 9 = .ok (.if_icmp .ge 28, 3) := dk_162 0 28 (dk_at dksX1_viewOf_0 9 rfl rfl)
theorem dX1_viewOf_12 : decode cX1_viewOf 12 = .ok (.aload_n 0, 1) := dk_42 (dk_at dksX1_viewOf_0 12 rfl rfl)
theorem dX1_viewOf_13 : decode cX1_viewOf 13 = .ok (.getfield 33, 3) := dk_180 0 33 (dk_at dksX1_viewOf_0 13 rfl rfl)
theorem dX1_viewOf_16 : decode cX1_viewOf 16 = .ok (.getfield 63, 3) := dk_180 0 63 (dk_at dksX1_viewOf_0 16 rfl rfl)
theorem dX1_viewOf_19 : decode cX1_viewOf 19 = .ok (.iload_n 3, 1) := dk_29 (dk_at dksX1_viewOf_0 19 rfl rfl)
theorem dX1_viewOf_20 : decode cX1_viewOf 20 = .ok (.iaload, 1) := dk_46 (dk_at dksX1_viewOf_0 20 rfl rfl)
theorem dX1_viewOf_21 : decode cX1_viewOf 21 = .ok (.iload_n 1, 1) := dk_27 (dk_at dksX1_viewOf_0 21 rfl rfl)
theorem dX1_viewOf_22 : decode cX1_viewOf 22 = .ok (.if_icmp .ne 7, 3) := dk_160 0 7 (dk_at dksX1_viewOf_1 0 rfl rfl)
theorem dX1_viewOf_25 : decode cX1_viewOf 25 = .ok (.iload_n 3, 1) := dk_29 (dk_at dksX1_viewOf_1 3 rfl rfl)
theorem dX1_viewOf_26 : decode cX1_viewOf 26 = .ok (.goto 4, 3) := dk_167 0 4 (dk_at dksX1_viewOf_1 4 rfl rfl)
theorem dX1_viewOf_29 : decode cX1_viewOf 29 = .ok (.iload_n 2, 1) := dk_28 (dk_at dksX1_viewOf_1 7 rfl rfl)
theorem dX1_viewOf_30 : decode cX1_viewOf 30 = .ok (.istore_n 2, 1) := dk_61 (dk_at dksX1_viewOf_1 8 rfl rfl)
theorem dX1_viewOf_31 : decode cX1_viewOf 31 = .ok (.iinc 3 1, 3) := dk_132 3 1 (dk_at dksX1_viewOf_1 9 rfl rfl)
theorem dX1_viewOf_34 : decode cX1_viewOf 34 = .ok (.goto (-30), 3) := dk_167 255 226 (dk_at dksX1_viewOf_1 12 rfl rfl)
theorem dX1_viewOf_37 : decode cX1_viewOf 37 = .ok (.iload_n 2, 1) := dk_28 (dk_at dksX1_viewOf_1 15 rfl rfl)
theorem dX1_viewOf_38 : decode cX1_viewOf 38 = .ok (.ireturn, 1) := dk_172 (dk_at dksX1_viewOf_1 16 rfl rfl)
abbrev cX1_remembers : ByteArray := prog_9_method_5_code
def yX1_remembers : MethodName := ⟨RX1, "remembers", "()V"⟩
def dkwX1_remembers_3 : List UInt8 := [4, 96, 181, 0, 60, 177]
abbrev dktX1_remembers_3 : List UInt8 := dkwX1_remembers_3 ++ []
def dkwX1_remembers_2 : List UInt8 := [181, 0, 60, 42, 180, 0, 37, 42, 180, 0, 60, 50, 42, 180, 0, 33, 182, 0, 69, 42, 89, 180, 0, 60]
abbrev dktX1_remembers_2 : List UInt8 := dkwX1_remembers_2 ++ dktX1_remembers_3
def dkwX1_remembers_1 : List UInt8 := [50, 42, 180, 0, 37, 27, 50, 182, 0, 69, 132, 1, 1, 167, 255, 230, 42, 89, 180, 0, 60, 4, 100]
abbrev dktX1_remembers_1 : List UInt8 := dkwX1_remembers_1 ++ dktX1_remembers_2
def dkwX1_remembers_0 : List UInt8 := [42, 180, 0, 60, 16, 8, 160, 0, 44, 4, 60, 27, 16, 8, 162, 0, 26, 42, 180, 0, 37, 27, 4, 100]
abbrev dktX1_remembers_0 : List UInt8 := dkwX1_remembers_0 ++ dktX1_remembers_1
theorem dksX1_remembers_0 : cX1_remembers.data.toList.drop 0 = dktX1_remembers_0 := by decide +kernel
theorem dksX1_remembers_1 : cX1_remembers.data.toList.drop 24 = dktX1_remembers_1 := dk_seg dksX1_remembers_0 24 rfl rfl
theorem dksX1_remembers_2 : cX1_remembers.data.toList.drop 47 = dktX1_remembers_2 := dk_seg dksX1_remembers_1 23 rfl rfl
theorem dksX1_remembers_3 : cX1_remembers.data.toList.drop 71 = dktX1_remembers_3 := dk_seg dksX1_remembers_2 24 rfl rfl
theorem dX1_remembers_0 : decode cX1_remembers 0 = .ok (.aload_n 0, 1) := dk_42 (dk_at dksX1_remembers_0 0 rfl rfl)
theorem dX1_remembers_1 : decode cX1_remembers 1 = .ok (.getfield 60, 3) := dk_180 0 60 (dk_at dksX1_remembers_0 1 rfl rfl)
theorem dX1_remembers_4 : decode cX1_remembers 4 = .ok (.bipush 8, 2) := dk_16 8 (dk_at dksX1_remembers_0 4 rfl rfl)
theorem dX1_remembers_6 : decode cX1_remembers 6 = .ok (.if_icmp .ne 44, 3) := dk_160 0 44 (dk_at dksX1_remembers_0 6 rfl rfl)
theorem dX1_remembers_9 : decode cX1_remembers 9 = .ok (.iconst 1, 1) := dk_4 (dk_at dksX1_remembers_0 9 rfl rfl)
theorem dX1_remembers_10 : decode cX1_remembers 10 = .ok (.istore_n 1, 1) := dk_60 (dk_at dksX1_remembers_0 10 rfl rfl)
theorem dX1_remembers_11 : decode cX1_remembers 11 = .ok (.iload_n 1, 1) := dk_27 (dk_at dksX1_remembers_0 11 rfl rfl)
theorem dX1_remembers_12 : decode cX1_remembers 12 = .ok (.bipush 8, 2) := dk_16 8 (dk_at dksX1_remembers_0 12 rfl rfl)
theorem dX1_remembers_14 : decode cX1_remembers 14 = .ok (.if_icmp .ge 26, 3) := dk_162 0 26 (dk_at dksX1_remembers_0 14 rfl rfl)
theorem dX1_remembers_17 : decode cX1_remembers 17 = .ok (.aload_n 0, 1) := dk_42 (dk_at dksX1_remembers_0 17 rfl rfl)
theorem dX1_remembers_18 : decode cX1_remembers 18 = .ok (.getfield 37, 3) := dk_180 0 37 (dk_at dksX1_remembers_0 18 rfl rfl)
theorem dX1_remembers_21 : decode cX1_remembers 21 = .ok (.iload_n 1, 1) := dk_27 (dk_at dksX1_remembers_0 21 rfl rfl)
theorem dX1_remembers_22 : decode cX1_remembers 22 = .ok (.iconst 1, 1) := dk_4 (dk_at dksX1_remembers_0 22 rfl rfl)
theorem dX1_remembers_23 : decode cX1_remembers 23 = .ok (.isub, 1) := dk_100 (dk_at dksX1_remembers_0 23 rfl rfl)
theorem dX1_remembers_24 : decode cX1_remembers 24 = .ok (.aaload, 1) := dk_50 (dk_at dksX1_remembers_1 0 rfl rfl)
theorem dX1_remembers_25 : decode cX1_remembers 25 = .ok (.aload_n 0, 1) := dk_42 (dk_at dksX1_remembers_1 1 rfl rfl)
theorem dX1_remembers_26 : decode cX1_remembers 26 = .ok (.getfield 37, 3) := dk_180 0 37 (dk_at dksX1_remembers_1 2 rfl rfl)
theorem dX1_remembers_29 : decode cX1_remembers 29 = .ok (.iload_n 1, 1) := dk_27 (dk_at dksX1_remembers_1 5 rfl rfl)
theorem dX1_remembers_30 : decode cX1_remembers 30 = .ok (.aaload, 1) := dk_50 (dk_at dksX1_remembers_1 6 rfl rfl)
theorem dX1_remembers_31 : decode cX1_remembers 31 = .ok (.invokevirtual 69, 3) := dk_182 0 69 (dk_at dksX1_remembers_1 7 rfl rfl)
theorem dX1_remembers_34 : decode cX1_remembers 34 = .ok (.iinc 1 1, 3) := dk_132 1 1 (dk_at dksX1_remembers_1 10 rfl rfl)
theorem dX1_remembers_37 : decode cX1_remembers 37 = .ok (.goto (-26), 3) := dk_167 255 230 (dk_at dksX1_remembers_1 13 rfl rfl)
theorem dX1_remembers_40 : decode cX1_remembers 40 = .ok (.aload_n 0, 1) := dk_42 (dk_at dksX1_remembers_1 16 rfl rfl)
theorem dX1_remembers_41 : decode cX1_remembers 41 = .ok (.dup, 1) := dk_89 (dk_at dksX1_remembers_1 17 rfl rfl)
theorem dX1_remembers_42 : decode cX1_remembers 42 = .ok (.getfield 60, 3) := dk_180 0 60 (dk_at dksX1_remembers_1 18 rfl rfl)
theorem dX1_remembers_45 : decode cX1_remembers 45 = .ok (.iconst 1, 1) := dk_4 (dk_at dksX1_remembers_1 21 rfl rfl)
theorem dX1_remembers_46 : decode cX1_remembers 46 = .ok (.isub, 1) := dk_100 (dk_at dksX1_remembers_1 22 rfl rfl)
theorem dX1_remembers_47 : decode cX1_remembers 47 = .ok (.putfield 60, 3) := dk_181 0 60 (dk_at dksX1_remembers_2 0 rfl rfl)
theorem dX1_remembers_50 : decode cX1_remembers 50 = .ok (.aload_n 0, 1) := dk_42 (dk_at dksX1_remembers_2 3 rfl rfl)
theorem dX1_remembers_51 : decode cX1_remembers 51 = .ok (.getfield 37, 3) := dk_180 0 37 (dk_at dksX1_remembers_2 4 rfl rfl)
theorem dX1_remembers_54 : decode cX1_remembers 54 = .ok (.aload_n 0, 1) := dk_42 (dk_at dksX1_remembers_2 7 rfl rfl)
theorem dX1_remembers_55 : decode cX1_remembers 55 = .ok (.getfield 60, 3) := dk_180 0 60 (dk_at dksX1_remembers_2 8 rfl rfl)
theorem dX1_remembers_58 : decode cX1_remembers 58 = .ok (.aaload, 1) := dk_50 (dk_at dksX1_remembers_2 11 rfl rfl)
theorem dX1_remembers_59 : decode cX1_remembers 59 = .ok (.aload_n 0, 1) := dk_42 (dk_at dksX1_remembers_2 12 rfl rfl)
theorem dX1_remembers_60 : decode cX1_remembers 60 = .ok (.getfield 33, 3) := dk_180 0 33 (dk_at dksX1_remembers_2 13 rfl rfl)
theorem dX1_remembers_63 : decode cX1_remembers 63 = .ok (.invokevirtual 69, 3) := dk_182 0 69 (dk_at dksX1_remembers_2 16 rfl rfl)
theorem dX1_remembers_66 : decode cX1_remembers 66 = .ok (.aload_n 0, 1) := dk_42 (dk_at dksX1_remembers_2 19 rfl rfl)
theorem dX1_remembers_67 : decode cX1_remembers 67 = .ok (.dup, 1) := dk_89 (dk_at dksX1_remembers_2 20 rfl rfl)
theorem dX1_remembers_68 : decode cX1_remembers 68 = .ok (.getfield 60, 3) := dk_180 0 60 (dk_at dksX1_remembers_2 21 rfl rfl)
theorem dX1_remembers_71 : decode cX1_remembers 71 = .ok (.iconst 1, 1) := dk_4 (dk_at dksX1_remembers_3 0 rfl rfl)
theorem dX1_remembers_72 : decode cX1_remembers 72 = .ok (.iadd, 1) := dk_96 (dk_at dksX1_remembers_3 1 rfl rfl)
theorem dX1_remembers_73 : decode cX1_remembers 73 = .ok (.putfield 60, 3) := dk_181 0 60 (dk_at dksX1_remembers_3 2 rfl rfl)
theorem dX1_remembers_76 : decode cX1_remembers 76 = .ok (.return_, 1) := dk_177 (dk_at dksX1_remembers_3 5 rfl rfl)
abbrev cX1_suits : ByteArray := prog_9_method_7_code
def yX1_suits : MethodName := ⟨RX1, "suits", "(III)Z"⟩
def dkwX1_suits_3 : List UInt8 := [42, 180, 0, 24, 28, 46, 160, 0, 7, 4, 167, 0, 4, 3, 172]
abbrev dktX1_suits_3 : List UInt8 := dkwX1_suits_3 ++ []
def dkwX1_suits_2 : List UInt8 := [153, 0, 37, 42, 180, 0, 24, 28, 46, 16, 6, 159, 0, 22, 42, 180, 0, 11, 27, 50, 29, 182, 0, 87]
abbrev dktX1_suits_2 : List UInt8 := dkwX1_suits_2 ++ dktX1_suits_3
def dkwX1_suits_1 : List UInt8 := [182, 0, 83, 42, 180, 0, 33, 180, 0, 66, 28, 46, 163, 0, 7, 4, 167, 0, 4, 3, 54, 4, 21, 4]
abbrev dktX1_suits_1 : List UInt8 := dkwX1_suits_1 ++ dktX1_suits_2
def dkwX1_suits_0 : List UInt8 := [42, 180, 0, 11, 27, 50, 42, 180, 0, 21, 28, 46, 182, 0, 79, 153, 0, 28, 42, 180, 0, 11, 27, 50]
abbrev dktX1_suits_0 : List UInt8 := dkwX1_suits_0 ++ dktX1_suits_1
theorem dksX1_suits_0 : cX1_suits.data.toList.drop 0 = dktX1_suits_0 := by decide +kernel
theorem dksX1_suits_1 : cX1_suits.data.toList.drop 24 = dktX1_suits_1 := dk_seg dksX1_suits_0 24 rfl rfl
theorem dksX1_suits_2 : cX1_suits.data.toList.drop 48 = dktX1_suits_2 := dk_seg dksX1_suits_1 24 rfl rfl
theorem dksX1_suits_3 : cX1_suits.data.toList.drop 72 = dktX1_suits_3 := dk_seg dksX1_suits_2 24 rfl rfl
theorem dX1_suits_0 : decode cX1_suits 0 = .ok (.aload_n 0, 1) := dk_42 (dk_at dksX1_suits_0 0 rfl rfl)
theorem dX1_suits_1 : decode cX1_suits 1 = .ok (.getfield 11, 3) := dk_180 0 11 (dk_at dksX1_suits_0 1 rfl rfl)
theorem dX1_suits_4 : decode cX1_suits 4 = .ok (.iload_n 1, 1) := dk_27 (dk_at dksX1_suits_0 4 rfl rfl)
theorem dX1_suits_5 : decode cX1_suits 5 = .ok (.aaload, 1) := dk_50 (dk_at dksX1_suits_0 5 rfl rfl)
theorem dX1_suits_6 : decode cX1_suits 6 = .ok (.aload_n 0, 1) := dk_42 (dk_at dksX1_suits_0 6 rfl rfl)
theorem dX1_suits_7 : decode cX1_suits 7 = .ok (.getfield 21, 3) := dk_180 0 21 (dk_at dksX1_suits_0 7 rfl rfl)
theorem dX1_suits_10 : decode cX1_suits 10 = .ok (.iload_n 2, 1) := dk_28 (dk_at dksX1_suits_0 10 rfl rfl)
theorem dX1_suits_11 : decode cX1_suits 11 = .ok (.iaload, 1) := dk_46 (dk_at dksX1_suits_0 11 rfl rfl)
theorem dX1_suits_12 : decode cX1_suits 12 = .ok (.invokevirtual 79, 3) := dk_182 0 79 (dk_at dksX1_suits_0 12 rfl rfl)
theorem dX1_suits_15 : decode cX1_suits 15 = .ok (.ifCond .eq 28, 3) := dk_153 0 28 (dk_at dksX1_suits_0 15 rfl rfl)
theorem dX1_suits_18 : decode cX1_suits 18 = .ok (.aload_n 0, 1) := dk_42 (dk_at dksX1_suits_0 18 rfl rfl)
theorem dX1_suits_19 : decode cX1_suits 19 = .ok (.getfield 11, 3) := dk_180 0 11 (dk_at dksX1_suits_0 19 rfl rfl)
theorem dX1_suits_22 : decode cX1_suits 22 = .ok (.iload_n 1, 1) := dk_27 (dk_at dksX1_suits_0 22 rfl rfl)
theorem dX1_suits_23 : decode cX1_suits 23 = .ok (.aaload, 1) := dk_50 (dk_at dksX1_suits_0 23 rfl rfl)
theorem dX1_suits_24 : decode cX1_suits 24 = .ok (.invokevirtual 83, 3) := dk_182 0 83 (dk_at dksX1_suits_1 0 rfl rfl)
theorem dX1_suits_27 : decode cX1_suits 27 = .ok (.aload_n 0, 1) := dk_42 (dk_at dksX1_suits_1 3 rfl rfl)
theorem dX1_suits_28 : decode cX1_suits 28 = .ok (.getfield 33, 3) := dk_180 0 33 (dk_at dksX1_suits_1 4 rfl rfl)
theorem dX1_suits_31 : decode cX1_suits 31 = .ok (.getfield 66, 3) := dk_180 0 66 (dk_at dksX1_suits_1 7 rfl rfl)
theorem dX1_suits_34 : decode cX1_suits 34 = .ok (.iload_n 2, 1) := dk_28 (dk_at dksX1_suits_1 10 rfl rfl)
theorem dX1_suits_35 : decode cX1_suits 35 = .ok (.iaload, 1) := dk_46 (dk_at dksX1_suits_1 11 rfl rfl)
theorem dX1_suits_36 : decode cX1_suits 36 = .ok (.if_icmp .gt 7, 3) := dk_163 0 7 (dk_at dksX1_suits_1 12 rfl rfl)
theorem dX1_suits_39 : decode cX1_suits 39 = .ok (.iconst 1, 1) := dk_4 (dk_at dksX1_suits_1 15 rfl rfl)
theorem dX1_suits_40 : decode cX1_suits 40 = .ok (.goto 4, 3) := dk_167 0 4 (dk_at dksX1_suits_1 16 rfl rfl)
theorem dX1_suits_43 : decode cX1_suits 43 = .ok (.iconst 0, 1) := dk_3 (dk_at dksX1_suits_1 19 rfl rfl)
theorem dX1_suits_44 : decode cX1_suits 44 = .ok (.istore 4, 2) := dk_54 4 (dk_at dksX1_suits_1 20 rfl rfl)
theorem dX1_suits_46 : decode cX1_suits 46 = .ok (.iload 4, 2) := dk_21 4 (dk_at dksX1_suits_1 22 rfl rfl)
theorem dX1_suits_48 : decode cX1_suits 48 = .ok (.ifCond .eq 37, 3) := dk_153 0 37 (dk_at dksX1_suits_2 0 rfl rfl)
theorem dX1_suits_51 : decode cX1_suits 51 = .ok (.aload_n 0, 1) := dk_42 (dk_at dksX1_suits_2 3 rfl rfl)
theorem dX1_suits_52 : decode cX1_suits 52 = .ok (.getfield 24, 3) := dk_180 0 24 (dk_at dksX1_suits_2 4 rfl rfl)
theorem dX1_suits_55 : decode cX1_suits 55 = .ok (.iload_n 2, 1) := dk_28 (dk_at dksX1_suits_2 7 rfl rfl)
theorem dX1_suits_56 : decode cX1_suits 56 = .ok (.iaload, 1) := dk_46 (dk_at dksX1_suits_2 8 rfl rfl)
theorem dX1_suits_57 : decode cX1_suits 57 = .ok (.bipush 6, 2) := dk_16 6 (dk_at dksX1_suits_2 9 rfl rfl)
theorem dX1_suits_59 : decode cX1_suits 59 = .ok (.if_icmp .eq 22, 3) := dk_159 0 22 (dk_at dksX1_suits_2 11 rfl rfl)
theorem dX1_suits_62 : decode cX1_suits 62 = .ok (.aload_n 0, 1) := dk_42 (dk_at dksX1_suits_2 14 rfl rfl)
theorem dX1_suits_63 : decode cX1_suits 63 = .ok (.getfield 11, 3) := dk_180 0 11 (dk_at dksX1_suits_2 15 rfl rfl)
theorem dX1_suits_66 : decode cX1_suits 66 = .ok (.iload_n 1, 1) := dk_27 (dk_at dksX1_suits_2 18 rfl rfl)
theorem dX1_suits_67 : decode cX1_suits 67 = .ok (.aaload, 1) := dk_50 (dk_at dksX1_suits_2 19 rfl rfl)
theorem dX1_suits_68 : decode cX1_suits 68 = .ok (.iload_n 3, 1) := dk_29 (dk_at dksX1_suits_2 20 rfl rfl)
theorem dX1_suits_69 : decode cX1_suits 69 = .ok (.invokevirtual 87, 3) := dk_182 0 87 (dk_at dksX1_suits_2 21 rfl rfl)
theorem dX1_suits_72 : decode cX1_suits 72 = .ok (.aload_n 0, 1) := dk_42 (dk_at dksX1_suits_3 0 rfl rfl)
theorem dX1_suits_73 : decode cX1_suits 73 = .ok (.getfield 24, 3) := dk_180 0 24 (dk_at dksX1_suits_3 1 rfl rfl)
theorem dX1_suits_76 : decode cX1_suits 76 = .ok (.iload_n 2, 1) := dk_28 (dk_at dksX1_suits_3 4 rfl rfl)
theorem dX1_suits_77 : decode cX1_suits 77 = .ok (.iaload, 1) := dk_46 (dk_at dksX1_suits_3 5 rfl rfl)
theorem dX1_suits_78 : decode cX1_suits 78 = .ok (.if_icmp .ne 7, 3) := dk_160 0 7 (dk_at dksX1_suits_3 6 rfl rfl)
theorem dX1_suits_81 : decode cX1_suits 81 = .ok (.iconst 1, 1) := dk_4 (dk_at dksX1_suits_3 9 rfl rfl)
theorem dX1_suits_82 : decode cX1_suits 82 = .ok (.goto 4, 3) := dk_167 0 4 (dk_at dksX1_suits_3 10 rfl rfl)
theorem dX1_suits_85 : decode cX1_suits 85 = .ok (.iconst 0, 1) := dk_3 (dk_at dksX1_suits_3 13 rfl rfl)
theorem dX1_suits_86 : decode cX1_suits 86 = .ok (.ireturn, 1) := dk_172 (dk_at dksX1_suits_3 14 rfl rfl)
theorem q62 : (Jvm.Cond.initialized "RentedViews$Shop") ∈ lw_all := lw_g (lw_at lw_m1 2 rfl) rfl
theorem q92 : (Jvm.Cond.instantiable "RentedViews$Shop" (11 : Nat)) ∈ lw_all := lw_g (lw_at lw_m1 32 rfl) rfl
theorem q94 : (Jvm.Cond.instanceMethod ({ cls := "RentedViews$Shop", name := "<init>", desc := "()V" } : Jvm.MethodName)) ∈ lw_all := lw_g (lw_at lw_m1 34 rfl) rfl
theorem q95 : (Jvm.Cond.code ({ cls := "RentedViews$Shop", name := "<init>", desc := "()V" } : Jvm.MethodName) prog_9_method_1_code (1 : Nat) (Option.none : Option Jvm.ClassFile.FieldType)) ∈ lw_all := lw_g (lw_at lw_m1 35 rfl) rfl
theorem q96 : (Jvm.Cond.methodLink "RentedViews$Shop" (3 : Nat) ({ cls := "java/lang/Object", name := "<init>", desc := "()V" } : Jvm.MethodName)) ∈ lw_all := lw_g (lw_at lw_m1 36 rfl) rfl
theorem q97 : (Jvm.Cond.classLink "RentedViews$Shop" (9 : Nat) "RentedViews$View") ∈ lw_all := lw_g (lw_at lw_m1 37 rfl) rfl
theorem q99 : (Jvm.Cond.classLink "RentedViews$Shop" (30 : Nat) "RentedViews$State") ∈ lw_all := lw_g (lw_at lw_m1 39 rfl) rfl
theorem q101 : (Jvm.Cond.methodLinkNest "RentedViews$Shop" (32 : Nat) ({ cls := "RentedViews$State", name := "<init>", desc := "()V" } : Jvm.MethodName) "RentedViews") ∈ lw_tbl := lw_at lw_m1 41 rfl
theorem q106 : (Jvm.Cond.fieldLinkNest "RentedViews$Shop" (66 : Nat) "RentedViews$State" "purses" "[I" "RentedViews") ∈ lw_tbl := lw_at lw_m1 46 rfl
theorem q109 : (Jvm.Cond.fieldLinkNest "RentedViews$Shop" (63 : Nat) "RentedViews$State" "let" "[I" "RentedViews") ∈ lw_tbl := lw_at lw_m1 49 rfl
theorem q111 : (Jvm.Cond.fieldLinkNest "RentedViews$Shop" (51 : Nat) "RentedViews$State" "takings" "I" "RentedViews") ∈ lw_tbl := lw_at lw_m1 51 rfl
theorem q114 : (Jvm.Cond.fieldLinkNest "RentedViews$Shop" (54 : Nat) "RentedViews$State" "evening" "I" "RentedViews") ∈ lw_tbl := lw_at lw_m1 54 rfl
theorem q119 : (Jvm.Cond.fieldLinkNest "RentedViews$Shop" (57 : Nat) "RentedViews$State" "told" "I" "RentedViews") ∈ lw_tbl := lw_at lw_m1 59 rfl
theorem q137 : (Jvm.Cond.fieldLink "RentedViews$Shop" (11 : Nat) "RentedViews$Shop" "views" "[LRentedViews$View;") ∈ lw_all := lw_g (lw_at lw_m1 77 rfl) rfl
theorem q140 : (Jvm.Cond.fieldLink "RentedViews$Shop" (17 : Nat) "RentedViews$Shop" "things" "[I") ∈ lw_all := lw_g (lw_at lw_m1 80 rfl) rfl
theorem q143 : (Jvm.Cond.fieldLink "RentedViews$Shop" (41 : Nat) "RentedViews$Shop" "many" "I") ∈ lw_all := lw_g (lw_at lw_m1 83 rfl) rfl
theorem q147 : (Jvm.Cond.fieldLink "RentedViews$Shop" (21 : Nat) "RentedViews$Shop" "walls" "[I") ∈ lw_all := lw_g (lw_at lw_m1 87 rfl) rfl
theorem q149 : (Jvm.Cond.fieldLink "RentedViews$Shop" (24 : Nat) "RentedViews$Shop" "wants" "[I") ∈ lw_all := lw_g (lw_at lw_m1 89 rfl) rfl
theorem q151 : (Jvm.Cond.fieldLink "RentedViews$Shop" (45 : Nat) "RentedViews$Shop" "renters" "I") ∈ lw_all := lw_g (lw_at lw_m1 91 rfl) rfl
theorem q155 : (Jvm.Cond.fieldLink "RentedViews$Shop" (27 : Nat) "RentedViews$Shop" "readings" "[I") ∈ lw_all := lw_g (lw_at lw_m1 95 rfl) rfl
theorem q157 : (Jvm.Cond.fieldLink "RentedViews$Shop" (48 : Nat) "RentedViews$Shop" "read" "I") ∈ lw_all := lw_g (lw_at lw_m1 97 rfl) rfl
theorem q159 : (Jvm.Cond.fieldLink "RentedViews$Shop" (33 : Nat) "RentedViews$Shop" "now" "LRentedViews$State;") ∈ lw_all := lw_g (lw_at lw_m1 99 rfl) rfl
theorem q161 : (Jvm.Cond.fieldLink "RentedViews$Shop" (37 : Nat) "RentedViews$Shop" "was" "[LRentedViews$State;") ∈ lw_all := lw_g (lw_at lw_m1 101 rfl) rfl
theorem q163 : (Jvm.Cond.fieldLink "RentedViews$Shop" (60 : Nat) "RentedViews$Shop" "undos" "I") ∈ lw_all := lw_g (lw_at lw_m1 103 rfl) rfl
theorem q165 : (Jvm.Cond.laysFinal "RentedViews$Shop" "RentedViews$Shop" "views" "[LRentedViews$View;") ∈ lw_all := lw_g (lw_at lw_m1 105 rfl) rfl
theorem q166 : (Jvm.Cond.soleField "RentedViews$Shop" "views") ∈ lw_all := lw_g (lw_at lw_m1 106 rfl) rfl
theorem q167 : (Jvm.Cond.laysFinal "RentedViews$Shop" "RentedViews$Shop" "things" "[I") ∈ lw_all := lw_g (lw_at lw_m1 107 rfl) rfl
theorem q168 : (Jvm.Cond.soleField "RentedViews$Shop" "things") ∈ lw_all := lw_g (lw_at lw_m1 108 rfl) rfl
theorem q169 : (Jvm.Cond.lays "RentedViews$Shop" "RentedViews$Shop" "many" "I") ∈ lw_all := lw_g (lw_at lw_m1 109 rfl) rfl
theorem q170 : (Jvm.Cond.soleField "RentedViews$Shop" "many") ∈ lw_all := lw_g (lw_at lw_m1 110 rfl) rfl
theorem q171 : (Jvm.Cond.laysFinal "RentedViews$Shop" "RentedViews$Shop" "walls" "[I") ∈ lw_all := lw_g (lw_at lw_m1 111 rfl) rfl
theorem q172 : (Jvm.Cond.soleField "RentedViews$Shop" "walls") ∈ lw_all := lw_g (lw_at lw_m1 112 rfl) rfl
theorem q173 : (Jvm.Cond.laysFinal "RentedViews$Shop" "RentedViews$Shop" "wants" "[I") ∈ lw_all := lw_g (lw_at lw_m1 113 rfl) rfl
theorem q174 : (Jvm.Cond.soleField "RentedViews$Shop" "wants") ∈ lw_all := lw_g (lw_at lw_m1 114 rfl) rfl
theorem q175 : (Jvm.Cond.lays "RentedViews$Shop" "RentedViews$Shop" "renters" "I") ∈ lw_all := lw_g (lw_at lw_m1 115 rfl) rfl
theorem q176 : (Jvm.Cond.soleField "RentedViews$Shop" "renters") ∈ lw_all := lw_g (lw_at lw_m1 116 rfl) rfl
theorem q177 : (Jvm.Cond.laysFinal "RentedViews$Shop" "RentedViews$Shop" "readings" "[I") ∈ lw_all := lw_g (lw_at lw_m1 117 rfl) rfl
theorem q178 : (Jvm.Cond.soleField "RentedViews$Shop" "readings") ∈ lw_all := lw_g (lw_at lw_m1 118 rfl) rfl
theorem q179 : (Jvm.Cond.lays "RentedViews$Shop" "RentedViews$Shop" "read" "I") ∈ lw_all := lw_g (lw_at lw_m1 119 rfl) rfl
theorem q180 : (Jvm.Cond.soleField "RentedViews$Shop" "read") ∈ lw_all := lw_g (lw_at lw_m1 120 rfl) rfl
theorem q181 : (Jvm.Cond.laysFinal "RentedViews$Shop" "RentedViews$Shop" "now" "LRentedViews$State;") ∈ lw_all := lw_g (lw_at lw_m1 121 rfl) rfl
theorem q182 : (Jvm.Cond.soleField "RentedViews$Shop" "now") ∈ lw_all := lw_g (lw_at lw_m1 122 rfl) rfl
theorem q183 : (Jvm.Cond.laysFinal "RentedViews$Shop" "RentedViews$Shop" "was" "[LRentedViews$State;") ∈ lw_all := lw_g (lw_at lw_m1 123 rfl) rfl
theorem q184 : (Jvm.Cond.soleField "RentedViews$Shop" "was") ∈ lw_all := lw_g (lw_at lw_m1 124 rfl) rfl
theorem q185 : (Jvm.Cond.lays "RentedViews$Shop" "RentedViews$Shop" "undos" "I") ∈ lw_all := lw_g (lw_at lw_m1 125 rfl) rfl
theorem q186 : (Jvm.Cond.soleField "RentedViews$Shop" "undos") ∈ lw_all := lw_g (lw_at lw_m1 126 rfl) rfl
theorem q187 : (Jvm.Cond.superclass "RentedViews$Shop" "java/lang/Object") ∈ lw_all := lw_g (lw_at lw_m1 127 rfl) rfl
theorem q244 : (Jvm.Cond.instanceMethod ({ cls := "RentedViews$Shop", name := "begins", desc := "()V" } : Jvm.MethodName)) ∈ lw_all := lw_g (lw_at lw_m1 184 rfl) rfl
theorem q245 : (Jvm.Cond.selects "RentedViews$Shop" ({ cls := "RentedViews$Shop", name := "begins", desc := "()V" } : Jvm.MethodName) ({ cls := "RentedViews$Shop", name := "begins", desc := "()V" } : Jvm.MethodName)) ∈ lw_all := lw_g (lw_at lw_m1 185 rfl) rfl
theorem q246 : (Jvm.Cond.code ({ cls := "RentedViews$Shop", name := "begins", desc := "()V" } : Jvm.MethodName) prog_9_method_2_code (1 : Nat) (Option.none : Option Jvm.ClassFile.FieldType)) ∈ lw_all := lw_g (lw_at lw_m1 186 rfl) rfl
theorem q397 : (Jvm.Cond.instanceMethod ({ cls := "RentedViews$Shop", name := "hangs", desc := "(LRentedViews$View;)V" } : Jvm.MethodName)) ∈ lw_all := lw_g (lw_at lw_m2 97 rfl) rfl
theorem q398 : (Jvm.Cond.selects "RentedViews$Shop" ({ cls := "RentedViews$Shop", name := "hangs", desc := "(LRentedViews$View;)V" } : Jvm.MethodName) ({ cls := "RentedViews$Shop", name := "hangs", desc := "(LRentedViews$View;)V" } : Jvm.MethodName)) ∈ lw_all := lw_g (lw_at lw_m2 98 rfl) rfl
theorem q399 : (Jvm.Cond.code ({ cls := "RentedViews$Shop", name := "hangs", desc := "(LRentedViews$View;)V" } : Jvm.MethodName) prog_9_method_3_code (2 : Nat) (Option.none : Option Jvm.ClassFile.FieldType)) ∈ lw_all := lw_g (lw_at lw_m2 99 rfl) rfl
theorem q410 : (Jvm.Cond.instanceMethod ({ cls := "RentedViews$Shop", name := "comes", desc := "(III)V" } : Jvm.MethodName)) ∈ lw_all := lw_g (lw_at lw_m2 110 rfl) rfl
theorem q411 : (Jvm.Cond.selects "RentedViews$Shop" ({ cls := "RentedViews$Shop", name := "comes", desc := "(III)V" } : Jvm.MethodName) ({ cls := "RentedViews$Shop", name := "comes", desc := "(III)V" } : Jvm.MethodName)) ∈ lw_all := lw_g (lw_at lw_m2 111 rfl) rfl
theorem q412 : (Jvm.Cond.code ({ cls := "RentedViews$Shop", name := "comes", desc := "(III)V" } : Jvm.MethodName) prog_9_method_4_code (4 : Nat) (Option.none : Option Jvm.ClassFile.FieldType)) ∈ lw_all := lw_g (lw_at lw_m2 112 rfl) rfl
theorem q589 : (Jvm.Cond.instanceMethod ({ cls := "RentedViews$Shop", name := "takes", desc := "(LRentedViews$Shop;)V" } : Jvm.MethodName)) ∈ lw_all := lw_g (lw_at lw_m3 49 rfl) rfl
theorem q590 : (Jvm.Cond.selects "RentedViews$Shop" ({ cls := "RentedViews$Shop", name := "takes", desc := "(LRentedViews$Shop;)V" } : Jvm.MethodName) ({ cls := "RentedViews$Shop", name := "takes", desc := "(LRentedViews$Shop;)V" } : Jvm.MethodName)) ∈ lw_all := lw_g (lw_at lw_m3 50 rfl) rfl
theorem q591 : (Jvm.Cond.code ({ cls := "RentedViews$Shop", name := "takes", desc := "(LRentedViews$Shop;)V" } : Jvm.MethodName) prog_9_method_6_code (3 : Nat) (Option.none : Option Jvm.ClassFile.FieldType)) ∈ lw_all := lw_g (lw_at lw_m3 51 rfl) rfl
theorem q592 : (Jvm.Cond.methodLink "RentedViews$Shop" (73 : Nat) ({ cls := "java/lang/System", name := "arraycopy", desc := "(Ljava/lang/Object;ILjava/lang/Object;II)V" } : Jvm.MethodName)) ∈ lw_all := lw_g (lw_at lw_m3 52 rfl) rfl
theorem q595 : (Jvm.Cond.methodLink "RentedViews$Shop" (69 : Nat) ({ cls := "RentedViews$State", name := "takes", desc := "(LRentedViews$State;)V" } : Jvm.MethodName)) ∈ lw_all := lw_g (lw_at lw_m3 55 rfl) rfl
theorem q609 : (Jvm.Cond.instanceMethod ({ cls := "RentedViews$Shop", name := "viewOf", desc := "(I)I" } : Jvm.MethodName)) ∈ lw_all := lw_g (lw_at lw_m3 69 rfl) rfl
theorem q610 : (Jvm.Cond.selects "RentedViews$Shop" ({ cls := "RentedViews$Shop", name := "viewOf", desc := "(I)I" } : Jvm.MethodName) ({ cls := "RentedViews$Shop", name := "viewOf", desc := "(I)I" } : Jvm.MethodName)) ∈ lw_all := lw_g (lw_at lw_m3 70 rfl) rfl
theorem q611 : (Jvm.Cond.code ({ cls := "RentedViews$Shop", name := "viewOf", desc := "(I)I" } : Jvm.MethodName) prog_9_method_8_code (4 : Nat) (Option.some Jvm.ClassFile.FieldType.int)) ∈ lw_all := lw_g (lw_at lw_m3 71 rfl) rfl
theorem q653 : (Jvm.Cond.instanceMethod ({ cls := "RentedViews$Shop", name := "remembers", desc := "()V" } : Jvm.MethodName)) ∈ lw_all := lw_g (lw_at lw_m3 113 rfl) rfl
theorem q654 : (Jvm.Cond.selects "RentedViews$Shop" ({ cls := "RentedViews$Shop", name := "remembers", desc := "()V" } : Jvm.MethodName) ({ cls := "RentedViews$Shop", name := "remembers", desc := "()V" } : Jvm.MethodName)) ∈ lw_all := lw_g (lw_at lw_m3 114 rfl) rfl
theorem q655 : (Jvm.Cond.code ({ cls := "RentedViews$Shop", name := "remembers", desc := "()V" } : Jvm.MethodName) prog_9_method_5_code (2 : Nat) (Option.none : Option Jvm.ClassFile.FieldType)) ∈ lw_all := lw_g (lw_at lw_m3 115 rfl) rfl
theorem q745 : (Jvm.Cond.instanceMethod ({ cls := "RentedViews$Shop", name := "suits", desc := "(III)Z" } : Jvm.MethodName)) ∈ lw_all := lw_g (lw_at lw_m3 205 rfl) rfl
theorem q746 : (Jvm.Cond.selects "RentedViews$Shop" ({ cls := "RentedViews$Shop", name := "suits", desc := "(III)Z" } : Jvm.MethodName) ({ cls := "RentedViews$Shop", name := "suits", desc := "(III)Z" } : Jvm.MethodName)) ∈ lw_all := lw_g (lw_at lw_m3 206 rfl) rfl
theorem q747 : (Jvm.Cond.code ({ cls := "RentedViews$Shop", name := "suits", desc := "(III)Z" } : Jvm.MethodName) prog_9_method_7_code (5 : Nat) (Option.some Jvm.ClassFile.FieldType.boolean)) ∈ lw_all := lw_g (lw_at lw_m3 207 rfl) rfl
theorem q748 : (Jvm.Cond.methodLink "RentedViews$Shop" (79 : Nat) ({ cls := "RentedViews$View", name := "fits", desc := "(I)Z" } : Jvm.MethodName)) ∈ lw_all := lw_g (lw_at lw_m3 208 rfl) rfl
theorem q749 : (Jvm.Cond.methodLink "RentedViews$Shop" (83 : Nat) ({ cls := "RentedViews$View", name := "lets", desc := "()I" } : Jvm.MethodName)) ∈ lw_all := lw_g (lw_at lw_m3 209 rfl) rfl
theorem q750 : (Jvm.Cond.methodLink "RentedViews$Shop" (87 : Nat) ({ cls := "RentedViews$View", name := "shows", desc := "(I)I" } : Jvm.MethodName)) ∈ lw_all := lw_g (lw_at lw_m3 210 rfl) rfl
theorem in_X1 : ∀ w ∈ wsX10, w ∈ lw_all := lw_in wsX10 [165, 167, 169, 171, 173, 175, 177, 179, 181, 183, 185] (by decide +kernel) (by decide +kernel)
/-! RentedViews$State -/
set_option maxRecDepth 100000
def RX2 : String := "RentedViews$State"
def TX2 : u_T := fun k => match k with
  | 0 => ("RentedViews$State", "purses", "[I", true)
  | 1 => ("RentedViews$State", "let", "[I", true)
  | 2 => ("RentedViews$State", "takings", "I", false)
  | 3 => ("RentedViews$State", "evening", "I", false)
  | 4 => ("RentedViews$State", "history", "[I", true)
  | _ => ("RentedViews$State", "told", "I", false)
def tyX2 : Nat → FieldType := fun k => match k with
  | 0 => .array .int
  | 1 => .array .int
  | 2 => .int
  | 3 => .int
  | 4 => .array .int
  | _ => .int
abbrev wsX20 : List Cond := u_ws RX2 TX2 6
theorem nmX2 : ∀ a, a < 6 → ∀ b, b < 6 → a ≠ b → (TX2 a).2.1 ≠ (TX2 b).2.1 := by decide +kernel
theorem tyX2_ok : ∀ k, k < 6 → parseFieldDescriptor (TX2 k).2.2.1 = some (tyX2 k) := by decide +kernel
abbrev cX2_init : ByteArray := prog_10_method_1_code
def yX2_init : MethodName := ⟨RX2, "<init>", "()V"⟩
def dkwX2_init_1 : List UInt8 := [188, 10, 181, 0, 18, 177]
abbrev dktX2_init_1 : List UInt8 := dkwX2_init_1 ++ []
def dkwX2_init_0 : List UInt8 := [42, 183, 0, 3, 42, 16, 6, 188, 10, 181, 0, 9, 42, 16, 6, 188, 10, 181, 0, 15, 42, 16, 36]
abbrev dktX2_init_0 : List UInt8 := dkwX2_init_0 ++ dktX2_init_1
theorem dksX2_init_0 : cX2_init.data.toList.drop 0 = dktX2_init_0 := by decide +kernel
theorem dksX2_init_1 : cX2_init.data.toList.drop 23 = dktX2_init_1 := dk_seg dksX2_init_0 23 rfl rfl
theorem dX2_init_0 : decode cX2_init 0 = .ok (.aload_n 0, 1) := dk_42 (dk_at dksX2_init_0 0 rfl rfl)
theorem dX2_init_1 : decode cX2_init 1 = .ok (.invokespecial 3, 3) := dk_183 0 3 (dk_at dksX2_init_0 1 rfl rfl)
theorem dX2_init_4 : decode cX2_init 4 = .ok (.aload_n 0, 1) := dk_42 (dk_at dksX2_init_0 4 rfl rfl)
theorem dX2_init_5 : decode cX2_init 5 = .ok (.bipush 6, 2) := dk_16 6 (dk_at dksX2_init_0 5 rfl rfl)
theorem dX2_init_7 : decode cX2_init 7 = .ok (.newarray .int, 2) := dk_188_10 (dk_at dksX2_init_0 7 rfl rfl)
theorem dX2_init_9 : decode cX2_init 9 = .ok (.putfield 9, 3) := dk_181 0 9 (dk_at dksX2_init_0 9 rfl rfl)
theorem dX2_init_12 : decode cX2_init 12 = .ok (.aload_n 0, 1) := dk_42 (dk_at dksX2_init_0 12 rfl rfl)
theorem dX2_init_13 : decode cX2_init 13 = .ok (.bipush 6, 2) := dk_16 6 (dk_at dksX2_init_0 13 rfl rfl)
theorem dX2_init_15 : decode cX2_init 15 = .ok (.newarray .int, 2) := dk_188_10 (dk_at dksX2_init_0 15 rfl rfl)
theorem dX2_init_17 : decode cX2_init 17 = .ok (.putfield 15, 3) := dk_181 0 15 (dk_at dksX2_init_0 17 rfl rfl)
theorem dX2_init_20 : decode cX2_init 20 = .ok (.aload_n 0, 1) := dk_42 (dk_at dksX2_init_0 20 rfl rfl)
theorem dX2_init_21 : decode cX2_init 21 = .ok (.bipush 36, 2) := dk_16 36 (dk_at dksX2_init_0 21 rfl rfl)
theorem dX2_init_23 : decode cX2_init 23 = .ok (.newarray .int, 2) := dk_188_10 (dk_at dksX2_init_1 0 rfl rfl)
theorem dX2_init_25 : decode cX2_init 25 = .ok (.putfield 18, 3) := dk_181 0 18 (dk_at dksX2_init_1 2 rfl rfl)
theorem dX2_init_28 : decode cX2_init 28 = .ok (.return_, 1) := dk_177 (dk_at dksX2_init_1 5 rfl rfl)
abbrev cX2_takes : ByteArray := prog_10_method_2_code
def yX2_takes : MethodName := ⟨RX2, "takes", "(LRentedViews$State;)V"⟩
def dkwX2_takes_3 : List UInt8 := [181, 0, 34, 177]
abbrev dktX2_takes_3 : List UInt8 := dkwX2_takes_3 ++ []
def dkwX2_takes_2 : List UInt8 := [180, 0, 18, 3, 42, 180, 0, 18, 3, 42, 180, 0, 18, 190, 184, 0, 21, 42, 43, 180, 0, 34]
abbrev dktX2_takes_2 : List UInt8 := dkwX2_takes_2 ++ dktX2_takes_3
def dkwX2_takes_1 : List UInt8 := [3, 16, 6, 184, 0, 21, 42, 43, 180, 0, 27, 181, 0, 27, 42, 43, 180, 0, 31, 181, 0, 31, 43]
abbrev dktX2_takes_1 : List UInt8 := dkwX2_takes_1 ++ dktX2_takes_2
def dkwX2_takes_0 : List UInt8 := [43, 180, 0, 9, 3, 42, 180, 0, 9, 3, 16, 6, 184, 0, 21, 43, 180, 0, 15, 3, 42, 180, 0, 15]
abbrev dktX2_takes_0 : List UInt8 := dkwX2_takes_0 ++ dktX2_takes_1
theorem dksX2_takes_0 : cX2_takes.data.toList.drop 0 = dktX2_takes_0 := by decide +kernel
theorem dksX2_takes_1 : cX2_takes.data.toList.drop 24 = dktX2_takes_1 := dk_seg dksX2_takes_0 24 rfl rfl
theorem dksX2_takes_2 : cX2_takes.data.toList.drop 47 = dktX2_takes_2 := dk_seg dksX2_takes_1 23 rfl rfl
theorem dksX2_takes_3 : cX2_takes.data.toList.drop 69 = dktX2_takes_3 := dk_seg dksX2_takes_2 22 rfl rfl
theorem dX2_takes_0 : decode cX2_takes 0 = .ok (.aload_n 1, 1) := dk_43 (dk_at dksX2_takes_0 0 rfl rfl)
theorem dX2_takes_1 : decode cX2_takes 1 = .ok (.getfield 9, 3) := dk_180 0 9 (dk_at dksX2_takes_0 1 rfl rfl)
theorem dX2_takes_4 : decode cX2_takes 4 = .ok (.iconst 0, 1) := dk_3 (dk_at dksX2_takes_0 4 rfl rfl)
theorem dX2_takes_5 : decode cX2_takes 5 = .ok (.aload_n 0, 1) := dk_42 (dk_at dksX2_takes_0 5 rfl rfl)
theorem dX2_takes_6 : decode cX2_takes 6 = .ok (.getfield 9, 3) := dk_180 0 9 (dk_at dksX2_takes_0 6 rfl rfl)
theorem dX2_takes_9 : decode cX2_takes 9 = .ok (.iconst 0, 1) := dk_3 (dk_at dksX2_takes_0 9 rfl rfl)
theorem dX2_takes_10 : decode cX2_takes 10 = .ok (.bipush 6, 2) := dk_16 6 (dk_at dksX2_takes_0 10 rfl rfl)
theorem dX2_takes_12 : decode cX2_takes 12 = .ok (.invokestatic 21, 3) := dk_184 0 21 (dk_at dksX2_takes_0 12 rfl rfl)
theorem dX2_takes_15 : decode cX2_takes 15 = .ok (.aload_n 1, 1) := dk_43 (dk_at dksX2_takes_0 15 rfl rfl)
theorem dX2_takes_16 : decode cX2_takes 16 = .ok (.getfield 15, 3) := dk_180 0 15 (dk_at dksX2_takes_0 16 rfl rfl)
theorem dX2_takes_19 : decode cX2_takes 19 = .ok (.iconst 0, 1) := dk_3 (dk_at dksX2_takes_0 19 rfl rfl)
theorem dX2_takes_20 : decode cX2_takes 20 = .ok (.aload_n 0, 1) := dk_42 (dk_at dksX2_takes_0 20 rfl rfl)
theorem dX2_takes_21 : decode cX2_takes 21 = .ok (.getfield 15, 3) := dk_180 0 15 (dk_at dksX2_takes_0 21 rfl rfl)
theorem dX2_takes_24 : decode cX2_takes 24 = .ok (.iconst 0, 1) := dk_3 (dk_at dksX2_takes_1 0 rfl rfl)
theorem dX2_takes_25 : decode cX2_takes 25 = .ok (.bipush 6, 2) := dk_16 6 (dk_at dksX2_takes_1 1 rfl rfl)
theorem dX2_takes_27 : decode cX2_takes 27 = .ok (.invokestatic 21, 3) := dk_184 0 21 (dk_at dksX2_takes_1 3 rfl rfl)
theorem dX2_takes_30 : decode cX2_takes 30 = .ok (.aload_n 0, 1) := dk_42 (dk_at dksX2_takes_1 6 rfl rfl)
theorem dX2_takes_31 : decode cX2_takes 31 = .ok (.aload_n 1, 1) := dk_43 (dk_at dksX2_takes_1 7 rfl rfl)
theorem dX2_takes_32 : decode cX2_takes 32 = .ok (.getfield 27, 3) := dk_180 0 27 (dk_at dksX2_takes_1 8 rfl rfl)
theorem dX2_takes_35 : decode cX2_takes 35 = .ok (.putfield 27, 3) := dk_181 0 27 (dk_at dksX2_takes_1 11 rfl rfl)
theorem dX2_takes_38 : decode cX2_takes 38 = .ok (.aload_n 0, 1) := dk_42 (dk_at dksX2_takes_1 14 rfl rfl)
theorem dX2_takes_39 : decode cX2_takes 39 = .ok (.aload_n 1, 1) := dk_43 (dk_at dksX2_takes_1 15 rfl rfl)
theorem dX2_takes_40 : decode cX2_takes 40 = .ok (.getfield 31, 3) := dk_180 0 31 (dk_at dksX2_takes_1 16 rfl rfl)
theorem dX2_takes_43 : decode cX2_takes 43 = .ok (.putfield 31, 3) := dk_181 0 31 (dk_at dksX2_takes_1 19 rfl rfl)
theorem dX2_takes_46 : decode cX2_takes 46 = .ok (.aload_n 1, 1) := dk_43 (dk_at dksX2_takes_1 22 rfl rfl)
theorem dX2_takes_47 : decode cX2_takes 47 = .ok (.getfield 18, 3) := dk_180 0 18 (dk_at dksX2_takes_2 0 rfl rfl)
theorem dX2_takes_50 : decode cX2_takes 50 = .ok (.iconst 0, 1) := dk_3 (dk_at dksX2_takes_2 3 rfl rfl)
theorem dX2_takes_51 : decode cX2_takes 51 = .ok (.aload_n 0, 1) := dk_42 (dk_at dksX2_takes_2 4 rfl rfl)
theorem dX2_takes_52 : decode cX2_takes 52 = .ok (.getfield 18, 3) := dk_180 0 18 (dk_at dksX2_takes_2 5 rfl rfl)
theorem dX2_takes_55 : decode cX2_takes 55 = .ok (.iconst 0, 1) := dk_3 (dk_at dksX2_takes_2 8 rfl rfl)
theorem dX2_takes_56 : decode cX2_takes 56 = .ok (.aload_n 0, 1) := dk_42 (dk_at dksX2_takes_2 9 rfl rfl)
theorem dX2_takes_57 : decode cX2_takes 57 = .ok (.getfield 18, 3) := dk_180 0 18 (dk_at dksX2_takes_2 10 rfl rfl)
theorem dX2_takes_60 : decode cX2_takes 60 = .ok (.arraylength, 1) := dk_190 (dk_at dksX2_takes_2 13 rfl rfl)
theorem dX2_takes_61 : decode cX2_takes 61 = .ok (.invokestatic 21, 3) := dk_184 0 21 (dk_at dksX2_takes_2 14 rfl rfl)
theorem dX2_takes_64 : decode cX2_takes 64 = .ok (.aload_n 0, 1) := dk_42 (dk_at dksX2_takes_2 17 rfl rfl)
theorem dX2_takes_65 : decode cX2_takes 65 = .ok (.aload_n 1, 1) := dk_43 (dk_at dksX2_takes_2 18 rfl rfl)
theorem dX2_takes_66 : decode cX2_takes 66 = .ok (.getfield 34, 3) := dk_180 0 34 (dk_at dksX2_takes_2 19 rfl rfl)
theorem dX2_takes_69 : decode cX2_takes 69 = .ok (.putfield 34, 3) := dk_181 0 34 (dk_at dksX2_takes_3 0 rfl rfl)
theorem dX2_takes_72 : decode cX2_takes 72 = .ok (.return_, 1) := dk_177 (dk_at dksX2_takes_3 3 rfl rfl)
abbrev cX2_tells : ByteArray := prog_10_method_3_code
def yX2_tells : MethodName := ⟨RX2, "tells", "(II)V"⟩
def dkwX2_tells_3 : List UInt8 := [96, 42, 180, 0, 31, 79, 42, 89, 180, 0, 34, 4, 96, 181, 0, 34, 177]
abbrev dktX2_tells_3 : List UInt8 := dkwX2_tells_3 ++ []
def dkwX2_tells_2 : List UInt8 := [180, 0, 18, 6, 42, 180, 0, 34, 104, 4, 96, 28, 79, 42, 180, 0, 18, 6, 42, 180, 0, 34, 104, 5]
abbrev dktX2_tells_2 : List UInt8 := dkwX2_tells_2 ++ dktX2_tells_3
def dkwX2_tells_1 : List UInt8 := [42, 89, 180, 0, 34, 4, 100, 181, 0, 34, 42, 180, 0, 18, 6, 42, 180, 0, 34, 104, 27, 79, 42]
abbrev dktX2_tells_1 : List UInt8 := dkwX2_tells_1 ++ dktX2_tells_2
def dkwX2_tells_0 : List UInt8 := [42, 180, 0, 34, 16, 12, 160, 0, 28, 42, 180, 0, 18, 6, 42, 180, 0, 18, 3, 16, 33, 184, 0, 21]
abbrev dktX2_tells_0 : List UInt8 := dkwX2_tells_0 ++ dktX2_tells_1
theorem dksX2_tells_0 : cX2_tells.data.toList.drop 0 = dktX2_tells_0 := by decide +kernel
theorem dksX2_tells_1 : cX2_tells.data.toList.drop 24 = dktX2_tells_1 := dk_seg dksX2_tells_0 24 rfl rfl
theorem dksX2_tells_2 : cX2_tells.data.toList.drop 47 = dktX2_tells_2 := dk_seg dksX2_tells_1 23 rfl rfl
theorem dksX2_tells_3 : cX2_tells.data.toList.drop 71 = dktX2_tells_3 := dk_seg dksX2_tells_2 24 rfl rfl
theorem dX2_tells_0 : decode cX2_tells 0 = .ok (.aload_n 0, 1) := dk_42 (dk_at dksX2_tells_0 0 rfl rfl)
theorem dX2_tells_1 : decode cX2_tells 1 = .ok (.getfield 34, 3) := dk_180 0 34 (dk_at dksX2_tells_0 1 rfl rfl)
theorem dX2_tells_4 : decode cX2_tells 4 = .ok (.bipush 12, 2) := dk_16 12 (dk_at dksX2_tells_0 4 rfl rfl)
theorem dX2_tells_6 : decode cX2_tells 6 = .ok (.if_icmp .ne 28, 3) := dk_160 0 28 (dk_at dksX2_tells_0 6 rfl rfl)
theorem dX2_tells_9 : decode cX2_tells 9 = .ok (.aload_n 0, 1) := dk_42 (dk_at dksX2_tells_0 9 rfl rfl)
theorem dX2_tells_10 : decode cX2_tells 10 = .ok (.getfield 18, 3) := dk_180 0 18 (dk_at dksX2_tells_0 10 rfl rfl)
theorem dX2_tells_13 : decode cX2_tells 13 = .ok (.iconst 3, 1) := dk_6 (dk_at dksX2_tells_0 13 rfl rfl)
theorem dX2_tells_14 : decode cX2_tells 14 = .ok (.aload_n 0, 1) := dk_42 (dk_at dksX2_tells_0 14 rfl rfl)
theorem dX2_tells_15 : decode cX2_tells 15 = .ok (.getfield 18, 3) := dk_180 0 18 (dk_at dksX2_tells_0 15 rfl rfl)
theorem dX2_tells_18 : decode cX2_tells 18 = .ok (.iconst 0, 1) := dk_3 (dk_at dksX2_tells_0 18 rfl rfl)
theorem dX2_tells_19 : decode cX2_tells 19 = .ok (.bipush 33, 2) := dk_16 33 (dk_at dksX2_tells_0 19 rfl rfl)
theorem dX2_tells_21 : decode cX2_tells 21 = .ok (.invokestatic 21, 3) := dk_184 0 21 (dk_at dksX2_tells_0 21 rfl rfl)
theorem dX2_tells_24 : decode cX2_tells 24 = .ok (.aload_n 0, 1) := dk_42 (dk_at dksX2_tells_1 0 rfl rfl)
theorem dX2_tells_25 : decode cX2_tells 25 = .ok (.dup, 1) := dk_89 (dk_at dksX2_tells_1 1 rfl rfl)
theorem dX2_tells_26 : decode cX2_tells 26 = .ok (.getfield 34, 3) := dk_180 0 34 (dk_at dksX2_tells_1 2 rfl rfl)
theorem dX2_tells_29 : decode cX2_tells 29 = .ok (.iconst 1, 1) := dk_4 (dk_at dksX2_tells_1 5 rfl rfl)
theorem dX2_tells_30 : decode cX2_tells 30 = .ok (.isub, 1) := dk_100 (dk_at dksX2_tells_1 6 rfl rfl)
theorem dX2_tells_31 : decode cX2_tells 31 = .ok (.putfield 34, 3) := dk_181 0 34 (dk_at dksX2_tells_1 7 rfl rfl)
theorem dX2_tells_34 : decode cX2_tells 34 = .ok (.aload_n 0, 1) := dk_42 (dk_at dksX2_tells_1 10 rfl rfl)
theorem dX2_tells_35 : decode cX2_tells 35 = .ok (.getfield 18, 3) := dk_180 0 18 (dk_at dksX2_tells_1 11 rfl rfl)
theorem dX2_tells_38 : decode cX2_tells 38 = .ok (.iconst 3, 1) := dk_6 (dk_at dksX2_tells_1 14 rfl rfl)
theorem dX2_tells_39 : decode cX2_tells 39 = .ok (.aload_n 0, 1) := dk_42 (dk_at dksX2_tells_1 15 rfl rfl)
theorem dX2_tells_40 : decode cX2_tells 40 = .ok (.getfield 34, 3) := dk_180 0 34 (dk_at dksX2_tells_1 16 rfl rfl)
theorem dX2_tells_43 : decode cX2_tells 43 = .ok (.imul, 1) := dk_104 (dk_at dksX2_tells_1 19 rfl rfl)
theorem dX2_tells_44 : decode cX2_tells 44 = .ok (.iload_n 1, 1) := dk_27 (dk_at dksX2_tells_1 20 rfl rfl)
theorem dX2_tells_45 : decode cX2_tells 45 = .ok (.iastore, 1) := dk_79 (dk_at dksX2_tells_1 21 rfl rfl)
theorem dX2_tells_46 : decode cX2_tells 46 = .ok (.aload_n 0, 1) := dk_42 (dk_at dksX2_tells_1 22 rfl rfl)
theorem dX2_tells_47 : decode cX2_tells 47 = .ok (.getfield 18, 3) := dk_180 0 18 (dk_at dksX2_tells_2 0 rfl rfl)
theorem dX2_tells_50 : decode cX2_tells 50 = .ok (.iconst 3, 1) := dk_6 (dk_at dksX2_tells_2 3 rfl rfl)
theorem dX2_tells_51 : decode cX2_tells 51 = .ok (.aload_n 0, 1) := dk_42 (dk_at dksX2_tells_2 4 rfl rfl)
theorem dX2_tells_52 : decode cX2_tells 52 = .ok (.getfield 34, 3) := dk_180 0 34 (dk_at dksX2_tells_2 5 rfl rfl)
theorem dX2_tells_55 : decode cX2_tells 55 = .ok (.imul, 1) := dk_104 (dk_at dksX2_tells_2 8 rfl rfl)
theorem dX2_tells_56 : decode cX2_tells 56 = .ok (.iconst 1, 1) := dk_4 (dk_at dksX2_tells_2 9 rfl rfl)
theorem dX2_tells_57 : decode cX2_tells 57 = .ok (.iadd, 1) := dk_96 (dk_at dksX2_tells_2 10 rfl rfl)
theorem dX2_tells_58 : decode cX2_tells 58 = .ok (.iload_n 2, 1) := dk_28 (dk_at dksX2_tells_2 11 rfl rfl)
theorem dX2_tells_59 : decode cX2_tells 59 = .ok (.iastore, 1) := dk_79 (dk_at dksX2_tells_2 12 rfl rfl)
theorem dX2_tells_60 : decode cX2_tells 60 = .ok (.aload_n 0, 1) := dk_42 (dk_at dksX2_tells_2 13 rfl rfl)
theorem dX2_tells_61 : decode cX2_tells 61 = .ok (.getfield 18, 3) := dk_180 0 18 (dk_at dksX2_tells_2 14 rfl rfl)
theorem dX2_tells_64 : decode cX2_tells 64 = .ok (.iconst 3, 1) := dk_6 (dk_at dksX2_tells_2 17 rfl rfl)
theorem dX2_tells_65 : decode cX2_tells 65 = .ok (.aload_n 0, 1) := dk_42 (dk_at dksX2_tells_2 18 rfl rfl)
theorem dX2_tells_66 : decode cX2_tells 66 = .ok (.getfield 34, 3) := dk_180 0 34 (dk_at dksX2_tells_2 19 rfl rfl)
theorem dX2_tells_69 : decode cX2_tells 69 = .ok (.imul, 1) := dk_104 (dk_at dksX2_tells_2 22 rfl rfl)
theorem dX2_tells_70 : decode cX2_tells 70 = .ok (.iconst 2, 1) := dk_5 (dk_at dksX2_tells_2 23 rfl rfl)
theorem dX2_tells_71 : decode cX2_tells 71 = .ok (.iadd, 1) := dk_96 (dk_at dksX2_tells_3 0 rfl rfl)
theorem dX2_tells_72 : decode cX2_tells 72 = .ok (.aload_n 0, 1) := dk_42 (dk_at dksX2_tells_3 1 rfl rfl)
theorem dX2_tells_73 : decode cX2_tells 73 = .ok (.getfield 31, 3) := dk_180 0 31 (dk_at dksX2_tells_3 2 rfl rfl)
theorem dX2_tells_76 : decode cX2_tells 76 = .ok (.iastore, 1) := dk_79 (dk_at dksX2_tells_3 5 rfl rfl)
theorem dX2_tells_77 : decode cX2_tells 77 = .ok (.aload_n 0, 1) := dk_42 (dk_at dksX2_tells_3 6 rfl rfl)
theorem dX2_tells_78 : decode cX2_tells 78 = .ok (.dup, 1) := dk_89 (dk_at dksX2_tells_3 7 rfl rfl)
theorem dX2_tells_79 : decode cX2_tells 79 = .ok (.getfield 34, 3) := dk_180 0 34 (dk_at dksX2_tells_3 8 rfl rfl)
theorem dX2_tells_82 : decode cX2_tells 82 = .ok (.iconst 1, 1) := dk_4 (dk_at dksX2_tells_3 11 rfl rfl)
theorem dX2_tells_83 : decode cX2_tells 83 = .ok (.iadd, 1) := dk_96 (dk_at dksX2_tells_3 12 rfl rfl)
theorem dX2_tells_84 : decode cX2_tells 84 = .ok (.putfield 34, 3) := dk_181 0 34 (dk_at dksX2_tells_3 13 rfl rfl)
theorem dX2_tells_87 : decode cX2_tells 87 = .ok (.return_, 1) := dk_177 (dk_at dksX2_tells_3 16 rfl rfl)
theorem q63 : (Jvm.Cond.initialized "RentedViews$State") ∈ lw_all := lw_g (lw_at lw_m1 3 rfl) rfl
theorem q100 : (Jvm.Cond.instantiable "RentedViews$State" (6 : Nat)) ∈ lw_all := lw_g (lw_at lw_m1 40 rfl) rfl
theorem q102 : (Jvm.Cond.instanceMethod ({ cls := "RentedViews$State", name := "<init>", desc := "()V" } : Jvm.MethodName)) ∈ lw_all := lw_g (lw_at lw_m1 42 rfl) rfl
theorem q103 : (Jvm.Cond.code ({ cls := "RentedViews$State", name := "<init>", desc := "()V" } : Jvm.MethodName) prog_10_method_1_code (1 : Nat) (Option.none : Option Jvm.ClassFile.FieldType)) ∈ lw_all := lw_g (lw_at lw_m1 43 rfl) rfl
theorem q104 : (Jvm.Cond.methodLink "RentedViews$State" (3 : Nat) ({ cls := "java/lang/Object", name := "<init>", desc := "()V" } : Jvm.MethodName)) ∈ lw_all := lw_g (lw_at lw_m1 44 rfl) rfl
theorem q105 : (Jvm.Cond.fieldLink "RentedViews$State" (9 : Nat) "RentedViews$State" "purses" "[I") ∈ lw_all := lw_g (lw_at lw_m1 45 rfl) rfl
theorem q108 : (Jvm.Cond.fieldLink "RentedViews$State" (15 : Nat) "RentedViews$State" "let" "[I") ∈ lw_all := lw_g (lw_at lw_m1 48 rfl) rfl
theorem q112 : (Jvm.Cond.fieldLink "RentedViews$State" (27 : Nat) "RentedViews$State" "takings" "I") ∈ lw_all := lw_g (lw_at lw_m1 52 rfl) rfl
theorem q115 : (Jvm.Cond.fieldLink "RentedViews$State" (31 : Nat) "RentedViews$State" "evening" "I") ∈ lw_all := lw_g (lw_at lw_m1 55 rfl) rfl
theorem q117 : (Jvm.Cond.fieldLink "RentedViews$State" (18 : Nat) "RentedViews$State" "history" "[I") ∈ lw_all := lw_g (lw_at lw_m1 57 rfl) rfl
theorem q120 : (Jvm.Cond.fieldLink "RentedViews$State" (34 : Nat) "RentedViews$State" "told" "I") ∈ lw_all := lw_g (lw_at lw_m1 60 rfl) rfl
theorem q122 : (Jvm.Cond.laysFinal "RentedViews$State" "RentedViews$State" "purses" "[I") ∈ lw_all := lw_g (lw_at lw_m1 62 rfl) rfl
theorem q123 : (Jvm.Cond.soleField "RentedViews$State" "purses") ∈ lw_all := lw_g (lw_at lw_m1 63 rfl) rfl
theorem q124 : (Jvm.Cond.laysFinal "RentedViews$State" "RentedViews$State" "let" "[I") ∈ lw_all := lw_g (lw_at lw_m1 64 rfl) rfl
theorem q125 : (Jvm.Cond.soleField "RentedViews$State" "let") ∈ lw_all := lw_g (lw_at lw_m1 65 rfl) rfl
theorem q126 : (Jvm.Cond.lays "RentedViews$State" "RentedViews$State" "takings" "I") ∈ lw_all := lw_g (lw_at lw_m1 66 rfl) rfl
theorem q127 : (Jvm.Cond.soleField "RentedViews$State" "takings") ∈ lw_all := lw_g (lw_at lw_m1 67 rfl) rfl
theorem q128 : (Jvm.Cond.lays "RentedViews$State" "RentedViews$State" "evening" "I") ∈ lw_all := lw_g (lw_at lw_m1 68 rfl) rfl
theorem q129 : (Jvm.Cond.soleField "RentedViews$State" "evening") ∈ lw_all := lw_g (lw_at lw_m1 69 rfl) rfl
theorem q130 : (Jvm.Cond.laysFinal "RentedViews$State" "RentedViews$State" "history" "[I") ∈ lw_all := lw_g (lw_at lw_m1 70 rfl) rfl
theorem q131 : (Jvm.Cond.soleField "RentedViews$State" "history") ∈ lw_all := lw_g (lw_at lw_m1 71 rfl) rfl
theorem q132 : (Jvm.Cond.lays "RentedViews$State" "RentedViews$State" "told" "I") ∈ lw_all := lw_g (lw_at lw_m1 72 rfl) rfl
theorem q133 : (Jvm.Cond.soleField "RentedViews$State" "told") ∈ lw_all := lw_g (lw_at lw_m1 73 rfl) rfl
theorem q134 : (Jvm.Cond.superclass "RentedViews$State" "java/lang/Object") ∈ lw_all := lw_g (lw_at lw_m1 74 rfl) rfl
theorem q596 : (Jvm.Cond.instanceMethod ({ cls := "RentedViews$State", name := "takes", desc := "(LRentedViews$State;)V" } : Jvm.MethodName)) ∈ lw_all := lw_g (lw_at lw_m3 56 rfl) rfl
theorem q597 : (Jvm.Cond.selects "RentedViews$State" ({ cls := "RentedViews$State", name := "takes", desc := "(LRentedViews$State;)V" } : Jvm.MethodName) ({ cls := "RentedViews$State", name := "takes", desc := "(LRentedViews$State;)V" } : Jvm.MethodName)) ∈ lw_all := lw_g (lw_at lw_m3 57 rfl) rfl
theorem q598 : (Jvm.Cond.code ({ cls := "RentedViews$State", name := "takes", desc := "(LRentedViews$State;)V" } : Jvm.MethodName) prog_10_method_2_code (2 : Nat) (Option.none : Option Jvm.ClassFile.FieldType)) ∈ lw_all := lw_g (lw_at lw_m3 58 rfl) rfl
theorem q599 : (Jvm.Cond.methodLink "RentedViews$State" (21 : Nat) ({ cls := "java/lang/System", name := "arraycopy", desc := "(Ljava/lang/Object;ILjava/lang/Object;II)V" } : Jvm.MethodName)) ∈ lw_all := lw_g (lw_at lw_m3 59 rfl) rfl
theorem q657 : (Jvm.Cond.instanceMethod ({ cls := "RentedViews$State", name := "tells", desc := "(II)V" } : Jvm.MethodName)) ∈ lw_all := lw_g (lw_at lw_m3 117 rfl) rfl
theorem q658 : (Jvm.Cond.selects "RentedViews$State" ({ cls := "RentedViews$State", name := "tells", desc := "(II)V" } : Jvm.MethodName) ({ cls := "RentedViews$State", name := "tells", desc := "(II)V" } : Jvm.MethodName)) ∈ lw_all := lw_g (lw_at lw_m3 118 rfl) rfl
theorem q659 : (Jvm.Cond.code ({ cls := "RentedViews$State", name := "tells", desc := "(II)V" } : Jvm.MethodName) prog_10_method_3_code (3 : Nat) (Option.none : Option Jvm.ClassFile.FieldType)) ∈ lw_all := lw_g (lw_at lw_m3 119 rfl) rfl
theorem in_X2 : ∀ w ∈ wsX20, w ∈ lw_all := lw_in wsX20 [122, 124, 126, 128, 130, 132] (by decide +kernel) (by decide +kernel)
/-! RentedViews$Reader -/
set_option maxRecDepth 100000
def RX3 : String := "RentedViews$Reader"
def TX3 : u_T := fun k => match k with
  | 0 => ("RentedViews$Reader", "at", "I", false)
  | 1 => ("RentedViews$Reader", "start", "I", false)
  | 2 => ("RentedViews$Reader", "token", "I", false)
  | 3 => ("RentedViews$Reader", "value", "I", false)
  | 4 => ("RentedViews$Reader", "begun", "Z", false)
  | _ => ("RentedViews$Reader", "this$0", "LRentedViews;", true)
def tyX3 : Nat → FieldType := fun k => match k with
  | 0 => .int
  | 1 => .int
  | 2 => .int
  | 3 => .int
  | 4 => .boolean
  | _ => .object "RentedViews"
abbrev wsX30 : List Cond := u_ws RX3 TX3 6
theorem nmX3 : ∀ a, a < 6 → ∀ b, b < 6 → a ≠ b → (TX3 a).2.1 ≠ (TX3 b).2.1 := by decide +kernel
theorem tyX3_ok : ∀ k, k < 6 → parseFieldDescriptor (TX3 k).2.2.1 = some (tyX3 k) := by decide +kernel
abbrev cX3_init : ByteArray := prog_8_method_1_code
def yX3_init : MethodName := ⟨RX3, "<init>", "(LRentedViews;)V"⟩
def dkwX3_init_0 : List UInt8 := [42, 43, 181, 0, 3, 42, 183, 0, 9, 177]
abbrev dktX3_init_0 : List UInt8 := dkwX3_init_0 ++ []
theorem dksX3_init_0 : cX3_init.data.toList.drop 0 = dktX3_init_0 := by decide +kernel
theorem dX3_init_0 : decode cX3_init 0 = .ok (.aload_n 0, 1) := dk_42 (dk_at dksX3_init_0 0 rfl rfl)
theorem dX3_init_1 : decode cX3_init 1 = .ok (.aload_n 1, 1) := dk_43 (dk_at dksX3_init_0 1 rfl rfl)
theorem dX3_init_2 : decode cX3_init 2 = .ok (.putfield 3, 3) := dk_181 0 3 (dk_at dksX3_init_0 2 rfl rfl)
theorem dX3_init_5 : decode cX3_init 5 = .ok (.aload_n 0, 1) := dk_42 (dk_at dksX3_init_0 5 rfl rfl)
theorem dX3_init_6 : decode cX3_init 6 = .ok (.invokespecial 9, 3) := dk_183 0 9 (dk_at dksX3_init_0 6 rfl rfl)
theorem dX3_init_9 : decode cX3_init 9 = .ok (.return_, 1) := dk_177 (dk_at dksX3_init_0 9 rfl rfl)
abbrev cX3_reads : ByteArray := prog_8_method_8_code
def yX3_reads : MethodName := ⟨RX3, "reads", "()I"⟩
def dkwX3_reads_3 : List UInt8 := [42, 182, 0, 65, 132, 1, 1, 167, 255, 221, 27, 172]
abbrev dktX3_reads_3 : List UInt8 := dkwX3_reads_3 ++ []
def dkwX3_reads_2 : List UInt8 := [153, 0, 34, 42, 182, 0, 81, 42, 42, 180, 0, 33, 6, 160, 0, 7, 4, 167, 0, 4, 3, 182, 0, 61]
abbrev dktX3_reads_2 : List UInt8 := dkwX3_reads_2 ++ dktX3_reads_3
def dkwX3_reads_1 : List UInt8 := [182, 0, 65, 42, 42, 180, 0, 33, 153, 0, 7, 4, 167, 0, 4, 3, 182, 0, 61, 42, 180, 0, 33]
abbrev dktX3_reads_1 : List UInt8 := dkwX3_reads_1 ++ dktX3_reads_2
def dkwX3_reads_0 : List UInt8 := [42, 180, 0, 3, 180, 0, 68, 182, 0, 72, 42, 3, 181, 0, 15, 42, 3, 181, 0, 77, 3, 60, 42]
abbrev dktX3_reads_0 : List UInt8 := dkwX3_reads_0 ++ dktX3_reads_1
theorem dksX3_reads_0 : cX3_reads.data.toList.drop 0 = dktX3_reads_0 := by decide +kernel
theorem dksX3_reads_1 : cX3_reads.data.toList.drop 23 = dktX3_reads_1 := dk_seg dksX3_reads_0 23 rfl rfl
theorem dksX3_reads_2 : cX3_reads.data.toList.drop 46 = dktX3_reads_2 := dk_seg dksX3_reads_1 23 rfl rfl
theorem dksX3_reads_3 : cX3_reads.data.toList.drop 70 = dktX3_reads_3 := dk_seg dksX3_reads_2 24 rfl rfl
theorem dX3_reads_0 : decode cX3_reads 0 = .ok (.aload_n 0, 1) := dk_42 (dk_at dksX3_reads_0 0 rfl rfl)
theorem dX3_reads_1 : decode cX3_reads 1 = .ok (.getfield 3, 3) := dk_180 0 3 (dk_at dksX3_reads_0 1 rfl rfl)
theorem dX3_reads_4 : decode cX3_reads 4 = .ok (.getfield 68, 3) := dk_180 0 68 (dk_at dksX3_reads_0 4 rfl rfl)
theorem dX3_reads_7 : decode cX3_reads 7 = .ok (.invokevirtual 72, 3) := dk_182 0 72 (dk_at dksX3_reads_0 7 rfl rfl)
theorem dX3_reads_10 : decode cX3_reads 10 = .ok (.aload_n 0, 1) := dk_42 (dk_at dksX3_reads_0 10 rfl rfl)
theorem dX3_reads_11 : decode cX3_reads 11 = .ok (.iconst 0, 1) := dk_3 (dk_at dksX3_reads_0 11 rfl rfl)
theorem dX3_reads_12 : decode cX3_reads 12 = .ok (.putfield 15, 3) := dk_181 0 15 (dk_at dksX3_reads_0 12 rfl rfl)
theorem dX3_reads_15 : decode cX3_reads 15 = .ok (.aload_n 0, 1) := dk_42 (dk_at dksX3_reads_0 15 rfl rfl)
theorem dX3_reads_16 : decode cX3_reads 16 = .ok (.iconst 0, 1) := dk_3 (dk_at dksX3_reads_0 16 rfl rfl)
theorem dX3_reads_17 : decode cX3_reads 17 = .ok (.putfield 77, 3) := dk_181 0 77 (dk_at dksX3_reads_0 17 rfl rfl)
theorem dX3_reads_20 : decode cX3_reads 20 = .ok (.iconst 0, 1) := dk_3 (dk_at dksX3_reads_0 20 rfl rfl)
theorem dX3_reads_21 : decode cX3_reads 21 = .ok (.istore_n 1, 1) := dk_60 (dk_at dksX3_reads_0 21 rfl rfl)
theorem dX3_reads_22 : decode cX3_reads 22 = .ok (.aload_n 0, 1) := dk_42 (dk_at dksX3_reads_0 22 rfl rfl)
theorem dX3_reads_23 : decode cX3_reads 23 = .ok (.invokevirtual 65, 3) := dk_182 0 65 (dk_at dksX3_reads_1 0 rfl rfl)
theorem dX3_reads_26 : decode cX3_reads 26 = .ok (.aload_n 0, 1) := dk_42 (dk_at dksX3_reads_1 3 rfl rfl)
theorem dX3_reads_27 : decode cX3_reads 27 = .ok (.aload_n 0, 1) := dk_42 (dk_at dksX3_reads_1 4 rfl rfl)
theorem dX3_reads_28 : decode cX3_reads 28 = .ok (.getfield 33, 3) := dk_180 0 33 (dk_at dksX3_reads_1 5 rfl rfl)
theorem dX3_reads_31 : decode cX3_reads 31 = .ok (.ifCond .eq 7, 3) := dk_153 0 7 (dk_at dksX3_reads_1 8 rfl rfl)
theorem dX3_reads_34 : decode cX3_reads 34 = .ok (.iconst 1, 1) := dk_4 (dk_at dksX3_reads_1 11 rfl rfl)
theorem dX3_reads_35 : decode cX3_reads 35 = .ok (.goto 4, 3) := dk_167 0 4 (dk_at dksX3_reads_1 12 rfl rfl)
theorem dX3_reads_38 : decode cX3_reads 38 = .ok (.iconst 0, 1) := dk_3 (dk_at dksX3_reads_1 15 rfl rfl)
theorem dX3_reads_39 : decode cX3_reads 39 = .ok (.invokevirtual 61, 3) := dk_182 0 61 (dk_at dksX3_reads_1 16 rfl rfl)
theorem dX3_reads_42 : decode cX3_reads 42 = .ok (.aload_n 0, 1) := dk_42 (dk_at dksX3_reads_1 19 rfl rfl)
theorem dX3_reads_43 : decode cX3_reads 43 = .ok (.getfield 33, 3) := dk_180 0 33 (dk_at dksX3_reads_1 20 rfl rfl)
theorem dX3_reads_46 : decode cX3_reads 46 = .ok (.ifCond .eq 34, 3) := dk_153 0 34 (dk_at dksX3_reads_2 0 rfl rfl)
theorem dX3_reads_49 : decode cX3_reads 49 = .ok (.aload_n 0, 1) := dk_42 (dk_at dksX3_reads_2 3 rfl rfl)
theorem dX3_reads_50 : decode cX3_reads 50 = .ok (.invokevirtual 81, 3) := dk_182 0 81 (dk_at dksX3_reads_2 4 rfl rfl)
theorem dX3_reads_53 : decode cX3_reads 53 = .ok (.aload_n 0, 1) := dk_42 (dk_at dksX3_reads_2 7 rfl rfl)
theorem dX3_reads_54 : decode cX3_reads 54 = .ok (.aload_n 0, 1) := dk_42 (dk_at dksX3_reads_2 8 rfl rfl)
theorem dX3_reads_55 : decode cX3_reads 55 = .ok (.getfield 33, 3) := dk_180 0 33 (dk_at dksX3_reads_2 9 rfl rfl)
theorem dX3_reads_58 : decode cX3_reads 58 = .ok (.iconst 3, 1) := dk_6 (dk_at dksX3_reads_2 12 rfl rfl)
theorem dX3_reads_59 : decode cX3_reads 59 = .ok (.if_icmp .ne 7, 3) := dk_160 0 7 (dk_at dksX3_reads_2 13 rfl rfl)
theorem dX3_reads_62 : decode cX3_reads 62 = .ok (.iconst 1, 1) := dk_4 (dk_at dksX3_reads_2 16 rfl rfl)
theorem dX3_reads_63 : decode cX3_reads 63 = .ok (.goto 4, 3) := dk_167 0 4 (dk_at dksX3_reads_2 17 rfl rfl)
theorem dX3_reads_66 : decode cX3_reads 66 = .ok (.iconst 0, 1) := dk_3 (dk_at dksX3_reads_2 20 rfl rfl)
theorem dX3_reads_67 : decode cX3_reads 67 = .ok (.invokevirtual 61, 3) := dk_182 0 61 (dk_at dksX3_reads_2 21 rfl rfl)
theorem dX3_reads_70 : decode cX3_reads 70 = .ok (.aload_n 0, 1) := dk_42 (dk_at dksX3_reads_3 0 rfl rfl)
theorem dX3_reads_71 : decode cX3_reads 71 = .ok (.invokevirtual 65, 3) := dk_182 0 65 (dk_at dksX3_reads_3 1 rfl rfl)
theorem dX3_reads_74 : decode cX3_reads 74 = .ok (.iinc 1 1, 3) := dk_132 1 1 (dk_at dksX3_reads_3 4 rfl rfl)
theorem dX3_reads_77 : decode cX3_reads 77 = .ok (.goto (-35), 3) := dk_167 255 221 (dk_at dksX3_reads_3 7 rfl rfl)
theorem dX3_reads_80 : decode cX3_reads 80 = .ok (.iload_n 1, 1) := dk_27 (dk_at dksX3_reads_3 10 rfl rfl)
theorem dX3_reads_81 : decode cX3_reads 81 = .ok (.ireturn, 1) := dk_172 (dk_at dksX3_reads_3 11 rfl rfl)
abbrev cX3_scans : ByteArray := prog_8_method_3_code
def yX3_scans : MethodName := ⟨RX3, "scans", "()V"⟩
def dkwX3_scans_6 : List UInt8 := [96, 181, 0, 15, 177]
abbrev dktX3_scans_6 : List UInt8 := dkwX3_scans_6 ++ []
def dkwX3_scans_5 : List UInt8 := [16, 59, 16, 59, 182, 0, 26, 153, 0, 7, 6, 167, 0, 4, 4, 181, 0, 33, 42, 89, 180, 0, 15, 4]
abbrev dktX3_scans_5 : List UInt8 := dkwX3_scans_5 ++ dktX3_scans_6
def dkwX3_scans_4 : List UInt8 := [16, 48, 16, 57, 182, 0, 26, 153, 0, 14, 42, 42, 182, 0, 36, 181, 0, 33, 167, 0, 33, 42, 42]
abbrev dktX3_scans_4 : List UInt8 := dkwX3_scans_4 ++ dktX3_scans_5
def dkwX3_scans_3 : List UInt8 := [16, 97, 16, 122, 182, 0, 26, 153, 0, 68, 42, 89, 180, 0, 15, 4, 96, 181, 0, 15, 167, 255, 235, 42]
abbrev dktX3_scans_3 : List UInt8 := dkwX3_scans_3 ++ dktX3_scans_4
def dkwX3_scans_2 : List UInt8 := [181, 0, 33, 167, 0, 95, 42, 16, 97, 16, 122, 182, 0, 26, 153, 0, 32, 42, 7, 181, 0, 33, 42]
abbrev dktX3_scans_2 : List UInt8 := dkwX3_scans_2 ++ dktX3_scans_3
def dkwX3_scans_1 : List UInt8 := [42, 42, 180, 0, 15, 181, 0, 30, 42, 180, 0, 15, 42, 180, 0, 3, 180, 0, 19, 160, 0, 11, 42, 3]
abbrev dktX3_scans_1 : List UInt8 := dkwX3_scans_1 ++ dktX3_scans_2
def dkwX3_scans_0 : List UInt8 := [42, 16, 32, 16, 32, 182, 0, 26, 153, 0, 16, 42, 89, 180, 0, 15, 4, 96, 181, 0, 15, 167, 255, 235]
abbrev dktX3_scans_0 : List UInt8 := dkwX3_scans_0 ++ dktX3_scans_1
theorem dksX3_scans_0 : cX3_scans.data.toList.drop 0 = dktX3_scans_0 := by decide +kernel
theorem dksX3_scans_1 : cX3_scans.data.toList.drop 24 = dktX3_scans_1 := dk_seg dksX3_scans_0 24 rfl rfl
theorem dksX3_scans_2 : cX3_scans.data.toList.drop 48 = dktX3_scans_2 := dk_seg dksX3_scans_1 24 rfl rfl
theorem dksX3_scans_3 : cX3_scans.data.toList.drop 71 = dktX3_scans_3 := dk_seg dksX3_scans_2 23 rfl rfl
theorem dksX3_scans_4 : cX3_scans.data.toList.drop 95 = dktX3_scans_4 := dk_seg dksX3_scans_3 24 rfl rfl
theorem dksX3_scans_5 : cX3_scans.data.toList.drop 118 = dktX3_scans_5 := dk_seg dksX3_scans_4 23 rfl rfl
theorem dksX3_scans_6 : cX3_scans.data.toList.drop 142 = dktX3_scans_6 := dk_seg dksX3_scans_5 24 rfl rfl
theorem dX3_scans_0 : decode cX3_scans 0 = .ok (.aload_n 0, 1) := dk_42 (dk_at dksX3_scans_0 0 rfl rfl)
theorem dX3_scans_1 : decode cX3_scans 1 = .ok (.bipush 32, 2) := dk_16 32 (dk_at dksX3_scans_0 1 rfl rfl)
theorem dX3_scans_3 : decode cX3_scans 3 = .ok (.bipush 32, 2) := dk_16 32 (dk_at dksX3_scans_0 3 rfl rfl)
theorem dX3_scans_5 : decode cX3_scans 5 = .ok (.invokevirtual 26, 3) := dk_182 0 26 (dk_at dksX3_scans_0 5 rfl rfl)
theorem dX3_scans_8 : decode cX3_scans 8 = .ok (.ifCond .eq 16, 3) := dk_153 0 16 (dk_at dksX3_scans_0 8 rfl rfl)
theorem dX3_scans_11 : decode cX3_scans 11 = .ok (.aload_n 0, 1) := dk_42 (dk_at dksX3_scans_0 11 rfl rfl)
theorem dX3_scans_12 : decode cX3_scans 12 = .ok (.dup, 1) := dk_89 (dk_at dksX3_scans_0 12 rfl rfl)
theorem dX3_scans_13 : decode cX3_scans 13 = .ok (.getfield 15, 3) := dk_180 0 15 (dk_at dksX3_scans_0 13 rfl rfl)
theorem dX3_scans_16 : decode cX3_scans 16 = .ok (.iconst 1, 1) := dk_4 (dk_at dksX3_scans_0 16 rfl rfl)
theorem dX3_scans_17 : decode cX3_scans 17 = .ok (.iadd, 1) := dk_96 (dk_at dksX3_scans_0 17 rfl rfl)
theorem dX3_scans_18 : decode cX3_scans 18 = .ok (.putfield 15, 3) := dk_181 0 15 (dk_at dksX3_scans_0 18 rfl rfl)
theorem dX3_scans_21 : decode cX3_scans 21 = .ok (.goto (-21), 3) := dk_167 255 235 (dk_at dksX3_scans_0 21 rfl rfl)
theorem dX3_scans_24 : decode cX3_scans 24 = .ok (.aload_n 0, 1) := dk_42 (dk_at dksX3_scans_1 0 rfl rfl)
theorem dX3_scans_25 : decode cX3_scans 25 = .ok (.aload_n 0, 1) := dk_42 (dk_at dksX3_scans_1 1 rfl rfl)
theorem dX3_scans_26 : decode cX3_scans 26 = .ok (.getfield 15, 3) := dk_180 0 15 (dk_at dksX3_scans_1 2 rfl rfl)
theorem dX3_scans_29 : decode cX3_scans 29 = .ok (.putfield 30, 3) := dk_181 0 30 (dk_at dksX3_scans_1 5 rfl rfl)
theorem dX3_scans_32 : decode cX3_scans 32 = .ok (.aload_n 0, 1) := dk_42 (dk_at dksX3_scans_1 8 rfl rfl)
theorem dX3_scans_33 : decode cX3_scans 33 = .ok (.getfield 15, 3) := dk_180 0 15 (dk_at dksX3_scans_1 9 rfl rfl)
theorem dX3_scans_36 : decode cX3_scans 36 = .ok (.aload_n 0, 1) := dk_42 (dk_at dksX3_scans_1 12 rfl rfl)
theorem dX3_scans_37 : decode cX3_scans 37 = .ok (.getfield 3, 3) := dk_180 0 3 (dk_at dksX3_scans_1 13 rfl rfl)
theorem dX3_scans_40 : decode cX3_scans 40 = .ok (.getfield 19, 3) := dk_180 0 19 (dk_at dksX3_scans_1 16 rfl rfl)
theorem dX3_scans_43 : decode cX3_scans 43 = .ok (.if_icmp .ne 11, 3) := dk_160 0 11 (dk_at dksX3_scans_1 19 rfl rfl)
theorem dX3_scans_46 : decode cX3_scans 46 = .ok (.aload_n 0, 1) := dk_42 (dk_at dksX3_scans_1 22 rfl rfl)
theorem dX3_scans_47 : decode cX3_scans 47 = .ok (.iconst 0, 1) := dk_3 (dk_at dksX3_scans_1 23 rfl rfl)
theorem dX3_scans_48 : decode cX3_scans 48 = .ok (.putfield 33, 3) := dk_181 0 33 (dk_at dksX3_scans_2 0 rfl rfl)
theorem dX3_scans_51 : decode cX3_scans 51 = .ok (.goto 95, 3) := dk_167 0 95 (dk_at dksX3_scans_2 3 rfl rfl)
theorem dX3_scans_54 : decode cX3_scans 54 = .ok (.aload_n 0, 1) := dk_42 (dk_at dksX3_scans_2 6 rfl rfl)
theorem dX3_scans_55 : decode cX3_scans 55 = .ok (.bipush 97, 2) := dk_16 97 (dk_at dksX3_scans_2 7 rfl rfl)
theorem dX3_scans_57 : decode cX3_scans 57 = .ok (.bipush 122, 2) := dk_16 122 (dk_at dksX3_scans_2 9 rfl rfl)
theorem dX3_scans_59 : decode cX3_scans 59 = .ok (.invokevirtual 26, 3) := dk_182 0 26 (dk_at dksX3_scans_2 11 rfl rfl)
theorem dX3_scans_62 : decode cX3_scans 62 = .ok (.ifCond .eq 32, 3) := dk_153 0 32 (dk_at dksX3_scans_2 14 rfl rfl)
theorem dX3_scans_65 : decode cX3_scans 65 = .ok (.aload_n 0, 1) := dk_42 (dk_at dksX3_scans_2 17 rfl rfl)
theorem dX3_scans_66 : decode cX3_scans 66 = .ok (.iconst 4, 1) := dk_7 (dk_at dksX3_scans_2 18 rfl rfl)
theorem dX3_scans_67 : decode cX3_scans 67 = .ok (.putfield 33, 3) := dk_181 0 33 (dk_at dksX3_scans_2 19 rfl rfl)
theorem dX3_scans_70 : decode cX3_scans 70 = .ok (.aload_n 0, 1) := dk_42 (dk_at dksX3_scans_2 22 rfl rfl)
theorem dX3_scans_71 : decode cX3_scans 71 = .ok (.bipush 97, 2) := dk_16 97 (dk_at dksX3_scans_3 0 rfl rfl)
theorem dX3_scans_73 : decode cX3_scans 73 = .ok (.bipush 122, 2) := dk_16 122 (dk_at dksX3_scans_3 2 rfl rfl)
theorem dX3_scans_75 : decode cX3_scans 75 = .ok (.invokevirtual 26, 3) := dk_182 0 26 (dk_at dksX3_scans_3 4 rfl rfl)
theorem dX3_scans_78 : decode cX3_scans 78 = .ok (.ifCond .eq 68, 3) := dk_153 0 68 (dk_at dksX3_scans_3 7 rfl rfl)
theorem dX3_scans_81 : decode cX3_scans 81 = .ok (.aload_n 0, 1) := dk_42 (dk_at dksX3_scans_3 10 rfl rfl)
theorem dX3_scans_82 : decode cX3_scans 82 = .ok (.dup, 1) := dk_89 (dk_at dksX3_scans_3 11 rfl rfl)
theorem dX3_scans_83 : decode cX3_scans 83 = .ok (.getfield 15, 3) := dk_180 0 15 (dk_at dksX3_scans_3 12 rfl rfl)
theorem dX3_scans_86 : decode cX3_scans 86 = .ok (.iconst 1, 1) := dk_4 (dk_at dksX3_scans_3 15 rfl rfl)
theorem dX3_scans_87 : decode cX3_scans 87 = .ok (.iadd, 1) := dk_96 (dk_at dksX3_scans_3 16 rfl rfl)
theorem dX3_scans_88 : decode cX3_scans 88 = .ok (.putfield 15, 3) := dk_181 0 15 (dk_at dksX3_scans_3 17 rfl rfl)
theorem dX3_scans_91 : decode cX3_scans 91 = .ok (.goto (-21), 3) := dk_167 255 235 (dk_at dksX3_scans_3 20 rfl rfl)
theorem dX3_scans_94 : decode cX3_scans 94 = .ok (.aload_n 0, 1) := dk_42 (dk_at dksX3_scans_3 23 rfl rfl)
theorem dX3_scans_95 : decode cX3_scans 95 = .ok (.bipush 48, 2) := dk_16 48 (dk_at dksX3_scans_4 0 rfl rfl)
theorem dX3_scans_97 : decode cX3_scans 97 = .ok (.bipush 57, 2) := dk_16 57 (dk_at dksX3_scans_4 2 rfl rfl)
theorem dX3_scans_99 : decode cX3_scans 99 = .ok (.invokevirtual 26, 3) := dk_182 0 26 (dk_at dksX3_scans_4 4 rfl rfl)
theorem dX3_scans_102 : decode cX3_scans 102 = .ok (.ifCond .eq 14, 3) := dk_153 0 14 (dk_at dksX3_scans_4 7 rfl rfl)
theorem dX3_scans_105 : decode cX3_scans 105 = .ok (.aload_n 0, 1) := dk_42 (dk_at dksX3_scans_4 10 rfl rfl)
theorem dX3_scans_106 : decode cX3_scans 106 = .ok (.aload_n 0, 1) := dk_42 (dk_at dksX3_scans_4 11 rfl rfl)
theorem dX3_scans_107 : decode cX3_scans 107 = .ok (.invokevirtual 36, 3) := dk_182 0 36 (dk_at dksX3_scans_4 12 rfl rfl)
theorem dX3_scans_110 : decode cX3_scans 110 = .ok (.putfield 33, 3) := dk_181 0 33 (dk_at dksX3_scans_4 15 rfl rfl)
theorem dX3_scans_113 : decode cX3_scans 113 = .ok (.goto 33, 3) := dk_167 0 33 (dk_at dksX3_scans_4 18 rfl rfl)
theorem dX3_scans_116 : decode cX3_scans 116 = .ok (.aload_n 0, 1) := dk_42 (dk_at dksX3_scans_4 21 rfl rfl)
theorem dX3_scans_117 : decode cX3_scans 117 = .ok (.aload_n 0, 1) := dk_42 (dk_at dksX3_scans_4 22 rfl rfl)
theorem dX3_scans_118 : decode cX3_scans 118 = .ok (.bipush 59, 2) := dk_16 59 (dk_at dksX3_scans_5 0 rfl rfl)
theorem dX3_scans_120 : decode cX3_scans 120 = .ok (.bipush 59, 2) := dk_16 59 (dk_at dksX3_scans_5 2 rfl rfl)
theorem dX3_scans_122 : decode cX3_scans 122 = .ok (.invokevirtual 26, 3) := dk_182 0 26 (dk_at dksX3_scans_5 4 rfl rfl)
theorem dX3_scans_125 : decode cX3_scans 125 = .ok (.ifCond .eq 7, 3) := dk_153 0 7 (dk_at dksX3_scans_5 7 rfl rfl)
theorem dX3_scans_128 : decode cX3_scans 128 = .ok (.iconst 3, 1) := dk_6 (dk_at dksX3_scans_5 10 rfl rfl)
theorem dX3_scans_129 : decode cX3_scans 129 = .ok (.goto 4, 3) := dk_167 0 4 (dk_at dksX3_scans_5 11 rfl rfl)
theorem dX3_scans_132 : decode cX3_scans 132 = .ok (.iconst 1, 1) := dk_4 (dk_at dksX3_scans_5 14 rfl rfl)
theorem dX3_scans_133 : decode cX3_scans 133 = .ok (.putfield 33, 3) := dk_181 0 33 (dk_at dksX3_scans_5 15 rfl rfl)
theorem dX3_scans_136 : decode cX3_scans 136 = .ok (.aload_n 0, 1) := dk_42 (dk_at dksX3_scans_5 18 rfl rfl)
theorem dX3_scans_137 : decode cX3_scans 137 = .ok (.dup, 1) := dk_89 (dk_at dksX3_scans_5 19 rfl rfl)
theorem dX3_scans_138 : decode cX3_scans 138 = .ok (.getfield 15, 3) := dk_180 0 15 (dk_at dksX3_scans_5 20 rfl rfl)
theorem dX3_scans_141 : decode cX3_scans 141 = .ok (.iconst 1, 1) := dk_4 (dk_at dksX3_scans_5 23 rfl rfl)
theorem dX3_scans_142 : decode cX3_scans 142 = .ok (.iadd, 1) := dk_96 (dk_at dksX3_scans_6 0 rfl rfl)
theorem dX3_scans_143 : decode cX3_scans 143 = .ok (.putfield 15, 3) := dk_181 0 15 (dk_at dksX3_scans_6 1 rfl rfl)
theorem dX3_scans_146 : decode cX3_scans 146 = .ok (.return_, 1) := dk_177 (dk_at dksX3_scans_6 4 rfl rfl)
abbrev cX3_isAt : ByteArray := prog_8_method_2_code
def yX3_isAt : MethodName := ⟨RX3, "isAt", "(II)Z"⟩
def dkwX3_isAt_2 : List UInt8 := [4, 167, 0, 4, 3, 172]
abbrev dktX3_isAt_2 : List UInt8 := dkwX3_isAt_2 ++ []
def dkwX3_isAt_1 : List UInt8 := [180, 0, 15, 51, 27, 161, 0, 23, 42, 180, 0, 3, 180, 0, 22, 42, 180, 0, 15, 51, 28, 163, 0, 7]
abbrev dktX3_isAt_1 : List UInt8 := dkwX3_isAt_1 ++ dktX3_isAt_2
def dkwX3_isAt_0 : List UInt8 := [42, 180, 0, 15, 42, 180, 0, 3, 180, 0, 19, 162, 0, 39, 42, 180, 0, 3, 180, 0, 22, 42]
abbrev dktX3_isAt_0 : List UInt8 := dkwX3_isAt_0 ++ dktX3_isAt_1
theorem dksX3_isAt_0 : cX3_isAt.data.toList.drop 0 = dktX3_isAt_0 := by decide +kernel
theorem dksX3_isAt_1 : cX3_isAt.data.toList.drop 22 = dktX3_isAt_1 := dk_seg dksX3_isAt_0 22 rfl rfl
theorem dksX3_isAt_2 : cX3_isAt.data.toList.drop 46 = dktX3_isAt_2 := dk_seg dksX3_isAt_1 24 rfl rfl
theorem dX3_isAt_0 : decode cX3_isAt 0 = .ok (.aload_n 0, 1) := dk_42 (dk_at dksX3_isAt_0 0 rfl rfl)
theorem dX3_isAt_1 : decode cX3_isAt 1 = .ok (.getfield 15, 3) := dk_180 0 15 (dk_at dksX3_isAt_0 1 rfl rfl)
theorem dX3_isAt_4 : decode cX3_isAt 4 = .ok (.aload_n 0, 1) := dk_42 (dk_at dksX3_isAt_0 4 rfl rfl)
theorem dX3_isAt_5 : decode cX3_isAt 5 = .ok (.getfield 3, 3) := dk_180 0 3 (dk_at dksX3_isAt_0 5 rfl rfl)
theorem dX3_isAt_8 : decode cX3_isAt 8 = .ok (.getfield 19, 3) := dk_180 0 19 (dk_at dksX3_isAt_0 8 rfl rfl)
theorem dX3_isAt_11 : decode cX3_isAt 11 = .ok (.if_icmp .ge 39, 3) := dk_162 0 39 (dk_at dksX3_isAt_0 11 rfl rfl)
theorem dX3_isAt_14 : decode cX3_isAt 14 = .ok (.aload_n 0, 1) := dk_42 (dk_at dksX3_isAt_0 14 rfl rfl)
theorem dX3_isAt_15 : decode cX3_isAt 15 = .ok (.getfield 3, 3) := dk_180 0 3 (dk_at dksX3_isAt_0 15 rfl rfl)
theorem dX3_isAt_18 : decode cX3_isAt 18 = .ok (.getfield 22, 3) := dk_180 0 22 (dk_at dksX3_isAt_0 18 rfl rfl)
theorem dX3_isAt_21 : decode cX3_isAt 21 = .ok (.aload_n 0, 1) := dk_42 (dk_at dksX3_isAt_0 21 rfl rfl)
theorem dX3_isAt_22 : decode cX3_isAt 22 = .ok (.getfield 15, 3) := dk_180 0 15 (dk_at dksX3_isAt_1 0 rfl rfl)
theorem dX3_isAt_25 : decode cX3_isAt 25 = .ok (.baload, 1) := dk_51 (dk_at dksX3_isAt_1 3 rfl rfl)
theorem dX3_isAt_26 : decode cX3_isAt 26 = .ok (.iload_n 1, 1) := dk_27 (dk_at dksX3_isAt_1 4 rfl rfl)
theorem dX3_isAt_27 : decode cX3_isAt 27 = .ok (.if_icmp .lt 23, 3) := dk_161 0 23 (dk_at dksX3_isAt_1 5 rfl rfl)
theorem dX3_isAt_30 : decode cX3_isAt 30 = .ok (.aload_n 0, 1) := dk_42 (dk_at dksX3_isAt_1 8 rfl rfl)
theorem dX3_isAt_31 : decode cX3_isAt 31 = .ok (.getfield 3, 3) := dk_180 0 3 (dk_at dksX3_isAt_1 9 rfl rfl)
theorem dX3_isAt_34 : decode cX3_isAt 34 = .ok (.getfield 22, 3) := dk_180 0 22 (dk_at dksX3_isAt_1 12 rfl rfl)
theorem dX3_isAt_37 : decode cX3_isAt 37 = .ok (.aload_n 0, 1) := dk_42 (dk_at dksX3_isAt_1 15 rfl rfl)
theorem dX3_isAt_38 : decode cX3_isAt 38 = .ok (.getfield 15, 3) := dk_180 0 15 (dk_at dksX3_isAt_1 16 rfl rfl)
theorem dX3_isAt_41 : decode cX3_isAt 41 = .ok (.baload, 1) := dk_51 (dk_at dksX3_isAt_1 19 rfl rfl)
theorem dX3_isAt_42 : decode cX3_isAt 42 = .ok (.iload_n 2, 1) := dk_28 (dk_at dksX3_isAt_1 20 rfl rfl)
theorem dX3_isAt_43 : decode cX3_isAt 43 = .ok (.if_icmp .gt 7, 3) := dk_163 0 7 (dk_at dksX3_isAt_1 21 rfl rfl)
theorem dX3_isAt_46 : decode cX3_isAt 46 = .ok (.iconst 1, 1) := dk_4 (dk_at dksX3_isAt_2 0 rfl rfl)
theorem dX3_isAt_47 : decode cX3_isAt 47 = .ok (.goto 4, 3) := dk_167 0 4 (dk_at dksX3_isAt_2 1 rfl rfl)
theorem dX3_isAt_50 : decode cX3_isAt 50 = .ok (.iconst 0, 1) := dk_3 (dk_at dksX3_isAt_2 4 rfl rfl)
theorem dX3_isAt_51 : decode cX3_isAt 51 = .ok (.ireturn, 1) := dk_172 (dk_at dksX3_isAt_2 5 rfl rfl)
abbrev cX3_number : ByteArray := prog_8_method_4_code
def yX3_number : MethodName := ⟨RX3, "number", "()I"⟩
def dkwX3_number_3 : List UInt8 := [167, 255, 193, 27, 6, 164, 0, 7, 4, 167, 0, 4, 5, 172]
abbrev dktX3_number_3 : List UInt8 := dkwX3_number_3 ++ []
def dkwX3_number_2 : List UInt8 := [167, 0, 7, 42, 180, 0, 40, 181, 0, 40, 42, 89, 180, 0, 15, 4, 96, 181, 0, 15, 132, 1, 1]
abbrev dktX3_number_2 : List UInt8 := dkwX3_number_2 ++ dktX3_number_3
def dkwX3_number_1 : List UInt8 := [16, 10, 42, 180, 0, 40, 104, 42, 180, 0, 3, 180, 0, 22, 42, 180, 0, 15, 51, 96, 16, 48, 100]
abbrev dktX3_number_1 : List UInt8 := dkwX3_number_1 ++ dktX3_number_2
def dkwX3_number_0 : List UInt8 := [3, 60, 42, 3, 181, 0, 40, 42, 16, 48, 16, 57, 182, 0, 26, 153, 0, 58, 42, 27, 6, 162, 0, 29]
abbrev dktX3_number_0 : List UInt8 := dkwX3_number_0 ++ dktX3_number_1
theorem dksX3_number_0 : cX3_number.data.toList.drop 0 = dktX3_number_0 := by decide +kernel
theorem dksX3_number_1 : cX3_number.data.toList.drop 24 = dktX3_number_1 := dk_seg dksX3_number_0 24 rfl rfl
theorem dksX3_number_2 : cX3_number.data.toList.drop 47 = dktX3_number_2 := dk_seg dksX3_number_1 23 rfl rfl
theorem dksX3_number_3 : cX3_number.data.toList.drop 70 = dktX3_number_3 := dk_seg dksX3_number_2 23 rfl rfl
theorem dX3_number_0 : decode cX3_number 0 = .ok (.iconst 0, 1) := dk_3 (dk_at dksX3_number_0 0 rfl rfl)
theorem dX3_number_1 : decode cX3_number 1 = .ok (.istore_n 1, 1) := dk_60 (dk_at dksX3_number_0 1 rfl rfl)
theorem dX3_number_2 : decode cX3_number 2 = .ok (.aload_n 0, 1) := dk_42 (dk_at dksX3_number_0 2 rfl rfl)
theorem dX3_number_3 : decode cX3_number 3 = .ok (.iconst 0, 1) := dk_3 (dk_at dksX3_number_0 3 rfl rfl)
theorem dX3_number_4 : decode cX3_number 4 = .ok (.putfield 40, 3) := dk_181 0 40 (dk_at dksX3_number_0 4 rfl rfl)
theorem dX3_number_7 : decode cX3_number 7 = .ok (.aload_n 0, 1) := dk_42 (dk_at dksX3_number_0 7 rfl rfl)
theorem dX3_number_8 : decode cX3_number 8 = .ok (.bipush 48, 2) := dk_16 48 (dk_at dksX3_number_0 8 rfl rfl)
theorem dX3_number_10 : decode cX3_number 10 = .ok (.bipush 57, 2) := dk_16 57 (dk_at dksX3_number_0 10 rfl rfl)
theorem dX3_number_12 : decode cX3_number 12 = .ok (.invokevirtual 26, 3) := dk_182 0 26 (dk_at dksX3_number_0 12 rfl rfl)
theorem dX3_number_15 : decode cX3_number 15 = .ok (.ifCond .eq 58, 3) := dk_153 0 58 (dk_at dksX3_number_0 15 rfl rfl)
theorem dX3_number_18 : decode cX3_number 18 = .ok (.aload_n 0, 1) := dk_42 (dk_at dksX3_number_0 18 rfl rfl)
theorem dX3_number_19 : decode cX3_number 19 = .ok (.iload_n 1, 1) := dk_27 (dk_at dksX3_number_0 19 rfl rfl)
theorem dX3_number_20 : decode cX3_number 20 = .ok (.iconst 3, 1) := dk_6 (dk_at dksX3_number_0 20 rfl rfl)
theorem dX3_number_21 : decode cX3_number 21 = .ok (.if_icmp .ge 29, 3) := dk_162 0 29 (dk_at dksX3_number_0 21 rfl rfl)
theorem dX3_number_24 : decode cX3_number 24 = .ok (.bipush 10, 2) := dk_16 10 (dk_at dksX3_number_1 0 rfl rfl)
theorem dX3_number_26 : decode cX3_number 26 = .ok (.aload_n 0, 1) := dk_42 (dk_at dksX3_number_1 2 rfl rfl)
theorem dX3_number_27 : decode cX3_number 27 = .ok (.getfield 40, 3) := dk_180 0 40 (dk_at dksX3_number_1 3 rfl rfl)
theorem dX3_number_30 : decode cX3_number 30 = .ok (.imul, 1) := dk_104 (dk_at dksX3_number_1 6 rfl rfl)
theorem dX3_number_31 : decode cX3_number 31 = .ok (.aload_n 0, 1) := dk_42 (dk_at dksX3_number_1 7 rfl rfl)
theorem dX3_number_32 : decode cX3_number 32 = .ok (.getfield 3, 3) := dk_180 0 3 (dk_at dksX3_number_1 8 rfl rfl)
theorem dX3_number_35 : decode cX3_number 35 = .ok (.getfield 22, 3) := dk_180 0 22 (dk_at dksX3_number_1 11 rfl rfl)
theorem dX3_number_38 : decode cX3_number 38 = .ok (.aload_n 0, 1) := dk_42 (dk_at dksX3_number_1 14 rfl rfl)
theorem dX3_number_39 : decode cX3_number 39 = .ok (.getfield 15, 3) := dk_180 0 15 (dk_at dksX3_number_1 15 rfl rfl)
theorem dX3_number_42 : decode cX3_number 42 = .ok (.baload, 1) := dk_51 (dk_at dksX3_number_1 18 rfl rfl)
theorem dX3_number_43 : decode cX3_number 43 = .ok (.iadd, 1) := dk_96 (dk_at dksX3_number_1 19 rfl rfl)
theorem dX3_number_44 : decode cX3_number 44 = .ok (.bipush 48, 2) := dk_16 48 (dk_at dksX3_number_1 20 rfl rfl)
theorem dX3_number_46 : decode cX3_number 46 = .ok (.isub, 1) := dk_100 (dk_at dksX3_number_1 22 rfl rfl)
theorem dX3_number_47 : decode cX3_number 47 = .ok (.goto 7, 3) := dk_167 0 7 (dk_at dksX3_number_2 0 rfl rfl)
theorem dX3_number_50 : decode cX3_number 50 = .ok (.aload_n 0, 1) := dk_42 (dk_at dksX3_number_2 3 rfl rfl)
theorem dX3_number_51 : decode cX3_number 51 = .ok (.getfield 40, 3) := dk_180 0 40 (dk_at dksX3_number_2 4 rfl rfl)
theorem dX3_number_54 : decode cX3_number 54 = .ok (.putfield 40, 3) := dk_181 0 40 (dk_at dksX3_number_2 7 rfl rfl)
theorem dX3_number_57 : decode cX3_number 57 = .ok (.aload_n 0, 1) := dk_42 (dk_at dksX3_number_2 10 rfl rfl)
theorem dX3_number_58 : decode cX3_number 58 = .ok (.dup, 1) := dk_89 (dk_at dksX3_number_2 11 rfl rfl)
theorem dX3_number_59 : decode cX3_number 59 = .ok (.getfield 15, 3) := dk_180 0 15 (dk_at dksX3_number_2 12 rfl rfl)
theorem dX3_number_62 : decode cX3_number 62 = .ok (.iconst 1, 1) := dk_4 (dk_at dksX3_number_2 15 rfl rfl)
theorem dX3_number_63 : decode cX3_number 63 = .ok (.iadd, 1) := dk_96 (dk_at dksX3_number_2 16 rfl rfl)
theorem dX3_number_64 : decode cX3_number 64 = .ok (.putfield 15, 3) := dk_181 0 15 (dk_at dksX3_number_2 17 rfl rfl)
theorem dX3_number_67 : decode cX3_number 67 = .ok (.iinc 1 1, 3) := dk_132 1 1 (dk_at dksX3_number_2 20 rfl rfl)
theorem dX3_number_70 : decode cX3_number 70 = .ok (.goto (-63), 3) := dk_167 255 193 (dk_at dksX3_number_3 0 rfl rfl)
theorem dX3_number_73 : decode cX3_number 73 = .ok (.iload_n 1, 1) := dk_27 (dk_at dksX3_number_3 3 rfl rfl)
theorem dX3_number_74 : decode cX3_number 74 = .ok (.iconst 3, 1) := dk_6 (dk_at dksX3_number_3 4 rfl rfl)
theorem dX3_number_75 : decode cX3_number 75 = .ok (.if_icmp .le 7, 3) := dk_164 0 7 (dk_at dksX3_number_3 5 rfl rfl)
theorem dX3_number_78 : decode cX3_number 78 = .ok (.iconst 1, 1) := dk_4 (dk_at dksX3_number_3 8 rfl rfl)
theorem dX3_number_79 : decode cX3_number 79 = .ok (.goto 4, 3) := dk_167 0 4 (dk_at dksX3_number_3 9 rfl rfl)
theorem dX3_number_82 : decode cX3_number 82 = .ok (.iconst 2, 1) := dk_5 (dk_at dksX3_number_3 12 rfl rfl)
theorem dX3_number_83 : decode cX3_number 83 = .ok (.ireturn, 1) := dk_172 (dk_at dksX3_number_3 13 rfl rfl)
abbrev cX3_wants : ByteArray := prog_8_method_6_code
def yX3_wants : MethodName := ⟨RX3, "wants", "(Z)V"⟩
def dkwX3_wants_0 : List UInt8 := [27, 154, 0, 15, 187, 0, 52, 89, 42, 180, 0, 30, 183, 0, 54, 191, 177]
abbrev dktX3_wants_0 : List UInt8 := dkwX3_wants_0 ++ []
theorem dksX3_wants_0 : cX3_wants.data.toList.drop 0 = dktX3_wants_0 := by decide +kernel
theorem dX3_wants_0 : decode cX3_wants 0 = .ok (.iload_n 1, 1) := dk_27 (dk_at dksX3_wants_0 0 rfl rfl)
theorem dX3_wants_1 : decode cX3_wants 1 = .ok (.ifCond .ne 15, 3) := dk_154 0 15 (dk_at dksX3_wants_0 1 rfl rfl)
theorem dX3_wants_4 : decode cX3_wants 4 = .ok (.new 52, 3) := dk_187 0 52 (dk_at dksX3_wants_0 4 rfl rfl)
theorem dX3_wants_7 : decode cX3_wants 7 = .ok (.dup, 1) := dk_89 (dk_at dksX3_wants_0 7 rfl rfl)
theorem dX3_wants_8 : decode cX3_wants 8 = .ok (.aload_n 0, 1) := dk_42 (dk_at dksX3_wants_0 8 rfl rfl)
theorem dX3_wants_9 : decode cX3_wants 9 = .ok (.getfield 30, 3) := dk_180 0 30 (dk_at dksX3_wants_0 9 rfl rfl)
theorem dX3_wants_12 : decode cX3_wants 12 = .ok (.invokespecial 54, 3) := dk_183 0 54 (dk_at dksX3_wants_0 12 rfl rfl)
theorem dX3_wants_15 : decode cX3_wants 15 = .ok (.athrow, 1) := dk_191 (dk_at dksX3_wants_0 15 rfl rfl)
theorem dX3_wants_16 : decode cX3_wants 16 = .ok (.return_, 1) := dk_177 (dk_at dksX3_wants_0 16 rfl rfl)
abbrev cX3_item : ByteArray := prog_8_method_9_code
def yX3_item : MethodName := ⟨RX3, "item", "()V"⟩
def dkwX3_item_11 : List UInt8 := [182, 0, 95, 120, 128, 79, 177]
abbrev dktX3_item_11 : List UInt8 := dkwX3_item_11 ++ []
def dkwX3_item_10 : List UInt8 := [182, 0, 95, 60, 42, 180, 0, 3, 180, 0, 68, 180, 0, 118, 27, 92, 46, 4, 42, 3, 16, 7]
abbrev dktX3_item_10 : List UInt8 := dkwX3_item_10 ++ dktX3_item_11
def dkwX3_item_9 : List UInt8 := [182, 0, 86, 182, 0, 61, 42, 182, 0, 65, 42, 3, 42, 180, 0, 3, 180, 0, 68, 180, 0, 92, 4, 100]
abbrev dktX3_item_9 : List UInt8 := dkwX3_item_9 ++ dktX3_item_10
def dkwX3_item_8 : List UInt8 := [180, 0, 68, 27, 28, 42, 3, 16, 6, 182, 0, 95, 182, 0, 112, 167, 0, 59, 42, 42, 18, 116]
abbrev dktX3_item_8 : List UInt8 := dkwX3_item_8 ++ dktX3_item_9
def dkwX3_item_7 : List UInt8 := [182, 0, 65, 42, 4, 16, 9, 182, 0, 95, 60, 42, 3, 17, 3, 231, 182, 0, 95, 61, 42, 180, 0, 3]
abbrev dktX3_item_7 : List UInt8 := dkwX3_item_7 ++ dktX3_item_8
def dkwX3_item_6 : List UInt8 := [180, 0, 3, 180, 0, 68, 180, 0, 109, 16, 6, 162, 0, 7, 4, 167, 0, 4, 3, 182, 0, 61, 42]
abbrev dktX3_item_6 : List UInt8 := dkwX3_item_6 ++ dktX3_item_7
def dkwX3_item_5 : List UInt8 := [8, 182, 0, 95, 184, 0, 99, 182, 0, 103, 167, 0, 135, 42, 18, 107, 182, 0, 86, 153, 0, 70, 42, 42]
abbrev dktX3_item_5 : List UInt8 := dkwX3_item_5 ++ dktX3_item_6
def dkwX3_item_4 : List UInt8 := [182, 0, 95, 61, 42, 3, 16, 99, 182, 0, 95, 62, 42, 180, 0, 3, 180, 0, 68, 27, 28, 29, 42, 3]
abbrev dktX3_item_4 : List UInt8 := dkwX3_item_4 ++ dktX3_item_5
def dkwX3_item_3 : List UInt8 := [167, 0, 4, 3, 182, 0, 61, 42, 182, 0, 65, 42, 3, 8, 182, 0, 95, 60, 42, 4, 16, 9]
abbrev dktX3_item_3 : List UInt8 := dkwX3_item_3 ++ dktX3_item_4
def dkwX3_item_2 : List UInt8 := [182, 0, 86, 153, 0, 79, 42, 42, 180, 0, 3, 180, 0, 68, 180, 0, 92, 16, 6, 162, 0, 7, 4]
abbrev dktX3_item_2 : List UInt8 := dkwX3_item_2 ++ dktX3_item_3
def dkwX3_item_1 : List UInt8 := [182, 0, 61, 42, 4, 181, 0, 77, 42, 182, 0, 65, 177, 42, 42, 180, 0, 77, 182, 0, 61, 42, 18, 90]
abbrev dktX3_item_1 : List UInt8 := dkwX3_item_1 ++ dktX3_item_2
def dkwX3_item_0 : List UInt8 := [42, 18, 84, 182, 0, 86, 153, 0, 29, 42, 42, 180, 0, 77, 154, 0, 7, 4, 167, 0, 4, 3]
abbrev dktX3_item_0 : List UInt8 := dkwX3_item_0 ++ dktX3_item_1
theorem dksX3_item_0 : cX3_item.data.toList.drop 0 = dktX3_item_0 := by decide +kernel
theorem dksX3_item_1 : cX3_item.data.toList.drop 22 = dktX3_item_1 := dk_seg dksX3_item_0 22 rfl rfl
theorem dksX3_item_2 : cX3_item.data.toList.drop 46 = dktX3_item_2 := dk_seg dksX3_item_1 24 rfl rfl
theorem dksX3_item_3 : cX3_item.data.toList.drop 69 = dktX3_item_3 := dk_seg dksX3_item_2 23 rfl rfl
theorem dksX3_item_4 : cX3_item.data.toList.drop 91 = dktX3_item_4 := dk_seg dksX3_item_3 22 rfl rfl
theorem dksX3_item_5 : cX3_item.data.toList.drop 115 = dktX3_item_5 := dk_seg dksX3_item_4 24 rfl rfl
theorem dksX3_item_6 : cX3_item.data.toList.drop 139 = dktX3_item_6 := dk_seg dksX3_item_5 24 rfl rfl
theorem dksX3_item_7 : cX3_item.data.toList.drop 162 = dktX3_item_7 := dk_seg dksX3_item_6 23 rfl rfl
theorem dksX3_item_8 : cX3_item.data.toList.drop 186 = dktX3_item_8 := dk_seg dksX3_item_7 24 rfl rfl
theorem dksX3_item_9 : cX3_item.data.toList.drop 208 = dktX3_item_9 := dk_seg dksX3_item_8 22 rfl rfl
theorem dksX3_item_10 : cX3_item.data.toList.drop 232 = dktX3_item_10 := dk_seg dksX3_item_9 24 rfl rfl
theorem dksX3_item_11 : cX3_item.data.toList.drop 254 = dktX3_item_11 := dk_seg dksX3_item_10 22 rfl rfl
theorem dX3_item_0 : decode cX3_item 0 = .ok (.aload_n 0, 1) := dk_42 (dk_at dksX3_item_0 0 rfl rfl)
theorem dX3_item_1 : decode cX3_item 1 = .ok (.ldc 84, 2) := dk_18 84 (dk_at dksX3_item_0 1 rfl rfl)
theorem dX3_item_3 : decode cX3_item 3 = .ok (.invokevirtual 86, 3) := dk_182 0 86 (dk_at dksX3_item_0 3 rfl rfl)
theorem dX3_item_6 : decode cX3_item 6 = .ok (.ifCond .eq 29, 3) := dk_153 0 29 (dk_at dksX3_item_0 6 rfl rfl)
theorem dX3_item_9 : decode cX3_item 9 = .ok (.aload_n 0, 1) := dk_42 (dk_at dksX3_item_0 9 rfl rfl)
theorem dX3_item_10 : decode cX3_item 10 = .ok (.aload_n 0, 1) := dk_42 (dk_at dksX3_item_0 10 rfl rfl)
theorem dX3_item_11 : decode cX3_item 11 = .ok (.getfield 77, 3) := dk_180 0 77 (dk_at dksX3_item_0 11 rfl rfl)
theorem dX3_item_14 : decode cX3_item 14 = .ok (.ifCond .ne 7, 3) := dk_154 0 7 (dk_at dksX3_item_0 14 rfl rfl)
theorem dX3_item_17 : decode cX3_item 17 = .ok (.iconst 1, 1) := dk_4 (dk_at dksX3_item_0 17 rfl rfl)
theorem dX3_item_18 : decode cX3_item 18 = .ok (.goto 4, 3) := dk_167 0 4 (dk_at dksX3_item_0 18 rfl rfl)
theorem dX3_item_21 : decode cX3_item 21 = .ok (.iconst 0, 1) := dk_3 (dk_at dksX3_item_0 21 rfl rfl)
theorem dX3_item_22 : decode cX3_item 22 = .ok (.invokevirtual 61, 3) := dk_182 0 61 (dk_at dksX3_item_1 0 rfl rfl)
theorem dX3_item_25 : decode cX3_item 25 = .ok (.aload_n 0, 1) := dk_42 (dk_at dksX3_item_1 3 rfl rfl)
theorem dX3_item_26 : decode cX3_item 26 = .ok (.iconst 1, 1) := dk_4 (dk_at dksX3_item_1 4 rfl rfl)
theorem dX3_item_27 : decode cX3_item 27 = .ok (.putfield 77, 3) := dk_181 0 77 (dk_at dksX3_item_1 5 rfl rfl)
theorem dX3_item_30 : decode cX3_item 30 = .ok (.aload_n 0, 1) := dk_42 (dk_at dksX3_item_1 8 rfl rfl)
theorem dX3_item_31 : decode cX3_item 31 = .ok (.invokevirtual 65, 3) := dk_182 0 65 (dk_at dksX3_item_1 9 rfl rfl)
theorem dX3_item_34 : decode cX3_item 34 = .ok (.return_, 1) := dk_177 (dk_at dksX3_item_1 12 rfl rfl)
theorem dX3_item_35 : decode cX3_item 35 = .ok (.aload_n 0, 1) := dk_42 (dk_at dksX3_item_1 13 rfl rfl)
theorem dX3_item_36 : decode cX3_item 36 = .ok (.aload_n 0, 1) := dk_42 (dk_at dksX3_item_1 14 rfl rfl)
theorem dX3_item_37 : decode cX3_item 37 = .ok (.getfield 77, 3) := dk_180 0 77 (dk_at dksX3_item_1 15 rfl rfl)
theorem dX3_item_40 : decode cX3_item 40 = .ok (.invokevirtual 61, 3) := dk_182 0 61 (dk_at dksX3_item_1 18 rfl rfl)
theorem dX3_item_43 : decode cX3_item 43 = .ok (.aload_n 0, 1) := dk_42 (dk_at dksX3_item_1 21 rfl rfl)
theorem dX3_item_44 : decode cX3_item 44 = .ok (.ldc 90, 2) := dk_18 90 (dk_at dksX3_item_1 22 rfl rfl)
theorem dX3_item_46 : decode cX3_item 46 = .ok (.invokevirtual 86, 3) := dk_182 0 86 (dk_at dksX3_item_2 0 rfl rfl)
theorem dX3_item_49 : decode cX3_item 49 = .ok (.ifCond .eq 79, 3) := dk_153 0 79 (dk_at dksX3_item_2 3 rfl rfl)
theorem dX3_item_52 : decode cX3_item 52 = .ok (.aload_n 0, 1) := dk_42 (dk_at dksX3_item_2 6 rfl rfl)
theorem dX3_item_53 : decode cX3_item 53 = .ok (.aload_n 0, 1) := dk_42 (dk_at dksX3_item_2 7 rfl rfl)
theorem dX3_item_54 : decode cX3_item 54 = .ok (.getfield 3, 3) := dk_180 0 3 (dk_at dksX3_item_2 8 rfl rfl)
theorem dX3_item_57 : decode cX3_item 57 = .ok (.getfield 68, 3) := dk_180 0 68 (dk_at dksX3_item_2 11 rfl rfl)
theorem dX3_item_60 : decode cX3_item 60 = .ok (.getfield 92, 3) := dk_180 0 92 (dk_at dksX3_item_2 14 rfl rfl)
theorem dX3_item_63 : decode cX3_item 63 = .ok (.bipush 6, 2) := dk_16 6 (dk_at dksX3_item_2 17 rfl rfl)
theorem dX3_item_65 : decode cX3_item 65 = .ok (.if_icmp .ge 7, 3) := dk_162 0 7 (dk_at dksX3_item_2 19 rfl rfl)
theorem dX3_item_68 : decode cX3_item 68 = .ok (.iconst 1, 1) := dk_4 (dk_at dksX3_item_2 22 rfl rfl)
theorem dX3_item_69 : decode cX3_item 69 = .ok (.goto 4, 3) := dk_167 0 4 (dk_at dksX3_item_3 0 rfl rfl)
theorem dX3_item_72 : decode cX3_item 72 = .ok (.iconst 0, 1) := dk_3 (dk_at dksX3_item_3 3 rfl rfl)
theorem dX3_item_73 : decode cX3_item 73 = .ok (.invokevirtual 61, 3) := dk_182 0 61 (dk_at dksX3_item_3 4 rfl rfl)
theorem dX3_item_76 : decode cX3_item 76 = .ok (.aload_n 0, 1) := dk_42 (dk_at dksX3_item_3 7 rfl rfl)
theorem dX3_item_77 : decode cX3_item 77 = .ok (.invokevirtual 65, 3) := dk_182 0 65 (dk_at dksX3_item_3 8 rfl rfl)
theorem dX3_item_80 : decode cX3_item 80 = .ok (.aload_n 0, 1) := dk_42 (dk_at dksX3_item_3 11 rfl rfl)
theorem dX3_item_81 : decode cX3_item 81 = .ok (.iconst 0, 1) := dk_3 (dk_at dksX3_item_3 12 rfl rfl)
theorem dX3_item_82 : decode cX3_item 82 = .ok (.iconst 5, 1) := dk_8 (dk_at dksX3_item_3 13 rfl rfl)
theorem dX3_item_83 : decode cX3_item 83 = .ok (.invokevirtual 95, 3) := dk_182 0 95 (dk_at dksX3_item_3 14 rfl rfl)
theorem dX3_item_86 : decode cX3_item 86 = .ok (.istore_n 1, 1) := dk_60 (dk_at dksX3_item_3 17 rfl rfl)
theorem dX3_item_87 : decode cX3_item 87 = .ok (.aload_n 0, 1) := dk_42 (dk_at dksX3_item_3 18 rfl rfl)
theorem dX3_item_88 : decode cX3_item 88 = .ok (.iconst 1, 1) := dk_4 (dk_at dksX3_item_3 19 rfl rfl)
theorem dX3_item_89 : decode cX3_item 89 = .ok (.bipush 9, 2) := dk_16 9 (dk_at dksX3_item_3 20 rfl rfl)
theorem dX3_item_91 : decode cX3_item 91 = .ok (.invokevirtual 95, 3) := dk_182 0 95 (dk_at dksX3_item_4 0 rfl rfl)
theorem dX3_item_94 : decode cX3_item 94 = .ok (.istore_n 2, 1) := dk_61 (dk_at dksX3_item_4 3 rfl rfl)
theorem dX3_item_95 : decode cX3_item 95 = .ok (.aload_n 0, 1) := dk_42 (dk_at dksX3_item_4 4 rfl rfl)
theorem dX3_item_96 : decode cX3_item 96 = .ok (.iconst 0, 1) := dk_3 (dk_at dksX3_item_4 5 rfl rfl)
theorem dX3_item_97 : decode cX3_item 97 = .ok (.bipush 99, 2) := dk_16 99 (dk_at dksX3_item_4 6 rfl rfl)
theorem dX3_item_99 : decode cX3_item 99 = .ok (.invokevirtual 95, 3) := dk_182 0 95 (dk_at dksX3_item_4 8 rfl rfl)
theorem dX3_item_102 : decode cX3_item 102 = .ok (.istore_n 3, 1) := dk_62 (dk_at dksX3_item_4 11 rfl rfl)
theorem dX3_item_103 : decode cX3_item 103 = .ok (.aload_n 0, 1) := dk_42 (dk_at dksX3_item_4 12 rfl rfl)
theorem dX3_item_104 : decode cX3_item 104 = .ok (.getfield 3, 3) := dk_180 0 3 (dk_at dksX3_item_4 13 rfl rfl)
theorem dX3_item_107 : decode cX3_item 107 = .ok (.getfield 68, 3) := dk_180 0 68 (dk_at dksX3_item_4 16 rfl rfl)
theorem dX3_item_110 : decode cX3_item 110 = .ok (.iload_n 1, 1) := dk_27 (dk_at dksX3_item_4 19 rfl rfl)
theorem dX3_item_111 : decode cX3_item 111 = .ok (.iload_n 2, 1) := dk_28 (dk_at dksX3_item_4 20 rfl rfl)
theorem dX3_item_112 : decode cX3_item 112 = .ok (.iload_n 3, 1) := dk_29 (dk_at dksX3_item_4 21 rfl rfl)
theorem dX3_item_113 : decode cX3_item 113 = .ok (.aload_n 0, 1) := dk_42 (dk_at dksX3_item_4 22 rfl rfl)
theorem dX3_item_114 : decode cX3_item 114 = .ok (.iconst 0, 1) := dk_3 (dk_at dksX3_item_4 23 rfl rfl)
theorem dX3_item_115 : decode cX3_item 115 = .ok (.iconst 5, 1) := dk_8 (dk_at dksX3_item_5 0 rfl rfl)
theorem dX3_item_116 : decode cX3_item 116 = .ok (.invokevirtual 95, 3) := dk_182 0 95 (dk_at dksX3_item_5 1 rfl rfl)
theorem dX3_item_119 : decode cX3_item 119 = .ok (.invokestatic 99, 3) := dk_184 0 99 (dk_at dksX3_item_5 4 rfl rfl)
theorem dX3_item_122 : decode cX3_item 122 = .ok (.invokevirtual 103, 3) := dk_182 0 103 (dk_at dksX3_item_5 7 rfl rfl)
theorem dX3_item_125 : decode cX3_item 125 = .ok (.goto 135, 3) := dk_167 0 135 (dk_at dksX3_item_5 10 rfl rfl)
theorem dX3_item_128 : decode cX3_item 128 = .ok (.aload_n 0, 1) := dk_42 (dk_at dksX3_item_5 13 rfl rfl)
theorem dX3_item_129 : decode cX3_item 129 = .ok (.ldc 107, 2) := dk_18 107 (dk_at dksX3_item_5 14 rfl rfl)
theorem dX3_item_131 : decode cX3_item 131 = .ok (.invokevirtual 86, 3) := dk_182 0 86 (dk_at dksX3_item_5 16 rfl rfl)
theorem dX3_item_134 : decode cX3_item 134 = .ok (.ifCond .eq 70, 3) := dk_153 0 70 (dk_at dksX3_item_5 19 rfl rfl)
theorem dX3_item_137 : decode cX3_item 137 = .ok (.aload_n 0, 1) := dk_42 (dk_at dksX3_item_5 22 rfl rfl)
theorem dX3_item_138 : decode cX3_item 138 = .ok (.aload_n 0, 1) := dk_42 (dk_at dksX3_item_5 23 rfl rfl)
theorem dX3_item_139 : decode cX3_item 139 = .ok (.getfield 3, 3) := dk_180 0 3 (dk_at dksX3_item_6 0 rfl rfl)
theorem dX3_item_142 : decode cX3_item 142 = .ok (.getfield 68, 3) := dk_180 0 68 (dk_at dksX3_item_6 3 rfl rfl)
theorem dX3_item_145 : decode cX3_item 145 = .ok (.getfield 109, 3) := dk_180 0 109 (dk_at dksX3_item_6 6 rfl rfl)
theorem dX3_item_148 : decode cX3_item 148 = .ok (.bipush 6, 2) := dk_16 6 (dk_at dksX3_item_6 9 rfl rfl)
theorem dX3_item_150 : decode cX3_item 150 = .ok (.if_icmp .ge 7, 3) := dk_162 0 7 (dk_at dksX3_item_6 11 rfl rfl)
theorem dX3_item_153 : decode cX3_item 153 = .ok (.iconst 1, 1) := dk_4 (dk_at dksX3_item_6 14 rfl rfl)
theorem dX3_item_154 : decode cX3_item 154 = .ok (.goto 4, 3) := dk_167 0 4 (dk_at dksX3_item_6 15 rfl rfl)
theorem dX3_item_157 : decode cX3_item 157 = .ok (.iconst 0, 1) := dk_3 (dk_at dksX3_item_6 18 rfl rfl)
theorem dX3_item_158 : decode cX3_item 158 = .ok (.invokevirtual 61, 3) := dk_182 0 61 (dk_at dksX3_item_6 19 rfl rfl)
theorem dX3_item_161 : decode cX3_item 161 = .ok (.aload_n 0, 1) := dk_42 (dk_at dksX3_item_6 22 rfl rfl)
theorem dX3_item_162 : decode cX3_item 162 = .ok (.invokevirtual 65, 3) := dk_182 0 65 (dk_at dksX3_item_7 0 rfl rfl)
theorem dX3_item_165 : decode cX3_item 165 = .ok (.aload_n 0, 1) := dk_42 (dk_at dksX3_item_7 3 rfl rfl)
theorem dX3_item_166 : decode cX3_item 166 = .ok (.iconst 1, 1) := dk_4 (dk_at dksX3_item_7 4 rfl rfl)
theorem dX3_item_167 : decode cX3_item 167 = .ok (.bipush 9, 2) := dk_16 9 (dk_at dksX3_item_7 5 rfl rfl)
theorem dX3_item_169 : decode cX3_item 169 = .ok (.invokevirtual 95, 3) := dk_182 0 95 (dk_at dksX3_item_7 7 rfl rfl)
theorem dX3_item_172 : decode cX3_item 172 = .ok (.istore_n 1, 1) := dk_60 (dk_at dksX3_item_7 10 rfl rfl)
theorem dX3_item_173 : decode cX3_item 173 = .ok (.aload_n 0, 1) := dk_42 (dk_at dksX3_item_7 11 rfl rfl)
theorem dX3_item_174 : decode cX3_item 174 = .ok (.iconst 0, 1) := dk_3 (dk_at dksX3_item_7 12 rfl rfl)
theorem dX3_item_175 : decode cX3_item 175 = .ok (.sipush 999, 3) := dk_17 3 231 (dk_at dksX3_item_7 13 rfl rfl)
theorem dX3_item_178 : decode cX3_item 178 = .ok (.invokevirtual 95, 3) := dk_182 0 95 (dk_at dksX3_item_7 16 rfl rfl)
theorem dX3_item_181 : decode cX3_item 181 = .ok (.istore_n 2, 1) := dk_61 (dk_at dksX3_item_7 19 rfl rfl)
theorem dX3_item_182 : decode cX3_item 182 = .ok (.aload_n 0, 1) := dk_42 (dk_at dksX3_item_7 20 rfl rfl)
theorem dX3_item_183 : decode cX3_item 183 = .ok (.getfield 3, 3) := dk_180 0 3 (dk_at dksX3_item_7 21 rfl rfl)
theorem dX3_item_186 : decode cX3_item 186 = .ok (.getfield 68, 3) := dk_180 0 68 (dk_at dksX3_item_8 0 rfl rfl)
theorem dX3_item_189 : decode cX3_item 189 = .ok (.iload_n 1, 1) := dk_27 (dk_at dksX3_item_8 3 rfl rfl)
theorem dX3_item_190 : decode cX3_item 190 = .ok (.iload_n 2, 1) := dk_28 (dk_at dksX3_item_8 4 rfl rfl)
theorem dX3_item_191 : decode cX3_item 191 = .ok (.aload_n 0, 1) := dk_42 (dk_at dksX3_item_8 5 rfl rfl)
theorem dX3_item_192 : decode cX3_item 192 = .ok (.iconst 0, 1) := dk_3 (dk_at dksX3_item_8 6 rfl rfl)
theorem dX3_item_193 : decode cX3_item 193 = .ok (.bipush 6, 2) := dk_16 6 (dk_at dksX3_item_8 7 rfl rfl)
theorem dX3_item_195 : decode cX3_item 195 = .ok (.invokevirtual 95, 3) := dk_182 0 95 (dk_at dksX3_item_8 9 rfl rfl)
theorem dX3_item_198 : decode cX3_item 198 = .ok (.invokevirtual 112, 3) := dk_182 0 112 (dk_at dksX3_item_8 12 rfl rfl)
theorem dX3_item_201 : decode cX3_item 201 = .ok (.goto 59, 3) := dk_167 0 59 (dk_at dksX3_item_8 15 rfl rfl)
theorem dX3_item_204 : decode cX3_item 204 = .ok (.aload_n 0, 1) := dk_42 (dk_at dksX3_item_8 18 rfl rfl)
theorem dX3_item_205 : decode cX3_item 205 = .ok (.aload_n 0, 1) := dk_42 (dk_at dksX3_item_8 19 rfl rfl)
theorem dX3_item_206 : decode cX3_item 206 = .ok (.ldc 116, 2) := dk_18 116 (dk_at dksX3_item_8 20 rfl rfl)
theorem dX3_item_208 : decode cX3_item 208 = .ok (.invokevirtual 86, 3) := dk_182 0 86 (dk_at dksX3_item_9 0 rfl rfl)
theorem dX3_item_211 : decode cX3_item 211 = .ok (.invokevirtual 61, 3) := dk_182 0 61 (dk_at dksX3_item_9 3 rfl rfl)
theorem dX3_item_214 : decode cX3_item 214 = .ok (.aload_n 0, 1) := dk_42 (dk_at dksX3_item_9 6 rfl rfl)
theorem dX3_item_215 : decode cX3_item 215 = .ok (.invokevirtual 65, 3) := dk_182 0 65 (dk_at dksX3_item_9 7 rfl rfl)
theorem dX3_item_218 : decode cX3_item 218 = .ok (.aload_n 0, 1) := dk_42 (dk_at dksX3_item_9 10 rfl rfl)
theorem dX3_item_219 : decode cX3_item 219 = .ok (.iconst 0, 1) := dk_3 (dk_at dksX3_item_9 11 rfl rfl)
theorem dX3_item_220 : decode cX3_item 220 = .ok (.aload_n 0, 1) := dk_42 (dk_at dksX3_item_9 12 rfl rfl)
theorem dX3_item_221 : decode cX3_item 221 = .ok (.getfield 3, 3) := dk_180 0 3 (dk_at dksX3_item_9 13 rfl rfl)
theorem dX3_item_224 : decode cX3_item 224 = .ok (.getfield 68, 3) := dk_180 0 68 (dk_at dksX3_item_9 16 rfl rfl)
theorem dX3_item_227 : decode cX3_item 227 = .ok (.getfield 92, 3) := dk_180 0 92 (dk_at dksX3_item_9 19 rfl rfl)
theorem dX3_item_230 : decode cX3_item 230 = .ok (.iconst 1, 1) := dk_4 (dk_at dksX3_item_9 22 rfl rfl)
theorem dX3_item_231 : decode cX3_item 231 = .ok (.isub, 1) := dk_100 (dk_at dksX3_item_9 23 rfl rfl)
theorem dX3_item_232 : decode cX3_item 232 = .ok (.invokevirtual 95, 3) := dk_182 0 95 (dk_at dksX3_item_10 0 rfl rfl)
theorem dX3_item_235 : decode cX3_item 235 = .ok (.istore_n 1, 1) := dk_60 (dk_at dksX3_item_10 3 rfl rfl)
theorem dX3_item_236 : decode cX3_item 236 = .ok (.aload_n 0, 1) := dk_42 (dk_at dksX3_item_10 4 rfl rfl)
theorem dX3_item_237 : decode cX3_item 237 = .ok (.getfield 3, 3) := dk_180 0 3 (dk_at dksX3_item_10 5 rfl rfl)
theorem dX3_item_240 : decode cX3_item 240 = .ok (.getfield 68, 3) := dk_180 0 68 (dk_at dksX3_item_10 8 rfl rfl)
theorem dX3_item_243 : decode cX3_item 243 = .ok (.getfield 118, 3) := dk_180 0 118 (dk_at dksX3_item_10 11 rfl rfl)
theorem dX3_item_246 : decode cX3_item 246 = .ok (.iload_n 1, 1) := dk_27 (dk_at dksX3_item_10 14 rfl rfl)
theorem dX3_item_247 : decode cX3_item 247 = .ok (.dup2, 1) := dk_92 (dk_at dksX3_item_10 15 rfl rfl)
theorem dX3_item_248 : decode cX3_item 248 = .ok (.iaload, 1) := dk_46 (dk_at dksX3_item_10 16 rfl rfl)
theorem dX3_item_249 : decode cX3_item 249 = .ok (.iconst 1, 1) := dk_4 (dk_at dksX3_item_10 17 rfl rfl)
theorem dX3_item_250 : decode cX3_item 250 = .ok (.aload_n 0, 1) := dk_42 (dk_at dksX3_item_10 18 rfl rfl)
theorem dX3_item_251 : decode cX3_item 251 = .ok (.iconst 0, 1) := dk_3 (dk_at dksX3_item_10 19 rfl rfl)
theorem dX3_item_252 : decode cX3_item 252 = .ok (.bipush 7, 2) := dk_16 7 (dk_at dksX3_item_10 20 rfl rfl)
theorem dX3_item_254 : decode cX3_item 254 = .ok (.invokevirtual 95, 3) := dk_182 0 95 (dk_at dksX3_item_11 0 rfl rfl)
theorem dX3_item_257 : decode cX3_item 257 = .ok (.ishl, 1) := dk_120 (dk_at dksX3_item_11 3 rfl rfl)
theorem dX3_item_258 : decode cX3_item 258 = .ok (.ior, 1) := dk_128 (dk_at dksX3_item_11 4 rfl rfl)
theorem dX3_item_259 : decode cX3_item 259 = .ok (.iastore, 1) := dk_79 (dk_at dksX3_item_11 5 rfl rfl)
theorem dX3_item_260 : decode cX3_item 260 = .ok (.return_, 1) := dk_177 (dk_at dksX3_item_11 6 rfl rfl)
abbrev cX3_isWord : ByteArray := prog_8_method_5_code
def yX3_isWord : MethodName := ⟨RX3, "isWord", "(Ljava/lang/String;)Z"⟩
def dkwX3_isWord_3 : List UInt8 := [3, 61, 132, 3, 1, 167, 255, 213, 28, 172]
abbrev dktX3_isWord_3 : List UInt8 := dkwX3_isWord_3 ++ []
def dkwX3_isWord_2 : List UInt8 := [182, 0, 48, 42, 180, 0, 3, 180, 0, 22, 42, 180, 0, 30, 29, 96, 51, 160, 0, 7, 4, 167, 0, 4]
abbrev dktX3_isWord_2 : List UInt8 := dkwX3_isWord_2 ++ dktX3_isWord_3
def dkwX3_isWord_1 : List UInt8 := [4, 167, 0, 4, 3, 61, 3, 62, 29, 43, 182, 0, 43, 162, 0, 41, 28, 153, 0, 37, 43, 29]
abbrev dktX3_isWord_1 : List UInt8 := dkwX3_isWord_1 ++ dktX3_isWord_2
def dkwX3_isWord_0 : List UInt8 := [42, 180, 0, 33, 7, 160, 0, 23, 43, 182, 0, 43, 42, 180, 0, 15, 42, 180, 0, 30, 100, 160, 0, 7]
abbrev dktX3_isWord_0 : List UInt8 := dkwX3_isWord_0 ++ dktX3_isWord_1
theorem dksX3_isWord_0 : cX3_isWord.data.toList.drop 0 = dktX3_isWord_0 := by decide +kernel
theorem dksX3_isWord_1 : cX3_isWord.data.toList.drop 24 = dktX3_isWord_1 := dk_seg dksX3_isWord_0 24 rfl rfl
theorem dksX3_isWord_2 : cX3_isWord.data.toList.drop 46 = dktX3_isWord_2 := dk_seg dksX3_isWord_1 22 rfl rfl
theorem dksX3_isWord_3 : cX3_isWord.data.toList.drop 70 = dktX3_isWord_3 := dk_seg dksX3_isWord_2 24 rfl rfl
theorem dX3_isWord_0 : decode cX3_isWord 0 = .ok (.aload_n 0, 1) := dk_42 (dk_at dksX3_isWord_0 0 rfl rfl)
theorem dX3_isWord_1 : decode cX3_isWord 1 = .ok (.getfield 33, 3) := dk_180 0 33 (dk_at dksX3_isWord_0 1 rfl rfl)
theorem dX3_isWord_4 : decode cX3_isWord 4 = .ok (.iconst 4, 1) := dk_7 (dk_at dksX3_isWord_0 4 rfl rfl)
theorem dX3_isWord_5 : decode cX3_isWord 5 = .ok (.if_icmp .ne 23, 3) := dk_160 0 23 (dk_at dksX3_isWord_0 5 rfl rfl)
theorem dX3_isWord_8 : decode cX3_isWord 8 = .ok (.aload_n 1, 1) := dk_43 (dk_at dksX3_isWord_0 8 rfl rfl)
theorem dX3_isWord_9 : decode cX3_isWord 9 = .ok (.invokevirtual 43, 3) := dk_182 0 43 (dk_at dksX3_isWord_0 9 rfl rfl)
theorem dX3_isWord_12 : decode cX3_isWord 12 = .ok (.aload_n 0, 1) := dk_42 (dk_at dksX3_isWord_0 12 rfl rfl)
theorem dX3_isWord_13 : decode cX3_isWord 13 = .ok (.getfield 15, 3) := dk_180 0 15 (dk_at dksX3_isWord_0 13 rfl rfl)
theorem dX3_isWord_16 : decode cX3_isWord 16 = .ok (.aload_n 0, 1) := dk_42 (dk_at dksX3_isWord_0 16 rfl rfl)
theorem dX3_isWord_17 : decode cX3_isWord 17 = .ok (.getfield 30, 3) := dk_180 0 30 (dk_at dksX3_isWord_0 17 rfl rfl)
theorem dX3_isWord_20 : decode cX3_isWord 20 = .ok (.isub, 1) := dk_100 (dk_at dksX3_isWord_0 20 rfl rfl)
theorem dX3_isWord_21 : decode cX3_isWord 21 = .ok (.if_icmp .ne 7, 3) := dk_160 0 7 (dk_at dksX3_isWord_0 21 rfl rfl)
theorem dX3_isWord_24 : decode cX3_isWord 24 = .ok (.iconst 1, 1) := dk_4 (dk_at dksX3_isWord_1 0 rfl rfl)
theorem dX3_isWord_25 : decode cX3_isWord 25 = .ok (.goto 4, 3) := dk_167 0 4 (dk_at dksX3_isWord_1 1 rfl rfl)
theorem dX3_isWord_28 : decode cX3_isWord 28 = .ok (.iconst 0, 1) := dk_3 (dk_at dksX3_isWord_1 4 rfl rfl)
theorem dX3_isWord_29 : decode cX3_isWord 29 = .ok (.istore_n 2, 1) := dk_61 (dk_at dksX3_isWord_1 5 rfl rfl)
theorem dX3_isWord_30 : decode cX3_isWord 30 = .ok (.iconst 0, 1) := dk_3 (dk_at dksX3_isWord_1 6 rfl rfl)
theorem dX3_isWord_31 : decode cX3_isWord 31 = .ok (.istore_n 3, 1) := dk_62 (dk_at dksX3_isWord_1 7 rfl rfl)
theorem dX3_isWord_32 : decode cX3_isWord 32 = .ok (.iload_n 3, 1) := dk_29 (dk_at dksX3_isWord_1 8 rfl rfl)
theorem dX3_isWord_33 : decode cX3_isWord 33 = .ok (.aload_n 1, 1) := dk_43 (dk_at dksX3_isWord_1 9 rfl rfl)
theorem dX3_isWord_34 : decode cX3_isWord 34 = .ok (.invokevirtual 43, 3) := dk_182 0 43 (dk_at dksX3_isWord_1 10 rfl rfl)
theorem dX3_isWord_37 : decode cX3_isWord 37 = .ok (.if_icmp .ge 41, 3) := dk_162 0 41 (dk_at dksX3_isWord_1 13 rfl rfl)
theorem dX3_isWord_40 : decode cX3_isWord 40 = .ok (.iload_n 2, 1) := dk_28 (dk_at dksX3_isWord_1 16 rfl rfl)
theorem dX3_isWord_41 : decode cX3_isWord 41 = .ok (.ifCond .eq 37, 3) := dk_153 0 37 (dk_at dksX3_isWord_1 17 rfl rfl)
theorem dX3_isWord_44 : decode cX3_isWord 44 = .ok (.aload_n 1, 1) := dk_43 (dk_at dksX3_isWord_1 20 rfl rfl)
theorem dX3_isWord_45 : decode cX3_isWord 45 = .ok (.iload_n 3, 1) := dk_29 (dk_at dksX3_isWord_1 21 rfl rfl)
theorem dX3_isWord_46 : decode cX3_isWord 46 = .ok (.invokevirtual 48, 3) := dk_182 0 48 (dk_at dksX3_isWord_2 0 rfl rfl)
theorem dX3_isWord_49 : decode cX3_isWord 49 = .ok (.aload_n 0, 1) := dk_42 (dk_at dksX3_isWord_2 3 rfl rfl)
theorem dX3_isWord_50 : decode cX3_isWord 50 = .ok (.getfield 3, 3) := dk_180 0 3 (dk_at dksX3_isWord_2 4 rfl rfl)
theorem dX3_isWord_53 : decode cX3_isWord 53 = .ok (.getfield 22, 3) := dk_180 0 22 (dk_at dksX3_isWord_2 7 rfl rfl)
theorem dX3_isWord_56 : decode cX3_isWord 56 = .ok (.aload_n 0, 1) := dk_42 (dk_at dksX3_isWord_2 10 rfl rfl)
theorem dX3_isWord_57 : decode cX3_isWord 57 = .ok (.getfield 30, 3) := dk_180 0 30 (dk_at dksX3_isWord_2 11 rfl rfl)
theorem dX3_isWord_60 : decode cX3_isWord 60 = .ok (.iload_n 3, 1) := dk_29 (dk_at dksX3_isWord_2 14 rfl rfl)
theorem dX3_isWord_61 : decode cX3_isWord 61 = .ok (.iadd, 1) := dk_96 (dk_at dksX3_isWord_2 15 rfl rfl)
theorem dX3_isWord_62 : decode cX3_isWord 62 = .ok (.baload, 1) := dk_51 (dk_at dksX3_isWord_2 16 rfl rfl)
theorem dX3_isWord_63 : decode cX3_isWord 63 = .ok (.if_icmp .ne 7, 3) := dk_160 0 7 (dk_at dksX3_isWord_2 17 rfl rfl)
theorem dX3_isWord_66 : decode cX3_isWord 66 = .ok (.iconst 1, 1) := dk_4 (dk_at dksX3_isWord_2 20 rfl rfl)
theorem dX3_isWord_67 : decode cX3_isWord 67 = .ok (.goto 4, 3) := dk_167 0 4 (dk_at dksX3_isWord_2 21 rfl rfl)
theorem dX3_isWord_70 : decode cX3_isWord 70 = .ok (.iconst 0, 1) := dk_3 (dk_at dksX3_isWord_3 0 rfl rfl)
theorem dX3_isWord_71 : decode cX3_isWord 71 = .ok (.istore_n 2, 1) := dk_61 (dk_at dksX3_isWord_3 1 rfl rfl)
theorem dX3_isWord_72 : decode cX3_isWord 72 = .ok (.iinc 3 1, 3) := dk_132 3 1 (dk_at dksX3_isWord_3 2 rfl rfl)
theorem dX3_isWord_75 : decode cX3_isWord 75 = .ok (.goto (-43), 3) := dk_167 255 213 (dk_at dksX3_isWord_3 5 rfl rfl)
theorem dX3_isWord_78 : decode cX3_isWord 78 = .ok (.iload_n 2, 1) := dk_28 (dk_at dksX3_isWord_3 8 rfl rfl)
theorem dX3_isWord_79 : decode cX3_isWord 79 = .ok (.ireturn, 1) := dk_172 (dk_at dksX3_isWord_3 9 rfl rfl)
abbrev cX3_takes : ByteArray := prog_8_method_7_code
def yX3_takes : MethodName := ⟨RX3, "takes", "(II)I"⟩
def dkwX3_takes_1 : List UInt8 := [4, 167, 0, 4, 3, 182, 0, 61, 42, 180, 0, 40, 62, 42, 182, 0, 65, 29, 172]
abbrev dktX3_takes_1 : List UInt8 := dkwX3_takes_1 ++ []
def dkwX3_takes_0 : List UInt8 := [42, 42, 180, 0, 33, 5, 160, 0, 22, 42, 180, 0, 40, 133, 27, 133, 28, 133, 184, 0, 57, 153, 0, 7]
abbrev dktX3_takes_0 : List UInt8 := dkwX3_takes_0 ++ dktX3_takes_1
theorem dksX3_takes_0 : cX3_takes.data.toList.drop 0 = dktX3_takes_0 := by decide +kernel
theorem dksX3_takes_1 : cX3_takes.data.toList.drop 24 = dktX3_takes_1 := dk_seg dksX3_takes_0 24 rfl rfl
theorem dX3_takes_0 : decode cX3_takes 0 = .ok (.aload_n 0, 1) := dk_42 (dk_at dksX3_takes_0 0 rfl rfl)
theorem dX3_takes_1 : decode cX3_takes 1 = .ok (.aload_n 0, 1) := dk_42 (dk_at dksX3_takes_0 1 rfl rfl)
theorem dX3_takes_2 : decode cX3_takes 2 = .ok (.getfield 33, 3) := dk_180 0 33 (dk_at dksX3_takes_0 2 rfl rfl)
theorem dX3_takes_5 : decode cX3_takes 5 = .ok (.iconst 2, 1) := dk_5 (dk_at dksX3_takes_0 5 rfl rfl)
theorem dX3_takes_6 : decode cX3_takes 6 = .ok (.if_icmp .ne 22, 3) := dk_160 0 22 (dk_at dksX3_takes_0 6 rfl rfl)
theorem dX3_takes_9 : decode cX3_takes 9 = .ok (.aload_n 0, 1) := dk_42 (dk_at dksX3_takes_0 9 rfl rfl)
theorem dX3_takes_10 : decode cX3_takes 10 = .ok (.getfield 40, 3) := dk_180 0 40 (dk_at dksX3_takes_0 10 rfl rfl)
theorem dX3_takes_13 : decode cX3_takes 13 = .ok (.i2l, 1) := dk_133 (dk_at dksX3_takes_0 13 rfl rfl)
theorem dX3_takes_14 : decode cX3_takes 14 = .ok (.iload_n 1, 1) := dk_27 (dk_at dksX3_takes_0 14 rfl rfl)
theorem dX3_takes_15 : decode cX3_takes 15 = .ok (.i2l, 1) := dk_133 (dk_at dksX3_takes_0 15 rfl rfl)
theorem dX3_takes_16 : decode cX3_takes 16 = .ok (.iload_n 2, 1) := dk_28 (dk_at dksX3_takes_0 16 rfl rfl)
theorem dX3_takes_17 : decode cX3_takes 17 = .ok (.i2l, 1) := dk_133 (dk_at dksX3_takes_0 17 rfl rfl)
theorem dX3_takes_18 : decode cX3_takes 18 = .ok (.invokestatic 57, 3) := dk_184 0 57 (dk_at dksX3_takes_0 18 rfl rfl)
theorem dX3_takes_21 : decode cX3_takes 21 = .ok (.ifCond .eq 7, 3) := dk_153 0 7 (dk_at dksX3_takes_0 21 rfl rfl)
theorem dX3_takes_24 : decode cX3_takes 24 = .ok (.iconst 1, 1) := dk_4 (dk_at dksX3_takes_1 0 rfl rfl)
theorem dX3_takes_25 : decode cX3_takes 25 = .ok (.goto 4, 3) := dk_167 0 4 (dk_at dksX3_takes_1 1 rfl rfl)
theorem dX3_takes_28 : decode cX3_takes 28 = .ok (.iconst 0, 1) := dk_3 (dk_at dksX3_takes_1 4 rfl rfl)
theorem dX3_takes_29 : decode cX3_takes 29 = .ok (.invokevirtual 61, 3) := dk_182 0 61 (dk_at dksX3_takes_1 5 rfl rfl)
theorem dX3_takes_32 : decode cX3_takes 32 = .ok (.aload_n 0, 1) := dk_42 (dk_at dksX3_takes_1 8 rfl rfl)
theorem dX3_takes_33 : decode cX3_takes 33 = .ok (.getfield 40, 3) := dk_180 0 40 (dk_at dksX3_takes_1 9 rfl rfl)
theorem dX3_takes_36 : decode cX3_takes 36 = .ok (.istore_n 3, 1) := dk_62 (dk_at dksX3_takes_1 12 rfl rfl)
theorem dX3_takes_37 : decode cX3_takes 37 = .ok (.aload_n 0, 1) := dk_42 (dk_at dksX3_takes_1 13 rfl rfl)
theorem dX3_takes_38 : decode cX3_takes 38 = .ok (.invokevirtual 65, 3) := dk_182 0 65 (dk_at dksX3_takes_1 14 rfl rfl)
theorem dX3_takes_41 : decode cX3_takes 41 = .ok (.iload_n 3, 1) := dk_29 (dk_at dksX3_takes_1 17 rfl rfl)
theorem dX3_takes_42 : decode cX3_takes 42 = .ok (.ireturn, 1) := dk_172 (dk_at dksX3_takes_1 18 rfl rfl)
theorem q64 : (Jvm.Cond.initialized "RentedViews$Reader") ∈ lw_all := lw_g (lw_at lw_m1 4 rfl) rfl
theorem q141 : (Jvm.Cond.fieldLinkNest "RentedViews$Reader" (118 : Nat) "RentedViews$Shop" "things" "[I" "RentedViews") ∈ lw_tbl := lw_at lw_m1 81 rfl
theorem q146 : (Jvm.Cond.fieldLinkNest "RentedViews$Reader" (92 : Nat) "RentedViews$Shop" "many" "I" "RentedViews") ∈ lw_tbl := lw_at lw_m1 86 rfl
theorem q153 : (Jvm.Cond.fieldLinkNest "RentedViews$Reader" (109 : Nat) "RentedViews$Shop" "renters" "I" "RentedViews") ∈ lw_tbl := lw_at lw_m1 93 rfl
theorem q190 : (Jvm.Cond.instantiable "RentedViews$Reader" (6 : Nat)) ∈ lw_all := lw_g (lw_at lw_m1 130 rfl) rfl
theorem q192 : (Jvm.Cond.instanceMethod ({ cls := "RentedViews$Reader", name := "<init>", desc := "(LRentedViews;)V" } : Jvm.MethodName)) ∈ lw_all := lw_g (lw_at lw_m1 132 rfl) rfl
theorem q193 : (Jvm.Cond.code ({ cls := "RentedViews$Reader", name := "<init>", desc := "(LRentedViews;)V" } : Jvm.MethodName) prog_8_method_1_code (2 : Nat) (Option.none : Option Jvm.ClassFile.FieldType)) ∈ lw_all := lw_g (lw_at lw_m1 133 rfl) rfl
theorem q194 : (Jvm.Cond.methodLink "RentedViews$Reader" (9 : Nat) ({ cls := "java/lang/Object", name := "<init>", desc := "()V" } : Jvm.MethodName)) ∈ lw_all := lw_g (lw_at lw_m1 134 rfl) rfl
theorem q195 : (Jvm.Cond.fieldLink "RentedViews$Reader" (15 : Nat) "RentedViews$Reader" "at" "I") ∈ lw_all := lw_g (lw_at lw_m1 135 rfl) rfl
theorem q196 : (Jvm.Cond.fieldLink "RentedViews$Reader" (30 : Nat) "RentedViews$Reader" "start" "I") ∈ lw_all := lw_g (lw_at lw_m1 136 rfl) rfl
theorem q197 : (Jvm.Cond.fieldLink "RentedViews$Reader" (33 : Nat) "RentedViews$Reader" "token" "I") ∈ lw_all := lw_g (lw_at lw_m1 137 rfl) rfl
theorem q198 : (Jvm.Cond.fieldLink "RentedViews$Reader" (40 : Nat) "RentedViews$Reader" "value" "I") ∈ lw_all := lw_g (lw_at lw_m1 138 rfl) rfl
theorem q199 : (Jvm.Cond.fieldLink "RentedViews$Reader" (77 : Nat) "RentedViews$Reader" "begun" "Z") ∈ lw_all := lw_g (lw_at lw_m1 139 rfl) rfl
theorem q200 : (Jvm.Cond.fieldLink "RentedViews$Reader" (3 : Nat) "RentedViews$Reader" "this$0" "LRentedViews;") ∈ lw_all := lw_g (lw_at lw_m1 140 rfl) rfl
theorem q201 : (Jvm.Cond.lays "RentedViews$Reader" "RentedViews$Reader" "at" "I") ∈ lw_all := lw_g (lw_at lw_m1 141 rfl) rfl
theorem q202 : (Jvm.Cond.soleField "RentedViews$Reader" "at") ∈ lw_all := lw_g (lw_at lw_m1 142 rfl) rfl
theorem q203 : (Jvm.Cond.lays "RentedViews$Reader" "RentedViews$Reader" "start" "I") ∈ lw_all := lw_g (lw_at lw_m1 143 rfl) rfl
theorem q204 : (Jvm.Cond.soleField "RentedViews$Reader" "start") ∈ lw_all := lw_g (lw_at lw_m1 144 rfl) rfl
theorem q205 : (Jvm.Cond.lays "RentedViews$Reader" "RentedViews$Reader" "token" "I") ∈ lw_all := lw_g (lw_at lw_m1 145 rfl) rfl
theorem q206 : (Jvm.Cond.soleField "RentedViews$Reader" "token") ∈ lw_all := lw_g (lw_at lw_m1 146 rfl) rfl
theorem q207 : (Jvm.Cond.lays "RentedViews$Reader" "RentedViews$Reader" "value" "I") ∈ lw_all := lw_g (lw_at lw_m1 147 rfl) rfl
theorem q208 : (Jvm.Cond.soleField "RentedViews$Reader" "value") ∈ lw_all := lw_g (lw_at lw_m1 148 rfl) rfl
theorem q209 : (Jvm.Cond.lays "RentedViews$Reader" "RentedViews$Reader" "begun" "Z") ∈ lw_all := lw_g (lw_at lw_m1 149 rfl) rfl
theorem q210 : (Jvm.Cond.soleField "RentedViews$Reader" "begun") ∈ lw_all := lw_g (lw_at lw_m1 150 rfl) rfl
theorem q211 : (Jvm.Cond.laysFinal "RentedViews$Reader" "RentedViews$Reader" "this$0" "LRentedViews;") ∈ lw_all := lw_g (lw_at lw_m1 151 rfl) rfl
theorem q212 : (Jvm.Cond.soleField "RentedViews$Reader" "this$0") ∈ lw_all := lw_g (lw_at lw_m1 152 rfl) rfl
theorem q213 : (Jvm.Cond.superclass "RentedViews$Reader" "java/lang/Object") ∈ lw_all := lw_g (lw_at lw_m1 153 rfl) rfl
theorem q250 : (Jvm.Cond.fieldLinkNest "RentedViews$Reader" (68 : Nat) "RentedViews" "aside" "LRentedViews$Shop;" "RentedViews") ∈ lw_tbl := lw_at lw_m1 190 rfl
theorem q252 : (Jvm.Cond.fieldLinkNest "RentedViews$Reader" (22 : Nat) "RentedViews" "text" "[B" "RentedViews") ∈ lw_tbl := lw_at lw_m1 192 rfl
theorem q254 : (Jvm.Cond.fieldLinkNest "RentedViews$Reader" (19 : Nat) "RentedViews" "typed" "I" "RentedViews") ∈ lw_tbl := lw_at lw_m1 194 rfl
theorem q437 : (Jvm.Cond.instanceMethod ({ cls := "RentedViews$Reader", name := "reads", desc := "()I" } : Jvm.MethodName)) ∈ lw_all := lw_g (lw_at lw_m2 137 rfl) rfl
theorem q438 : (Jvm.Cond.selects "RentedViews$Reader" ({ cls := "RentedViews$Reader", name := "reads", desc := "()I" } : Jvm.MethodName) ({ cls := "RentedViews$Reader", name := "reads", desc := "()I" } : Jvm.MethodName)) ∈ lw_all := lw_g (lw_at lw_m2 138 rfl) rfl
theorem q439 : (Jvm.Cond.code ({ cls := "RentedViews$Reader", name := "reads", desc := "()I" } : Jvm.MethodName) prog_8_method_8_code (2 : Nat) (Option.some Jvm.ClassFile.FieldType.int)) ∈ lw_all := lw_g (lw_at lw_m2 139 rfl) rfl
theorem q440 : (Jvm.Cond.methodLink "RentedViews$Reader" (72 : Nat) ({ cls := "RentedViews$Shop", name := "begins", desc := "()V" } : Jvm.MethodName)) ∈ lw_all := lw_g (lw_at lw_m2 140 rfl) rfl
theorem q441 : (Jvm.Cond.methodLink "RentedViews$Reader" (65 : Nat) ({ cls := "RentedViews$Reader", name := "scans", desc := "()V" } : Jvm.MethodName)) ∈ lw_all := lw_g (lw_at lw_m2 141 rfl) rfl
theorem q442 : (Jvm.Cond.privateMethod ({ cls := "RentedViews$Reader", name := "scans", desc := "()V" } : Jvm.MethodName)) ∈ lw_tbl := lw_at lw_m2 142 rfl
theorem q443 : (Jvm.Cond.instanceMethod ({ cls := "RentedViews$Reader", name := "scans", desc := "()V" } : Jvm.MethodName)) ∈ lw_all := lw_g (lw_at lw_m2 143 rfl) rfl
theorem q444 : (Jvm.Cond.code ({ cls := "RentedViews$Reader", name := "scans", desc := "()V" } : Jvm.MethodName) prog_8_method_3_code (1 : Nat) (Option.none : Option Jvm.ClassFile.FieldType)) ∈ lw_all := lw_g (lw_at lw_m2 144 rfl) rfl
theorem q445 : (Jvm.Cond.methodLink "RentedViews$Reader" (26 : Nat) ({ cls := "RentedViews$Reader", name := "isAt", desc := "(II)Z" } : Jvm.MethodName)) ∈ lw_all := lw_g (lw_at lw_m2 145 rfl) rfl
theorem q446 : (Jvm.Cond.privateMethod ({ cls := "RentedViews$Reader", name := "isAt", desc := "(II)Z" } : Jvm.MethodName)) ∈ lw_tbl := lw_at lw_m2 146 rfl
theorem q447 : (Jvm.Cond.instanceMethod ({ cls := "RentedViews$Reader", name := "isAt", desc := "(II)Z" } : Jvm.MethodName)) ∈ lw_all := lw_g (lw_at lw_m2 147 rfl) rfl
theorem q448 : (Jvm.Cond.code ({ cls := "RentedViews$Reader", name := "isAt", desc := "(II)Z" } : Jvm.MethodName) prog_8_method_2_code (3 : Nat) (Option.some Jvm.ClassFile.FieldType.boolean)) ∈ lw_all := lw_g (lw_at lw_m2 148 rfl) rfl
theorem q449 : (Jvm.Cond.methodLink "RentedViews$Reader" (36 : Nat) ({ cls := "RentedViews$Reader", name := "number", desc := "()I" } : Jvm.MethodName)) ∈ lw_all := lw_g (lw_at lw_m2 149 rfl) rfl
theorem q450 : (Jvm.Cond.privateMethod ({ cls := "RentedViews$Reader", name := "number", desc := "()I" } : Jvm.MethodName)) ∈ lw_tbl := lw_at lw_m2 150 rfl
theorem q451 : (Jvm.Cond.instanceMethod ({ cls := "RentedViews$Reader", name := "number", desc := "()I" } : Jvm.MethodName)) ∈ lw_all := lw_g (lw_at lw_m2 151 rfl) rfl
theorem q452 : (Jvm.Cond.code ({ cls := "RentedViews$Reader", name := "number", desc := "()I" } : Jvm.MethodName) prog_8_method_4_code (2 : Nat) (Option.some Jvm.ClassFile.FieldType.int)) ∈ lw_all := lw_g (lw_at lw_m2 152 rfl) rfl
theorem q453 : (Jvm.Cond.methodLink "RentedViews$Reader" (61 : Nat) ({ cls := "RentedViews$Reader", name := "wants", desc := "(Z)V" } : Jvm.MethodName)) ∈ lw_all := lw_g (lw_at lw_m2 153 rfl) rfl
theorem q454 : (Jvm.Cond.privateMethod ({ cls := "RentedViews$Reader", name := "wants", desc := "(Z)V" } : Jvm.MethodName)) ∈ lw_tbl := lw_at lw_m2 154 rfl
theorem q455 : (Jvm.Cond.instanceMethod ({ cls := "RentedViews$Reader", name := "wants", desc := "(Z)V" } : Jvm.MethodName)) ∈ lw_all := lw_g (lw_at lw_m2 155 rfl) rfl
theorem q456 : (Jvm.Cond.code ({ cls := "RentedViews$Reader", name := "wants", desc := "(Z)V" } : Jvm.MethodName) prog_8_method_6_code (2 : Nat) (Option.none : Option Jvm.ClassFile.FieldType)) ∈ lw_all := lw_g (lw_at lw_m2 156 rfl) rfl
theorem q457 : (Jvm.Cond.classLink "RentedViews$Reader" (52 : Nat) "RentedViews$Fault") ∈ lw_all := lw_g (lw_at lw_m2 157 rfl) rfl
theorem q494 : (Jvm.Cond.methodLink "RentedViews$Reader" (54 : Nat) ({ cls := "RentedViews$Fault", name := "<init>", desc := "(I)V" } : Jvm.MethodName)) ∈ lw_all := lw_g (lw_at lw_m2 194 rfl) rfl
theorem q520 : (Jvm.Cond.methodLink "RentedViews$Reader" (81 : Nat) ({ cls := "RentedViews$Reader", name := "item", desc := "()V" } : Jvm.MethodName)) ∈ lw_all := lw_g (lw_at lw_m2 220 rfl) rfl
theorem q521 : (Jvm.Cond.privateMethod ({ cls := "RentedViews$Reader", name := "item", desc := "()V" } : Jvm.MethodName)) ∈ lw_tbl := lw_at lw_m2 221 rfl
theorem q522 : (Jvm.Cond.instanceMethod ({ cls := "RentedViews$Reader", name := "item", desc := "()V" } : Jvm.MethodName)) ∈ lw_all := lw_g (lw_at lw_m2 222 rfl) rfl
theorem q523 : (Jvm.Cond.code ({ cls := "RentedViews$Reader", name := "item", desc := "()V" } : Jvm.MethodName) prog_8_method_9_code (4 : Nat) (Option.none : Option Jvm.ClassFile.FieldType)) ∈ lw_all := lw_g (lw_at lw_m2 223 rfl) rfl
theorem q524 : (Jvm.Cond.stringRef "RentedViews$Reader" (84 : Nat) "shop") ∈ lw_tbl := lw_at lw_m2 224 rfl
theorem q525 : (Jvm.Cond.methodLink "RentedViews$Reader" (86 : Nat) ({ cls := "RentedViews$Reader", name := "isWord", desc := "(Ljava/lang/String;)Z" } : Jvm.MethodName)) ∈ lw_all := lw_g (lw_at lw_m2 225 rfl) rfl
theorem q526 : (Jvm.Cond.privateMethod ({ cls := "RentedViews$Reader", name := "isWord", desc := "(Ljava/lang/String;)Z" } : Jvm.MethodName)) ∈ lw_tbl := lw_at lw_m2 226 rfl
theorem q527 : (Jvm.Cond.instanceMethod ({ cls := "RentedViews$Reader", name := "isWord", desc := "(Ljava/lang/String;)Z" } : Jvm.MethodName)) ∈ lw_all := lw_g (lw_at lw_m2 227 rfl) rfl
theorem q528 : (Jvm.Cond.code ({ cls := "RentedViews$Reader", name := "isWord", desc := "(Ljava/lang/String;)Z" } : Jvm.MethodName) prog_8_method_5_code (4 : Nat) (Option.some Jvm.ClassFile.FieldType.boolean)) ∈ lw_all := lw_g (lw_at lw_m2 228 rfl) rfl
theorem q529 : (Jvm.Cond.methodLink "RentedViews$Reader" (43 : Nat) ({ cls := "java/lang/String", name := "length", desc := "()I" } : Jvm.MethodName)) ∈ lw_all := lw_g (lw_at lw_m2 229 rfl) rfl
theorem q539 : (Jvm.Cond.methodLink "RentedViews$Reader" (48 : Nat) ({ cls := "java/lang/String", name := "charAt", desc := "(I)C" } : Jvm.MethodName)) ∈ lw_all := lw_g (lw_at lw_m2 239 rfl) rfl
theorem q577 : (Jvm.Cond.stringRef "RentedViews$Reader" (90 : Nat) "view") ∈ lw_tbl := lw_at lw_m3 37 rfl
theorem q578 : (Jvm.Cond.methodLink "RentedViews$Reader" (95 : Nat) ({ cls := "RentedViews$Reader", name := "takes", desc := "(II)I" } : Jvm.MethodName)) ∈ lw_all := lw_g (lw_at lw_m3 38 rfl) rfl
theorem q579 : (Jvm.Cond.privateMethod ({ cls := "RentedViews$Reader", name := "takes", desc := "(II)I" } : Jvm.MethodName)) ∈ lw_tbl := lw_at lw_m3 39 rfl
theorem q580 : (Jvm.Cond.instanceMethod ({ cls := "RentedViews$Reader", name := "takes", desc := "(II)I" } : Jvm.MethodName)) ∈ lw_all := lw_g (lw_at lw_m3 40 rfl) rfl
theorem q581 : (Jvm.Cond.code ({ cls := "RentedViews$Reader", name := "takes", desc := "(II)I" } : Jvm.MethodName) prog_8_method_7_code (4 : Nat) (Option.some Jvm.ClassFile.FieldType.int)) ∈ lw_all := lw_g (lw_at lw_m3 41 rfl) rfl
theorem q582 : (Jvm.Cond.methodLinkNest "RentedViews$Reader" (57 : Nat) ({ cls := "RentedViews", name := "in", desc := "(JJJ)Z" } : Jvm.MethodName) "RentedViews") ∈ lw_tbl := lw_at lw_m3 42 rfl
theorem q583 : (Jvm.Cond.methodLinkNest "RentedViews$Reader" (99 : Nat) ({ cls := "RentedViews", name := "made", desc := "(IIII)LRentedViews$View;" } : Jvm.MethodName) "RentedViews") ∈ lw_tbl := lw_at lw_m3 43 rfl
theorem q584 : (Jvm.Cond.methodLink "RentedViews$Reader" (103 : Nat) ({ cls := "RentedViews$Shop", name := "hangs", desc := "(LRentedViews$View;)V" } : Jvm.MethodName)) ∈ lw_all := lw_g (lw_at lw_m3 44 rfl) rfl
theorem q585 : (Jvm.Cond.stringRef "RentedViews$Reader" (107 : Nat) "renter") ∈ lw_tbl := lw_at lw_m3 45 rfl
theorem q586 : (Jvm.Cond.methodLink "RentedViews$Reader" (112 : Nat) ({ cls := "RentedViews$Shop", name := "comes", desc := "(III)V" } : Jvm.MethodName)) ∈ lw_all := lw_g (lw_at lw_m3 46 rfl) rfl
theorem q587 : (Jvm.Cond.stringRef "RentedViews$Reader" (116 : Nat) "thing") ∈ lw_tbl := lw_at lw_m3 47 rfl
theorem in_X3 : ∀ w ∈ wsX30, w ∈ lw_all := lw_in wsX30 [201, 203, 205, 207, 209, 211] (by decide +kernel) (by decide +kernel)
/-! RentedViews$Best -/
set_option maxRecDepth 100000
def RX4 : String := "RentedViews$Best"
def TX4 : u_T := fun k => match k with
  | 0 => ("RentedViews$Best", "row", "[I", true)
  | 1 => ("RentedViews$Best", "first", "[I", true)
  | 2 => ("RentedViews$Best", "many", "I", false)
  | 3 => ("RentedViews$Best", "money", "I", false)
  | 4 => ("RentedViews$Best", "evening", "I", false)
  | _ => ("RentedViews$Best", "this$0", "LRentedViews;", true)
def tyX4 : Nat → FieldType := fun k => match k with
  | 0 => .array .int
  | 1 => .array .int
  | 2 => .int
  | 3 => .int
  | 4 => .int
  | _ => .object "RentedViews"
abbrev wsX40 : List Cond := u_ws RX4 TX4 6
theorem nmX4 : ∀ a, a < 6 → ∀ b, b < 6 → a ≠ b → (TX4 a).2.1 ≠ (TX4 b).2.1 := by decide +kernel
theorem tyX4_ok : ∀ k, k < 6 → parseFieldDescriptor (TX4 k).2.2.1 = some (tyX4 k) := by decide +kernel
abbrev cX4_init : ByteArray := prog_2_method_1_code
def yX4_init : MethodName := ⟨RX4, "<init>", "(LRentedViews;)V"⟩
def dkwX4_init_1 : List UInt8 := [181, 0, 19, 177]
abbrev dktX4_init_1 : List UInt8 := dkwX4_init_1 ++ []
def dkwX4_init_0 : List UInt8 := [42, 43, 181, 0, 3, 42, 183, 0, 9, 42, 16, 6, 188, 10, 181, 0, 15, 42, 16, 6, 188, 10]
abbrev dktX4_init_0 : List UInt8 := dkwX4_init_0 ++ dktX4_init_1
theorem dksX4_init_0 : cX4_init.data.toList.drop 0 = dktX4_init_0 := by decide +kernel
theorem dksX4_init_1 : cX4_init.data.toList.drop 22 = dktX4_init_1 := dk_seg dksX4_init_0 22 rfl rfl
theorem dX4_init_0 : decode cX4_init 0 = .ok (.aload_n 0, 1) := dk_42 (dk_at dksX4_init_0 0 rfl rfl)
theorem dX4_init_1 : decode cX4_init 1 = .ok (.aload_n 1, 1) := dk_43 (dk_at dksX4_init_0 1 rfl rfl)
theorem dX4_init_2 : decode cX4_init 2 = .ok (.putfield 3, 3) := dk_181 0 3 (dk_at dksX4_init_0 2 rfl rfl)
theorem dX4_init_5 : decode cX4_init 5 = .ok (.aload_n 0, 1) := dk_42 (dk_at dksX4_init_0 5 rfl rfl)
theorem dX4_init_6 : decode cX4_init 6 = .ok (.invokespecial 9, 3) := dk_183 0 9 (dk_at dksX4_init_0 6 rfl rfl)
theorem dX4_init_9 : decode cX4_init 9 = .ok (.aload_n 0, 1) := dk_42 (dk_at dksX4_init_0 9 rfl rfl)
theorem dX4_init_10 : decode cX4_init 10 = .ok (.bipush 6, 2) := dk_16 6 (dk_at dksX4_init_0 10 rfl rfl)
theorem dX4_init_12 : decode cX4_init 12 = .ok (.newarray .int, 2) := dk_188_10 (dk_at dksX4_init_0 12 rfl rfl)
theorem dX4_init_14 : decode cX4_init 14 = .ok (.putfield 15, 3) := dk_181 0 15 (dk_at dksX4_init_0 14 rfl rfl)
theorem dX4_init_17 : decode cX4_init 17 = .ok (.aload_n 0, 1) := dk_42 (dk_at dksX4_init_0 17 rfl rfl)
theorem dX4_init_18 : decode cX4_init 18 = .ok (.bipush 6, 2) := dk_16 6 (dk_at dksX4_init_0 18 rfl rfl)
theorem dX4_init_20 : decode cX4_init 20 = .ok (.newarray .int, 2) := dk_188_10 (dk_at dksX4_init_0 20 rfl rfl)
theorem dX4_init_22 : decode cX4_init 22 = .ok (.putfield 19, 3) := dk_181 0 19 (dk_at dksX4_init_1 0 rfl rfl)
theorem dX4_init_25 : decode cX4_init 25 = .ok (.return_, 1) := dk_177 (dk_at dksX4_init_1 3 rfl rfl)
abbrev cX4_goes : ByteArray := prog_2_method_2_code
def yX4_goes : MethodName := ⟨RX4, "goes", "(I)V"⟩
def dkwX4_goes_0 : List UInt8 := [42, 27, 181, 0, 22, 42, 2, 181, 0, 26, 42, 2, 181, 0, 29, 42, 3, 3, 3, 3, 182, 0, 32, 177]
abbrev dktX4_goes_0 : List UInt8 := dkwX4_goes_0 ++ []
theorem dksX4_goes_0 : cX4_goes.data.toList.drop 0 = dktX4_goes_0 := by decide +kernel
theorem dX4_goes_0 : decode cX4_goes 0 = .ok (.aload_n 0, 1) := dk_42 (dk_at dksX4_goes_0 0 rfl rfl)
theorem dX4_goes_1 : decode cX4_goes 1 = .ok (.iload_n 1, 1) := dk_27 (dk_at dksX4_goes_0 1 rfl rfl)
theorem dX4_goes_2 : decode cX4_goes 2 = .ok (.putfield 22, 3) := dk_181 0 22 (dk_at dksX4_goes_0 2 rfl rfl)
theorem dX4_goes_5 : decode cX4_goes 5 = .ok (.aload_n 0, 1) := dk_42 (dk_at dksX4_goes_0 5 rfl rfl)
theorem dX4_goes_6 : decode cX4_goes 6 = .ok (.iconst (-1), 1) := dk_2 (dk_at dksX4_goes_0 6 rfl rfl)
theorem dX4_goes_7 : decode cX4_goes 7 = .ok (.putfield 26, 3) := dk_181 0 26 (dk_at dksX4_goes_0 7 rfl rfl)
theorem dX4_goes_10 : decode cX4_goes 10 = .ok (.aload_n 0, 1) := dk_42 (dk_at dksX4_goes_0 10 rfl rfl)
theorem dX4_goes_11 : decode cX4_goes 11 = .ok (.iconst (-1), 1) := dk_2 (dk_at dksX4_goes_0 11 rfl rfl)
theorem dX4_goes_12 : decode cX4_goes 12 = .ok (.putfield 29, 3) := dk_181 0 29 (dk_at dksX4_goes_0 12 rfl rfl)
theorem dX4_goes_15 : decode cX4_goes 15 = .ok (.aload_n 0, 1) := dk_42 (dk_at dksX4_goes_0 15 rfl rfl)
theorem dX4_goes_16 : decode cX4_goes 16 = .ok (.iconst 0, 1) := dk_3 (dk_at dksX4_goes_0 16 rfl rfl)
theorem dX4_goes_17 : decode cX4_goes 17 = .ok (.iconst 0, 1) := dk_3 (dk_at dksX4_goes_0 17 rfl rfl)
theorem dX4_goes_18 : decode cX4_goes 18 = .ok (.iconst 0, 1) := dk_3 (dk_at dksX4_goes_0 18 rfl rfl)
theorem dX4_goes_19 : decode cX4_goes 19 = .ok (.iconst 0, 1) := dk_3 (dk_at dksX4_goes_0 19 rfl rfl)
theorem dX4_goes_20 : decode cX4_goes 20 = .ok (.invokevirtual 32, 3) := dk_182 0 32 (dk_at dksX4_goes_0 20 rfl rfl)
theorem dX4_goes_23 : decode cX4_goes 23 = .ok (.return_, 1) := dk_177 (dk_at dksX4_goes_0 23 rfl rfl)
abbrev cX4_tries : ByteArray := prog_2_method_3_code
def yX4_tries : MethodName := ⟨RX4, "tries", "(IIII)V"⟩
def dkwX4_tries_7 : List UInt8 := [180, 0, 56, 21, 5, 50, 182, 0, 60, 96, 182, 0, 32, 132, 5, 1, 167, 255, 166, 177]
abbrev dktX4_tries_7 : List UInt8 := dkwX4_tries_7 ++ []
def dkwX4_tries_6 : List UInt8 := [42, 27, 4, 96, 28, 4, 21, 5, 120, 128, 29, 4, 96, 21, 4, 42, 180, 0, 3, 180, 0, 36]
abbrev dktX4_tries_6 : List UInt8 := dkwX4_tries_6 ++ dktX4_tries_7
def dkwX4_tries_5 : List UInt8 := [180, 0, 36, 21, 5, 27, 42, 180, 0, 22, 182, 0, 52, 153, 0, 46, 42, 180, 0, 15, 27, 21, 5, 79]
abbrev dktX4_tries_5 : List UInt8 := dkwX4_tries_5 ++ dktX4_tries_6
def dkwX4_tries_4 : List UInt8 := [180, 0, 36, 180, 0, 51, 162, 0, 81, 28, 21, 5, 122, 4, 126, 154, 0, 66, 42, 180, 0, 3]
abbrev dktX4_tries_4 : List UInt8 := dkwX4_tries_4 ++ dktX4_tries_5
def dkwX4_tries_3 : List UInt8 := [2, 79, 42, 27, 4, 96, 28, 29, 21, 4, 182, 0, 32, 3, 54, 5, 21, 5, 42, 180, 0, 3]
abbrev dktX4_tries_3 : List UInt8 := dkwX4_tries_3 ++ dktX4_tries_4
def dkwX4_tries_2 : List UInt8 := [181, 0, 29, 42, 180, 0, 15, 3, 42, 180, 0, 19, 3, 16, 6, 184, 0, 45, 177, 42, 180, 0, 15, 27]
abbrev dktX4_tries_2 : List UInt8 := dkwX4_tries_2 ++ dktX4_tries_3
def dkwX4_tries_1 : List UInt8 := [180, 0, 26, 160, 0, 38, 21, 4, 42, 180, 0, 29, 164, 0, 29, 42, 29, 181, 0, 26, 42, 21, 4]
abbrev dktX4_tries_1 : List UInt8 := dkwX4_tries_1 ++ dktX4_tries_2
def dkwX4_tries_0 : List UInt8 := [27, 42, 180, 0, 3, 180, 0, 36, 180, 0, 40, 160, 0, 55, 29, 42, 180, 0, 26, 163, 0, 20, 29, 42]
abbrev dktX4_tries_0 : List UInt8 := dkwX4_tries_0 ++ dktX4_tries_1
theorem dksX4_tries_0 : cX4_tries.data.toList.drop 0 = dktX4_tries_0 := by decide +kernel
theorem dksX4_tries_1 : cX4_tries.data.toList.drop 24 = dktX4_tries_1 := dk_seg dksX4_tries_0 24 rfl rfl
theorem dksX4_tries_2 : cX4_tries.data.toList.drop 47 = dktX4_tries_2 := dk_seg dksX4_tries_1 23 rfl rfl
theorem dksX4_tries_3 : cX4_tries.data.toList.drop 71 = dktX4_tries_3 := dk_seg dksX4_tries_2 24 rfl rfl
theorem dksX4_tries_4 : cX4_tries.data.toList.drop 93 = dktX4_tries_4 := dk_seg dksX4_tries_3 22 rfl rfl
theorem dksX4_tries_5 : cX4_tries.data.toList.drop 115 = dktX4_tries_5 := dk_seg dksX4_tries_4 22 rfl rfl
theorem dksX4_tries_6 : cX4_tries.data.toList.drop 139 = dktX4_tries_6 := dk_seg dksX4_tries_5 24 rfl rfl
theorem dksX4_tries_7 : cX4_tries.data.toList.drop 161 = dktX4_tries_7 := dk_seg dksX4_tries_6 22 rfl rfl
theorem dX4_tries_0 : decode cX4_tries 0 = .ok (.iload_n 1, 1) := dk_27 (dk_at dksX4_tries_0 0 rfl rfl)
theorem dX4_tries_1 : decode cX4_tries 1 = .ok (.aload_n 0, 1) := dk_42 (dk_at dksX4_tries_0 1 rfl rfl)
theorem dX4_tries_2 : decode cX4_tries 2 = .ok (.getfield 3, 3) := dk_180 0 3 (dk_at dksX4_tries_0 2 rfl rfl)
theorem dX4_tries_5 : decode cX4_tries 5 = .ok (.getfield 36, 3) := dk_180 0 36 (dk_at dksX4_tries_0 5 rfl rfl)
theorem dX4_tries_8 : decode cX4_tries 8 = .ok (.getfield 40, 3) := dk_180 0 40 (dk_at dksX4_tries_0 8 rfl rfl)
theorem dX4_tries_11 : decode cX4_tries 11 = .ok (.if_icmp .ne 55, 3) := dk_160 0 55 (dk_at dksX4_tries_0 11 rfl rfl)
theorem dX4_tries_14 : decode cX4_tries 14 = .ok (.iload_n 3, 1) := dk_29 (dk_at dksX4_tries_0 14 rfl rfl)
theorem dX4_tries_15 : decode cX4_tries 15 = .ok (.aload_n 0, 1) := dk_42 (dk_at dksX4_tries_0 15 rfl rfl)
theorem dX4_tries_16 : decode cX4_tries 16 = .ok (.getfield 26, 3) := dk_180 0 26 (dk_at dksX4_tries_0 16 rfl rfl)
theorem dX4_tries_19 : decode cX4_tries 19 = .ok (.if_icmp .gt 20, 3) := dk_163 0 20 (dk_at dksX4_tries_0 19 rfl rfl)
theorem dX4_tries_22 : decode cX4_tries 22 = .ok (.iload_n 3, 1) := dk_29 (dk_at dksX4_tries_0 22 rfl rfl)
theorem dX4_tries_23 : decode cX4_tries 23 = .ok (.aload_n 0, 1) := dk_42 (dk_at dksX4_tries_0 23 rfl rfl)
theorem dX4_tries_24 : decode cX4_tries 24 = .ok (.getfield 26, 3) := dk_180 0 26 (dk_at dksX4_tries_1 0 rfl rfl)
theorem dX4_tries_27 : decode cX4_tries 27 = .ok (.if_icmp .ne 38, 3) := dk_160 0 38 (dk_at dksX4_tries_1 3 rfl rfl)
theorem dX4_tries_30 : decode cX4_tries 30 = .ok (.iload 4, 2) := dk_21 4 (dk_at dksX4_tries_1 6 rfl rfl)
theorem dX4_tries_32 : decode cX4_tries 32 = .ok (.aload_n 0, 1) := dk_42 (dk_at dksX4_tries_1 8 rfl rfl)
theorem dX4_tries_33 : decode cX4_tries 33 = .ok (.getfield 29, 3) := dk_180 0 29 (dk_at dksX4_tries_1 9 rfl rfl)
theorem dX4_tries_36 : decode cX4_tries 36 = .ok (.if_icmp .le 29, 3) := dk_164 0 29 (dk_at dksX4_tries_1 12 rfl rfl)
theorem dX4_tries_39 : decode cX4_tries 39 = .ok (.aload_n 0, 1) := dk_42 (dk_at dksX4_tries_1 15 rfl rfl)
theorem dX4_tries_40 : decode cX4_tries 40 = .ok (.iload_n 3, 1) := dk_29 (dk_at dksX4_tries_1 16 rfl rfl)
theorem dX4_tries_41 : decode cX4_tries 41 = .ok (.putfield 26, 3) := dk_181 0 26 (dk_at dksX4_tries_1 17 rfl rfl)
theorem dX4_tries_44 : decode cX4_tries 44 = .ok (.aload_n 0, 1) := dk_42 (dk_at dksX4_tries_1 20 rfl rfl)
theorem dX4_tries_45 : decode cX4_tries 45 = .ok (.iload 4, 2) := dk_21 4 (dk_at dksX4_tries_1 21 rfl rfl)
theorem dX4_tries_47 : decode cX4_tries 47 = .ok (.putfield 29, 3) := dk_181 0 29 (dk_at dksX4_tries_2 0 rfl rfl)
theorem dX4_tries_50 : decode cX4_tries 50 = .ok (.aload_n 0, 1) := dk_42 (dk_at dksX4_tries_2 3 rfl rfl)
theorem dX4_tries_51 : decode cX4_tries 51 = .ok (.getfield 15, 3) := dk_180 0 15 (dk_at dksX4_tries_2 4 rfl rfl)
theorem dX4_tries_54 : decode cX4_tries 54 = .ok (.iconst 0, 1) := dk_3 (dk_at dksX4_tries_2 7 rfl rfl)
theorem dX4_tries_55 : decode cX4_tries 55 = .ok (.aload_n 0, 1) := dk_42 (dk_at dksX4_tries_2 8 rfl rfl)
theorem dX4_tries_56 : decode cX4_tries 56 = .ok (.getfield 19, 3) := dk_180 0 19 (dk_at dksX4_tries_2 9 rfl rfl)
theorem dX4_tries_59 : decode cX4_tries 59 = .ok (.iconst 0, 1) := dk_3 (dk_at dksX4_tries_2 12 rfl rfl)
theorem dX4_tries_60 : decode cX4_tries 60 = .ok (.bipush 6, 2) := dk_16 6 (dk_at dksX4_tries_2 13 rfl rfl)
theorem dX4_tries_62 : decode cX4_tries 62 = .ok (.invokestatic 45, 3) := dk_184 0 45 (dk_at dksX4_tries_2 15 rfl rfl)
theorem dX4_tries_65 : decode cX4_tries 65 = .ok (.return_, 1) := dk_177 (dk_at dksX4_tries_2 18 rfl rfl)
theorem dX4_tries_66 : decode cX4_tries 66 = .ok (.aload_n 0, 1) := dk_42 (dk_at dksX4_tries_2 19 rfl rfl)
theorem dX4_tries_67 : decode cX4_tries 67 = .ok (.getfield 15, 3) := dk_180 0 15 (dk_at dksX4_tries_2 20 rfl rfl)
theorem dX4_tries_70 : decode cX4_tries 70 = .ok (.iload_n 1, 1) := dk_27 (dk_at dksX4_tries_2 23 rfl rfl)
theorem dX4_tries_71 : decode cX4_tries 71 = .ok (.iconst (-1), 1) := dk_2 (dk_at dksX4_tries_3 0 rfl rfl)
theorem dX4_tries_72 : decode cX4_tries 72 = .ok (.iastore, 1) := dk_79 (dk_at dksX4_tries_3 1 rfl rfl)
theorem dX4_tries_73 : decode cX4_tries 73 = .ok (.aload_n 0, 1) := dk_42 (dk_at dksX4_tries_3 2 rfl rfl)
theorem dX4_tries_74 : decode cX4_tries 74 = .ok (.iload_n 1, 1) := dk_27 (dk_at dksX4_tries_3 3 rfl rfl)
theorem dX4_tries_75 : decode cX4_tries 75 = .ok (.iconst 1, 1) := dk_4 (dk_at dksX4_tries_3 4 rfl rfl)
theorem dX4_tries_76 : decode cX4_tries 76 = .ok (.iadd, 1) := dk_96 (dk_at dksX4_tries_3 5 rfl rfl)
theorem dX4_tries_77 : decode cX4_tries 77 = .ok (.iload_n 2, 1) := dk_28 (dk_at dksX4_tries_3 6 rfl rfl)
theorem dX4_tries_78 : decode cX4_tries 78 = .ok (.iload_n 3, 1) := dk_29 (dk_at dksX4_tries_3 7 rfl rfl)
theorem dX4_tries_79 : decode cX4_tries 79 = .ok (.iload 4, 2) := dk_21 4 (dk_at dksX4_tries_3 8 rfl rfl)
theorem dX4_tries_81 : decode cX4_tries 81 = .ok (.invokevirtual 32, 3) := dk_182 0 32 (dk_at dksX4_tries_3 10 rfl rfl)
theorem dX4_tries_84 : decode cX4_tries 84 = .ok (.iconst 0, 1) := dk_3 (dk_at dksX4_tries_3 13 rfl rfl)
theorem dX4_tries_85 : decode cX4_tries 85 = .ok (.istore 5, 2) := dk_54 5 (dk_at dksX4_tries_3 14 rfl rfl)
theorem dX4_tries_87 : decode cX4_tries 87 = .ok (.iload 5, 2) := dk_21 5 (dk_at dksX4_tries_3 16 rfl rfl)
theorem dX4_tries_89 : decode cX4_tries 89 = .ok (.aload_n 0, 1) := dk_42 (dk_at dksX4_tries_3 18 rfl rfl)
theorem dX4_tries_90 : decode cX4_tries 90 = .ok (.getfield 3, 3) := dk_180 0 3 (dk_at dksX4_tries_3 19 rfl rfl)
theorem dX4_tries_93 : decode cX4_tries 93 = .ok (.getfield 36, 3) := dk_180 0 36 (dk_at dksX4_tries_4 0 rfl rfl)
theorem dX4_tries_96 : decode cX4_tries 96 = .ok (.getfield 51, 3) := dk_180 0 51 (dk_at dksX4_tries_4 3 rfl rfl)
theorem dX4_tries_99 : decode cX4_tries 99 = .ok (.if_icmp .ge 81, 3) := dk_162 0 81 (dk_at dksX4_tries_4 6 rfl rfl)
theorem dX4_tries_102 : decode cX4_tries 102 = .ok (.iload_n 2, 1) := dk_28 (dk_at dksX4_tries_4 9 rfl rfl)
theorem dX4_tries_103 : decode cX4_tries 103 = .ok (.iload 5, 2) := dk_21 5 (dk_at dksX4_tries_4 10 rfl rfl)
theorem dX4_tries_105 : decode cX4_tries 105 = .ok (.ishr, 1) := dk_122 (dk_at dksX4_tries_4 12 rfl rfl)
theorem dX4_tries_106 : decode cX4_tries 106 = .ok (.iconst 1, 1) := dk_4 (dk_at dksX4_tries_4 13 rfl rfl)
theorem dX4_tries_107 : decode cX4_tries 107 = .ok (.iand, 1) := dk_126 (dk_at dksX4_tries_4 14 rfl rfl)
theorem dX4_tries_108 : decode cX4_tries 108 = .ok (.ifCond .ne 66, 3) := dk_154 0 66 (dk_at dksX4_tries_4 15 rfl rfl)
theorem dX4_tries_111 : decode cX4_tries 111 = .ok (.aload_n 0, 1) := dk_42 (dk_at dksX4_tries_4 18 rfl rfl)
theorem dX4_tries_112 : decode cX4_tries 112 = .ok (.getfield 3, 3) := dk_180 0 3 (dk_at dksX4_tries_4 19 rfl rfl)
theorem dX4_tries_115 : decode cX4_tries 115 = .ok (.getfield 36, 3) := dk_180 0 36 (dk_at dksX4_tries_5 0 rfl rfl)
theorem dX4_tries_118 : decode cX4_tries 118 = .ok (.iload 5, 2) := dk_21 5 (dk_at dksX4_tries_5 3 rfl rfl)
theorem dX4_tries_120 : decode cX4_tries 120 = .ok (.iload_n 1, 1) := dk_27 (dk_at dksX4_tries_5 5 rfl rfl)
theorem dX4_tries_121 : decode cX4_tries 121 = .ok (.aload_n 0, 1) := dk_42 (dk_at dksX4_tries_5 6 rfl rfl)
theorem dX4_tries_122 : decode cX4_tries 122 = .ok (.getfield 22, 3) := dk_180 0 22 (dk_at dksX4_tries_5 7 rfl rfl)
theorem dX4_tries_125 : decode cX4_tries 125 = .ok (.invokevirtual 52, 3) := dk_182 0 52 (dk_at dksX4_tries_5 10 rfl rfl)
theorem dX4_tries_128 : decode cX4_tries 128 = .ok (.ifCond .eq 46, 3) := dk_153 0 46 (dk_at dksX4_tries_5 13 rfl rfl)
theorem dX4_tries_131 : decode cX4_tries 131 = .ok (.aload_n 0, 1) := dk_42 (dk_at dksX4_tries_5 16 rfl rfl)
theorem dX4_tries_132 : decode cX4_tries 132 = .ok (.getfield 15, 3) := dk_180 0 15 (dk_at dksX4_tries_5 17 rfl rfl)
theorem dX4_tries_135 : decode cX4_tries 135 = .ok (.iload_n 1, 1) := dk_27 (dk_at dksX4_tries_5 20 rfl rfl)
theorem dX4_tries_136 : decode cX4_tries 136 = .ok (.iload 5, 2) := dk_21 5 (dk_at dksX4_tries_5 21 rfl rfl)
theorem dX4_tries_138 : decode cX4_tries 138 = .ok (.iastore, 1) := dk_79 (dk_at dksX4_tries_5 23 rfl rfl)
theorem dX4_tries_139 : decode cX4_tries 139 = .ok (.aload_n 0, 1) := dk_42 (dk_at dksX4_tries_6 0 rfl rfl)
theorem dX4_tries_140 : decode cX4_tries 140 = .ok (.iload_n 1, 1) := dk_27 (dk_at dksX4_tries_6 1 rfl rfl)
theorem dX4_tries_141 : decode cX4_tries 141 = .ok (.iconst 1, 1) := dk_4 (dk_at dksX4_tries_6 2 rfl rfl)
theorem dX4_tries_142 : decode cX4_tries 142 = .ok (.iadd, 1) := dk_96 (dk_at dksX4_tries_6 3 rfl rfl)
theorem dX4_tries_143 : decode cX4_tries 143 = .ok (.iload_n 2, 1) := dk_28 (dk_at dksX4_tries_6 4 rfl rfl)
theorem dX4_tries_144 : decode cX4_tries 144 = .ok (.iconst 1, 1) := dk_4 (dk_at dksX4_tries_6 5 rfl rfl)
theorem dX4_tries_145 : decode cX4_tries 145 = .ok (.iload 5, 2) := dk_21 5 (dk_at dksX4_tries_6 6 rfl rfl)
theorem dX4_tries_147 : decode cX4_tries 147 = .ok (.ishl, 1) := dk_120 (dk_at dksX4_tries_6 8 rfl rfl)
theorem dX4_tries_148 : decode cX4_tries 148 = .ok (.ior, 1) := dk_128 (dk_at dksX4_tries_6 9 rfl rfl)
theorem dX4_tries_149 : decode cX4_tries 149 = .ok (.iload_n 3, 1) := dk_29 (dk_at dksX4_tries_6 10 rfl rfl)
theorem dX4_tries_150 : decode cX4_tries 150 = .ok (.iconst 1, 1) := dk_4 (dk_at dksX4_tries_6 11 rfl rfl)
theorem dX4_tries_151 : decode cX4_tries 151 = .ok (.iadd, 1) := dk_96 (dk_at dksX4_tries_6 12 rfl rfl)
theorem dX4_tries_152 : decode cX4_tries 152 = .ok (.iload 4, 2) := dk_21 4 (dk_at dksX4_tries_6 13 rfl rfl)
theorem dX4_tries_154 : decode cX4_tries 154 = .ok (.aload_n 0, 1) := dk_42 (dk_at dksX4_tries_6 15 rfl rfl)
theorem dX4_tries_155 : decode cX4_tries 155 = .ok (.getfield 3, 3) := dk_180 0 3 (dk_at dksX4_tries_6 16 rfl rfl)
theorem dX4_tries_158 : decode cX4_tries 158 = .ok (.getfield 36, 3) := dk_180 0 36 (dk_at dksX4_tries_6 19 rfl rfl)
theorem dX4_tries_161 : decode cX4_tries 161 = .ok (.getfield 56, 3) := dk_180 0 56 (dk_at dksX4_tries_7 0 rfl rfl)
theorem dX4_tries_164 : decode cX4_tries 164 = .ok (.iload 5, 2) := dk_21 5 (dk_at dksX4_tries_7 3 rfl rfl)
theorem dX4_tries_166 : decode cX4_tries 166 = .ok (.aaload, 1) := dk_50 (dk_at dksX4_tries_7 5 rfl rfl)
theorem dX4_tries_167 : decode cX4_tries 167 = .ok (.invokevirtual 60, 3) := dk_182 0 60 (dk_at dksX4_tries_7 6 rfl rfl)
theorem dX4_tries_170 : decode cX4_tries 170 = .ok (.iadd, 1) := dk_96 (dk_at dksX4_tries_7 9 rfl rfl)
theorem dX4_tries_171 : decode cX4_tries 171 = .ok (.invokevirtual 32, 3) := dk_182 0 32 (dk_at dksX4_tries_7 10 rfl rfl)
theorem dX4_tries_174 : decode cX4_tries 174 = .ok (.iinc 5 1, 3) := dk_132 5 1 (dk_at dksX4_tries_7 13 rfl rfl)
theorem dX4_tries_177 : decode cX4_tries 177 = .ok (.goto (-90), 3) := dk_167 255 166 (dk_at dksX4_tries_7 16 rfl rfl)
theorem dX4_tries_180 : decode cX4_tries 180 = .ok (.return_, 1) := dk_177 (dk_at dksX4_tries_7 19 rfl rfl)
theorem q65 : (Jvm.Cond.initialized "RentedViews$Best") ∈ lw_all := lw_g (lw_at lw_m1 5 rfl) rfl
theorem q138 : (Jvm.Cond.fieldLinkNest "RentedViews$Best" (56 : Nat) "RentedViews$Shop" "views" "[LRentedViews$View;" "RentedViews") ∈ lw_tbl := lw_at lw_m1 78 rfl
theorem q144 : (Jvm.Cond.fieldLinkNest "RentedViews$Best" (51 : Nat) "RentedViews$Shop" "many" "I" "RentedViews") ∈ lw_tbl := lw_at lw_m1 84 rfl
theorem q152 : (Jvm.Cond.fieldLinkNest "RentedViews$Best" (40 : Nat) "RentedViews$Shop" "renters" "I" "RentedViews") ∈ lw_tbl := lw_at lw_m1 92 rfl
theorem q216 : (Jvm.Cond.instantiable "RentedViews$Best" (6 : Nat)) ∈ lw_all := lw_g (lw_at lw_m1 156 rfl) rfl
theorem q218 : (Jvm.Cond.instanceMethod ({ cls := "RentedViews$Best", name := "<init>", desc := "(LRentedViews;)V" } : Jvm.MethodName)) ∈ lw_all := lw_g (lw_at lw_m1 158 rfl) rfl
theorem q219 : (Jvm.Cond.code ({ cls := "RentedViews$Best", name := "<init>", desc := "(LRentedViews;)V" } : Jvm.MethodName) prog_2_method_1_code (2 : Nat) (Option.none : Option Jvm.ClassFile.FieldType)) ∈ lw_all := lw_g (lw_at lw_m1 159 rfl) rfl
theorem q220 : (Jvm.Cond.methodLink "RentedViews$Best" (9 : Nat) ({ cls := "java/lang/Object", name := "<init>", desc := "()V" } : Jvm.MethodName)) ∈ lw_all := lw_g (lw_at lw_m1 160 rfl) rfl
theorem q221 : (Jvm.Cond.fieldLink "RentedViews$Best" (15 : Nat) "RentedViews$Best" "row" "[I") ∈ lw_all := lw_g (lw_at lw_m1 161 rfl) rfl
theorem q222 : (Jvm.Cond.fieldLink "RentedViews$Best" (19 : Nat) "RentedViews$Best" "first" "[I") ∈ lw_all := lw_g (lw_at lw_m1 162 rfl) rfl
theorem q224 : (Jvm.Cond.fieldLink "RentedViews$Best" (26 : Nat) "RentedViews$Best" "many" "I") ∈ lw_all := lw_g (lw_at lw_m1 164 rfl) rfl
theorem q226 : (Jvm.Cond.fieldLink "RentedViews$Best" (29 : Nat) "RentedViews$Best" "money" "I") ∈ lw_all := lw_g (lw_at lw_m1 166 rfl) rfl
theorem q228 : (Jvm.Cond.fieldLink "RentedViews$Best" (22 : Nat) "RentedViews$Best" "evening" "I") ∈ lw_all := lw_g (lw_at lw_m1 168 rfl) rfl
theorem q229 : (Jvm.Cond.fieldLink "RentedViews$Best" (3 : Nat) "RentedViews$Best" "this$0" "LRentedViews;") ∈ lw_all := lw_g (lw_at lw_m1 169 rfl) rfl
theorem q230 : (Jvm.Cond.laysFinal "RentedViews$Best" "RentedViews$Best" "row" "[I") ∈ lw_all := lw_g (lw_at lw_m1 170 rfl) rfl
theorem q231 : (Jvm.Cond.soleField "RentedViews$Best" "row") ∈ lw_all := lw_g (lw_at lw_m1 171 rfl) rfl
theorem q232 : (Jvm.Cond.laysFinal "RentedViews$Best" "RentedViews$Best" "first" "[I") ∈ lw_all := lw_g (lw_at lw_m1 172 rfl) rfl
theorem q233 : (Jvm.Cond.soleField "RentedViews$Best" "first") ∈ lw_all := lw_g (lw_at lw_m1 173 rfl) rfl
theorem q234 : (Jvm.Cond.lays "RentedViews$Best" "RentedViews$Best" "many" "I") ∈ lw_all := lw_g (lw_at lw_m1 174 rfl) rfl
theorem q235 : (Jvm.Cond.soleField "RentedViews$Best" "many") ∈ lw_all := lw_g (lw_at lw_m1 175 rfl) rfl
theorem q236 : (Jvm.Cond.lays "RentedViews$Best" "RentedViews$Best" "money" "I") ∈ lw_all := lw_g (lw_at lw_m1 176 rfl) rfl
theorem q237 : (Jvm.Cond.soleField "RentedViews$Best" "money") ∈ lw_all := lw_g (lw_at lw_m1 177 rfl) rfl
theorem q238 : (Jvm.Cond.lays "RentedViews$Best" "RentedViews$Best" "evening" "I") ∈ lw_all := lw_g (lw_at lw_m1 178 rfl) rfl
theorem q239 : (Jvm.Cond.soleField "RentedViews$Best" "evening") ∈ lw_all := lw_g (lw_at lw_m1 179 rfl) rfl
theorem q240 : (Jvm.Cond.laysFinal "RentedViews$Best" "RentedViews$Best" "this$0" "LRentedViews;") ∈ lw_all := lw_g (lw_at lw_m1 180 rfl) rfl
theorem q241 : (Jvm.Cond.soleField "RentedViews$Best" "this$0") ∈ lw_all := lw_g (lw_at lw_m1 181 rfl) rfl
theorem q242 : (Jvm.Cond.superclass "RentedViews$Best" "java/lang/Object") ∈ lw_all := lw_g (lw_at lw_m1 182 rfl) rfl
theorem q247 : (Jvm.Cond.fieldLinkNest "RentedViews$Best" (36 : Nat) "RentedViews" "shop" "LRentedViews$Shop;" "RentedViews") ∈ lw_tbl := lw_at lw_m1 187 rfl
theorem q756 : (Jvm.Cond.instanceMethod ({ cls := "RentedViews$Best", name := "goes", desc := "(I)V" } : Jvm.MethodName)) ∈ lw_all := lw_g (lw_at lw_m3 216 rfl) rfl
theorem q757 : (Jvm.Cond.selects "RentedViews$Best" ({ cls := "RentedViews$Best", name := "goes", desc := "(I)V" } : Jvm.MethodName) ({ cls := "RentedViews$Best", name := "goes", desc := "(I)V" } : Jvm.MethodName)) ∈ lw_all := lw_g (lw_at lw_m3 217 rfl) rfl
theorem q758 : (Jvm.Cond.code ({ cls := "RentedViews$Best", name := "goes", desc := "(I)V" } : Jvm.MethodName) prog_2_method_2_code (2 : Nat) (Option.none : Option Jvm.ClassFile.FieldType)) ∈ lw_all := lw_g (lw_at lw_m3 218 rfl) rfl
theorem q759 : (Jvm.Cond.methodLink "RentedViews$Best" (32 : Nat) ({ cls := "RentedViews$Best", name := "tries", desc := "(IIII)V" } : Jvm.MethodName)) ∈ lw_all := lw_g (lw_at lw_m3 219 rfl) rfl
theorem q760 : (Jvm.Cond.privateMethod ({ cls := "RentedViews$Best", name := "tries", desc := "(IIII)V" } : Jvm.MethodName)) ∈ lw_tbl := lw_at lw_m3 220 rfl
theorem q761 : (Jvm.Cond.instanceMethod ({ cls := "RentedViews$Best", name := "tries", desc := "(IIII)V" } : Jvm.MethodName)) ∈ lw_all := lw_g (lw_at lw_m3 221 rfl) rfl
theorem q762 : (Jvm.Cond.code ({ cls := "RentedViews$Best", name := "tries", desc := "(IIII)V" } : Jvm.MethodName) prog_2_method_3_code (6 : Nat) (Option.none : Option Jvm.ClassFile.FieldType)) ∈ lw_all := lw_g (lw_at lw_m3 222 rfl) rfl
theorem q763 : (Jvm.Cond.methodLink "RentedViews$Best" (45 : Nat) ({ cls := "java/lang/System", name := "arraycopy", desc := "(Ljava/lang/Object;ILjava/lang/Object;II)V" } : Jvm.MethodName)) ∈ lw_all := lw_g (lw_at lw_m3 223 rfl) rfl
theorem q764 : (Jvm.Cond.methodLink "RentedViews$Best" (52 : Nat) ({ cls := "RentedViews$Shop", name := "suits", desc := "(III)Z" } : Jvm.MethodName)) ∈ lw_all := lw_g (lw_at lw_m3 224 rfl) rfl
theorem q765 : (Jvm.Cond.methodLink "RentedViews$Best" (60 : Nat) ({ cls := "RentedViews$View", name := "lets", desc := "()I" } : Jvm.MethodName)) ∈ lw_all := lw_g (lw_at lw_m3 225 rfl) rfl
theorem in_X4 : ∀ w ∈ wsX40, w ∈ lw_all := lw_in wsX40 [230, 232, 234, 236, 238, 240] (by decide +kernel) (by decide +kernel)
