/-! RentedViews$View -/
set_option maxRecDepth 100000
def RX6 : String := "RentedViews$View"
def TX6 : u_T := fun k => match k with
  | 0 => ("RentedViews$View", "size", "I", true)
  | 1 => ("RentedViews$View", "price", "I", true)
  | _ => ("RentedViews$View", "weather", "I", true)
def tyX6 : Nat → FieldType := fun k => match k with
  | 0 => .int
  | 1 => .int
  | _ => .int
abbrev wsX60 : List Cond := u_ws RX6 TX6 3
theorem nmX6 : ∀ a, a < 3 → ∀ b, b < 3 → a ≠ b → (TX6 a).2.1 ≠ (TX6 b).2.1 := by decide +kernel
theorem tyX6_ok : ∀ k, k < 3 → parseFieldDescriptor (TX6 k).2.2.1 = some (tyX6 k) := by decide +kernel
abbrev cX6_init : ByteArray := prog_12_method_1_code
def yX6_init : MethodName := ⟨RX6, "<init>", "(III)V"⟩
def dkwX6_init_0 : List UInt8 := [42, 183, 0, 3, 42, 27, 181, 0, 9, 42, 28, 181, 0, 15, 42, 29, 181, 0, 18, 177]
abbrev dktX6_init_0 : List UInt8 := dkwX6_init_0 ++ []
theorem dksX6_init_0 : cX6_init.data.toList.drop 0 = dktX6_init_0 := by decide +kernel
theorem dX6_init_0 : decode cX6_init 0 = .ok (.aload_n 0, 1) := dk_42 (dk_at dksX6_init_0 0 rfl rfl)
theorem dX6_init_1 : decode cX6_init 1 = .ok (.invokespecial 3, 3) := dk_183 0 3 (dk_at dksX6_init_0 1 rfl rfl)
theorem dX6_init_4 : decode cX6_init 4 = .ok (.aload_n 0, 1) := dk_42 (dk_at dksX6_init_0 4 rfl rfl)
theorem dX6_init_5 : decode cX6_init 5 = .ok (.iload_n 1, 1) := dk_27 (dk_at dksX6_init_0 5 rfl rfl)
theorem dX6_init_6 : decode cX6_init 6 = .ok (.putfield 9, 3) := dk_181 0 9 (dk_at dksX6_init_0 6 rfl rfl)
theorem dX6_init_9 : decode cX6_init 9 = .ok (.aload_n 0, 1) := dk_42 (dk_at dksX6_init_0 9 rfl rfl)
theorem dX6_init_10 : decode cX6_init 10 = .ok (.iload_n 2, 1) := dk_28 (dk_at dksX6_init_0 10 rfl rfl)
theorem dX6_init_11 : decode cX6_init 11 = .ok (.putfield 15, 3) := dk_181 0 15 (dk_at dksX6_init_0 11 rfl rfl)
theorem dX6_init_14 : decode cX6_init 14 = .ok (.aload_n 0, 1) := dk_42 (dk_at dksX6_init_0 14 rfl rfl)
theorem dX6_init_15 : decode cX6_init 15 = .ok (.iload_n 3, 1) := dk_29 (dk_at dksX6_init_0 15 rfl rfl)
theorem dX6_init_16 : decode cX6_init 16 = .ok (.putfield 18, 3) := dk_181 0 18 (dk_at dksX6_init_0 16 rfl rfl)
theorem dX6_init_19 : decode cX6_init 19 = .ok (.return_, 1) := dk_177 (dk_at dksX6_init_0 19 rfl rfl)
abbrev cX6_fits : ByteArray := prog_12_method_6_code
def yX6_fits : MethodName := ⟨RX6, "fits", "(I)Z"⟩
def dkwX6_fits_0 : List UInt8 := [42, 180, 0, 9, 27, 163, 0, 7, 4, 167, 0, 4, 3, 172]
abbrev dktX6_fits_0 : List UInt8 := dkwX6_fits_0 ++ []
theorem dksX6_fits_0 : cX6_fits.data.toList.drop 0 = dktX6_fits_0 := by decide +kernel
theorem dX6_fits_0 : decode cX6_fits 0 = .ok (.aload_n 0, 1) := dk_42 (dk_at dksX6_fits_0 0 rfl rfl)
theorem dX6_fits_1 : decode cX6_fits 1 = .ok (.getfield 9, 3) := dk_180 0 9 (dk_at dksX6_fits_0 1 rfl rfl)
theorem dX6_fits_4 : decode cX6_fits 4 = .ok (.iload_n 1, 1) := dk_27 (dk_at dksX6_fits_0 4 rfl rfl)
theorem dX6_fits_5 : decode cX6_fits 5 = .ok (.if_icmp .gt 7, 3) := dk_163 0 7 (dk_at dksX6_fits_0 5 rfl rfl)
theorem dX6_fits_8 : decode cX6_fits 8 = .ok (.iconst 1, 1) := dk_4 (dk_at dksX6_fits_0 8 rfl rfl)
theorem dX6_fits_9 : decode cX6_fits 9 = .ok (.goto 4, 3) := dk_167 0 4 (dk_at dksX6_fits_0 9 rfl rfl)
theorem dX6_fits_12 : decode cX6_fits 12 = .ok (.iconst 0, 1) := dk_3 (dk_at dksX6_fits_0 12 rfl rfl)
theorem dX6_fits_13 : decode cX6_fits 13 = .ok (.ireturn, 1) := dk_172 (dk_at dksX6_fits_0 13 rfl rfl)
abbrev cX6_lets : ByteArray := prog_12_method_5_code
def yX6_lets : MethodName := ⟨RX6, "lets", "()I"⟩
theorem dX6_lets_0 : decode cX6_lets 0 = .ok (.aload_n 0, 1) := by decide +kernel
theorem dX6_lets_1 : decode cX6_lets 1 = .ok (.getfield 15, 3) := by decide +kernel
theorem dX6_lets_4 : decode cX6_lets 4 = .ok (.ireturn, 1) := by decide +kernel
abbrev cX6_kind : ByteArray := prog_12_method_2_code
def yX6_kind : MethodName := ⟨RX6, "kind", "()I"⟩
theorem dX6_kind_0 : decode cX6_kind 0 = .ok (.iconst 0, 1) := by decide +kernel
theorem dX6_kind_1 : decode cX6_kind 1 = .ok (.ireturn, 1) := by decide +kernel
abbrev cX6_first : ByteArray := prog_12_method_4_code
def yX6_first : MethodName := ⟨RX6, "first", "()I"⟩
theorem dX6_first_0 : decode cX6_first 0 = .ok (.aload_n 0, 1) := by decide +kernel
theorem dX6_first_1 : decode cX6_first 1 = .ok (.getfield 18, 3) := by decide +kernel
theorem dX6_first_4 : decode cX6_first 4 = .ok (.ireturn, 1) := by decide +kernel
abbrev cX6_shows : ByteArray := prog_12_method_3_code
def yX6_shows : MethodName := ⟨RX6, "shows", "(I)I"⟩
def dkwX6_shows_0 : List UInt8 := [42, 180, 0, 18, 27, 96, 16, 6, 112, 172]
abbrev dktX6_shows_0 : List UInt8 := dkwX6_shows_0 ++ []
theorem dksX6_shows_0 : cX6_shows.data.toList.drop 0 = dktX6_shows_0 := by decide +kernel
theorem dX6_shows_0 : decode cX6_shows 0 = .ok (.aload_n 0, 1) := dk_42 (dk_at dksX6_shows_0 0 rfl rfl)
theorem dX6_shows_1 : decode cX6_shows 1 = .ok (.getfield 18, 3) := dk_180 0 18 (dk_at dksX6_shows_0 1 rfl rfl)
theorem dX6_shows_4 : decode cX6_shows 4 = .ok (.iload_n 1, 1) := dk_27 (dk_at dksX6_shows_0 4 rfl rfl)
theorem dX6_shows_5 : decode cX6_shows 5 = .ok (.iadd, 1) := dk_96 (dk_at dksX6_shows_0 5 rfl rfl)
theorem dX6_shows_6 : decode cX6_shows 6 = .ok (.bipush 6, 2) := dk_16 6 (dk_at dksX6_shows_0 6 rfl rfl)
theorem dX6_shows_8 : decode cX6_shows 8 = .ok (.irem, 1) := dk_112 (dk_at dksX6_shows_0 8 rfl rfl)
theorem dX6_shows_9 : decode cX6_shows 9 = .ok (.ireturn, 1) := dk_172 (dk_at dksX6_shows_0 9 rfl rfl)
theorem q67 : (Jvm.Cond.initialized "RentedViews$View") ∈ lw_all := lw_g (lw_at lw_m1 7 rfl) rfl
theorem q333 : (Jvm.Cond.instanceMethod ({ cls := "RentedViews$View", name := "<init>", desc := "(III)V" } : Jvm.MethodName)) ∈ lw_all := lw_g (lw_at lw_m2 33 rfl) rfl
theorem q334 : (Jvm.Cond.code ({ cls := "RentedViews$View", name := "<init>", desc := "(III)V" } : Jvm.MethodName) prog_12_method_1_code (4 : Nat) (Option.none : Option Jvm.ClassFile.FieldType)) ∈ lw_all := lw_g (lw_at lw_m2 34 rfl) rfl
theorem q335 : (Jvm.Cond.methodLink "RentedViews$View" (3 : Nat) ({ cls := "java/lang/Object", name := "<init>", desc := "()V" } : Jvm.MethodName)) ∈ lw_all := lw_g (lw_at lw_m2 35 rfl) rfl
theorem q336 : (Jvm.Cond.fieldLink "RentedViews$View" (9 : Nat) "RentedViews$View" "size" "I") ∈ lw_all := lw_g (lw_at lw_m2 36 rfl) rfl
theorem q338 : (Jvm.Cond.fieldLink "RentedViews$View" (15 : Nat) "RentedViews$View" "price" "I") ∈ lw_all := lw_g (lw_at lw_m2 38 rfl) rfl
theorem q340 : (Jvm.Cond.fieldLink "RentedViews$View" (18 : Nat) "RentedViews$View" "weather" "I") ∈ lw_all := lw_g (lw_at lw_m2 40 rfl) rfl
theorem q343 : (Jvm.Cond.soleField "RentedViews$View" "size") ∈ lw_all := lw_g (lw_at lw_m2 43 rfl) rfl
theorem q345 : (Jvm.Cond.soleField "RentedViews$View" "price") ∈ lw_all := lw_g (lw_at lw_m2 45 rfl) rfl
theorem q347 : (Jvm.Cond.soleField "RentedViews$View" "weather") ∈ lw_all := lw_g (lw_at lw_m2 47 rfl) rfl
theorem q390 : (Jvm.Cond.instantiable "RentedViews$View" (3 : Nat)) ∈ lw_all := lw_g (lw_at lw_m2 90 rfl) rfl
theorem q392 : (Jvm.Cond.laysFinal "RentedViews$View" "RentedViews$View" "size" "I") ∈ lw_all := lw_g (lw_at lw_m2 92 rfl) rfl
theorem q393 : (Jvm.Cond.laysFinal "RentedViews$View" "RentedViews$View" "price" "I") ∈ lw_all := lw_g (lw_at lw_m2 93 rfl) rfl
theorem q394 : (Jvm.Cond.laysFinal "RentedViews$View" "RentedViews$View" "weather" "I") ∈ lw_all := lw_g (lw_at lw_m2 94 rfl) rfl
theorem q395 : (Jvm.Cond.superclass "RentedViews$View" "java/lang/Object") ∈ lw_all := lw_g (lw_at lw_m2 95 rfl) rfl
theorem q613 : (Jvm.Cond.instanceMethod ({ cls := "RentedViews$View", name := "fits", desc := "(I)Z" } : Jvm.MethodName)) ∈ lw_all := lw_g (lw_at lw_m3 73 rfl) rfl
theorem q614 : (Jvm.Cond.selects "RentedViews$View" ({ cls := "RentedViews$View", name := "fits", desc := "(I)Z" } : Jvm.MethodName) ({ cls := "RentedViews$View", name := "fits", desc := "(I)Z" } : Jvm.MethodName)) ∈ lw_all := lw_g (lw_at lw_m3 74 rfl) rfl
theorem q615 : (Jvm.Cond.sameMethod "RentedViews$View" "RentedViews$View" "fits" "(I)Z") ∈ lw_all := lw_g (lw_at lw_m3 75 rfl) rfl
theorem q623 : (Jvm.Cond.code ({ cls := "RentedViews$View", name := "fits", desc := "(I)Z" } : Jvm.MethodName) prog_12_method_6_code (2 : Nat) (Option.some Jvm.ClassFile.FieldType.boolean)) ∈ lw_all := lw_g (lw_at lw_m3 83 rfl) rfl
theorem q625 : (Jvm.Cond.instanceMethod ({ cls := "RentedViews$View", name := "lets", desc := "()I" } : Jvm.MethodName)) ∈ lw_all := lw_g (lw_at lw_m3 85 rfl) rfl
theorem q626 : (Jvm.Cond.selects "RentedViews$View" ({ cls := "RentedViews$View", name := "lets", desc := "()I" } : Jvm.MethodName) ({ cls := "RentedViews$View", name := "lets", desc := "()I" } : Jvm.MethodName)) ∈ lw_all := lw_g (lw_at lw_m3 86 rfl) rfl
theorem q627 : (Jvm.Cond.sameMethod "RentedViews$View" "RentedViews$View" "lets" "()I") ∈ lw_all := lw_g (lw_at lw_m3 87 rfl) rfl
theorem q644 : (Jvm.Cond.declares ({ cls := "RentedViews$View", name := "lets", desc := "()I" } : Jvm.MethodName)) ∈ lw_tbl := lw_at lw_m3 104 rfl
theorem q647 : (Jvm.Cond.code ({ cls := "RentedViews$View", name := "lets", desc := "()I" } : Jvm.MethodName) prog_12_method_5_code (1 : Nat) (Option.some Jvm.ClassFile.FieldType.int)) ∈ lw_all := lw_g (lw_at lw_m3 107 rfl) rfl
theorem q681 : (Jvm.Cond.instanceMethod ({ cls := "RentedViews$View", name := "kind", desc := "()I" } : Jvm.MethodName)) ∈ lw_all := lw_g (lw_at lw_m3 141 rfl) rfl
theorem q682 : (Jvm.Cond.selects "RentedViews$View" ({ cls := "RentedViews$View", name := "kind", desc := "()I" } : Jvm.MethodName) ({ cls := "RentedViews$View", name := "kind", desc := "()I" } : Jvm.MethodName)) ∈ lw_all := lw_g (lw_at lw_m3 142 rfl) rfl
theorem q683 : (Jvm.Cond.sameMethod "RentedViews$View" "RentedViews$View" "kind" "()I") ∈ lw_all := lw_g (lw_at lw_m3 143 rfl) rfl
theorem q699 : (Jvm.Cond.code ({ cls := "RentedViews$View", name := "kind", desc := "()I" } : Jvm.MethodName) prog_12_method_2_code (1 : Nat) (Option.some Jvm.ClassFile.FieldType.int)) ∈ lw_all := lw_g (lw_at lw_m3 159 rfl) rfl
theorem q701 : (Jvm.Cond.instanceMethod ({ cls := "RentedViews$View", name := "shows", desc := "(I)I" } : Jvm.MethodName)) ∈ lw_all := lw_g (lw_at lw_m3 161 rfl) rfl
theorem q702 : (Jvm.Cond.selects "RentedViews$View" ({ cls := "RentedViews$View", name := "shows", desc := "(I)I" } : Jvm.MethodName) ({ cls := "RentedViews$View", name := "shows", desc := "(I)I" } : Jvm.MethodName)) ∈ lw_all := lw_g (lw_at lw_m3 162 rfl) rfl
theorem q703 : (Jvm.Cond.sameMethod "RentedViews$View" "RentedViews$View" "shows" "(I)I") ∈ lw_all := lw_g (lw_at lw_m3 163 rfl) rfl
theorem q717 : (Jvm.Cond.declares ({ cls := "RentedViews$View", name := "first", desc := "()I" } : Jvm.MethodName)) ∈ lw_tbl := lw_at lw_m3 177 rfl
theorem q720 : (Jvm.Cond.instanceMethod ({ cls := "RentedViews$View", name := "first", desc := "()I" } : Jvm.MethodName)) ∈ lw_all := lw_g (lw_at lw_m3 180 rfl) rfl
theorem q721 : (Jvm.Cond.code ({ cls := "RentedViews$View", name := "first", desc := "()I" } : Jvm.MethodName) prog_12_method_4_code (1 : Nat) (Option.some Jvm.ClassFile.FieldType.int)) ∈ lw_all := lw_g (lw_at lw_m3 181 rfl) rfl
theorem q727 : (Jvm.Cond.code ({ cls := "RentedViews$View", name := "shows", desc := "(I)I" } : Jvm.MethodName) prog_12_method_3_code (2 : Nat) (Option.some Jvm.ClassFile.FieldType.int)) ∈ lw_all := lw_g (lw_at lw_m3 187 rfl) rfl
theorem in_X6 : ∀ w ∈ wsX60, w ∈ lw_all := lw_in wsX60 [392, 393, 394] (by decide +kernel) (by decide +kernel)
/-! RentedViews$Street -/
set_option maxRecDepth 100000
def RX7 : String := "RentedViews$Street"
def TX7 : u_T := fun k => match k with
  | 0 => ("RentedViews$View", "size", "I", true)
  | 1 => ("RentedViews$View", "price", "I", true)
  | _ => ("RentedViews$View", "weather", "I", true)
def tyX7 : Nat → FieldType := fun k => match k with
  | 0 => .int
  | 1 => .int
  | _ => .int
abbrev wsX70 : List Cond := u_ws RX7 TX7 3
theorem nmX7 : ∀ a, a < 3 → ∀ b, b < 3 → a ≠ b → (TX7 a).2.1 ≠ (TX7 b).2.1 := by decide +kernel
theorem tyX7_ok : ∀ k, k < 3 → parseFieldDescriptor (TX7 k).2.2.1 = some (tyX7 k) := by decide +kernel
abbrev cX7_init : ByteArray := prog_11_method_1_code
def yX7_init : MethodName := ⟨RX7, "<init>", "(III)V"⟩
def dkwX7_init_0 : List UInt8 := [42, 27, 28, 29, 183, 0, 1, 177]
abbrev dktX7_init_0 : List UInt8 := dkwX7_init_0 ++ []
theorem dksX7_init_0 : cX7_init.data.toList.drop 0 = dktX7_init_0 := by decide +kernel
theorem dX7_init_0 : decode cX7_init 0 = .ok (.aload_n 0, 1) := dk_42 (dk_at dksX7_init_0 0 rfl rfl)
theorem dX7_init_1 : decode cX7_init 1 = .ok (.iload_n 1, 1) := dk_27 (dk_at dksX7_init_0 1 rfl rfl)
theorem dX7_init_2 : decode cX7_init 2 = .ok (.iload_n 2, 1) := dk_28 (dk_at dksX7_init_0 2 rfl rfl)
theorem dX7_init_3 : decode cX7_init 3 = .ok (.iload_n 3, 1) := dk_29 (dk_at dksX7_init_0 3 rfl rfl)
theorem dX7_init_4 : decode cX7_init 4 = .ok (.invokespecial 1, 3) := dk_183 0 1 (dk_at dksX7_init_0 4 rfl rfl)
theorem dX7_init_7 : decode cX7_init 7 = .ok (.return_, 1) := dk_177 (dk_at dksX7_init_0 7 rfl rfl)
abbrev cX7_kind : ByteArray := prog_11_method_2_code
def yX7_kind : MethodName := ⟨RX7, "kind", "()I"⟩
theorem dX7_kind_0 : decode cX7_kind 0 = .ok (.iconst 1, 1) := by decide +kernel
theorem dX7_kind_1 : decode cX7_kind 1 = .ok (.ireturn, 1) := by decide +kernel
abbrev cX7_shows : ByteArray := prog_11_method_3_code
def yX7_shows : MethodName := ⟨RX7, "shows", "(I)I"⟩
def dkwX7_shows_0 : List UInt8 := [42, 5, 27, 104, 183, 0, 7, 172]
abbrev dktX7_shows_0 : List UInt8 := dkwX7_shows_0 ++ []
theorem dksX7_shows_0 : cX7_shows.data.toList.drop 0 = dktX7_shows_0 := by decide +kernel
theorem dX7_shows_0 : decode cX7_shows 0 = .ok (.aload_n 0, 1) := dk_42 (dk_at dksX7_shows_0 0 rfl rfl)
theorem dX7_shows_1 : decode cX7_shows 1 = .ok (.iconst 2, 1) := dk_5 (dk_at dksX7_shows_0 1 rfl rfl)
theorem dX7_shows_2 : decode cX7_shows 2 = .ok (.iload_n 1, 1) := dk_27 (dk_at dksX7_shows_0 2 rfl rfl)
theorem dX7_shows_3 : decode cX7_shows 3 = .ok (.imul, 1) := dk_104 (dk_at dksX7_shows_0 3 rfl rfl)
theorem dX7_shows_4 : decode cX7_shows 4 = .ok (.invokespecial 7, 3) := dk_183 0 7 (dk_at dksX7_shows_0 4 rfl rfl)
theorem dX7_shows_7 : decode cX7_shows 7 = .ok (.ireturn, 1) := dk_172 (dk_at dksX7_shows_0 7 rfl rfl)
theorem q68 : (Jvm.Cond.initialized "RentedViews$Street") ∈ lw_all := lw_g (lw_at lw_m1 8 rfl) rfl
theorem q328 : (Jvm.Cond.instantiable "RentedViews$Street" (3 : Nat)) ∈ lw_all := lw_g (lw_at lw_m2 28 rfl) rfl
theorem q330 : (Jvm.Cond.instanceMethod ({ cls := "RentedViews$Street", name := "<init>", desc := "(III)V" } : Jvm.MethodName)) ∈ lw_all := lw_g (lw_at lw_m2 30 rfl) rfl
theorem q331 : (Jvm.Cond.code ({ cls := "RentedViews$Street", name := "<init>", desc := "(III)V" } : Jvm.MethodName) prog_11_method_1_code (4 : Nat) (Option.none : Option Jvm.ClassFile.FieldType)) ∈ lw_all := lw_g (lw_at lw_m2 31 rfl) rfl
theorem q332 : (Jvm.Cond.methodLink "RentedViews$Street" (1 : Nat) ({ cls := "RentedViews$View", name := "<init>", desc := "(III)V" } : Jvm.MethodName)) ∈ lw_all := lw_g (lw_at lw_m2 32 rfl) rfl
theorem q342 : (Jvm.Cond.laysFinal "RentedViews$Street" "RentedViews$View" "size" "I") ∈ lw_all := lw_g (lw_at lw_m2 42 rfl) rfl
theorem q344 : (Jvm.Cond.laysFinal "RentedViews$Street" "RentedViews$View" "price" "I") ∈ lw_all := lw_g (lw_at lw_m2 44 rfl) rfl
theorem q346 : (Jvm.Cond.laysFinal "RentedViews$Street" "RentedViews$View" "weather" "I") ∈ lw_all := lw_g (lw_at lw_m2 46 rfl) rfl
theorem q348 : (Jvm.Cond.superclass "RentedViews$Street" "RentedViews$View") ∈ lw_all := lw_g (lw_at lw_m2 48 rfl) rfl
theorem q622 : (Jvm.Cond.selects "RentedViews$Street" ({ cls := "RentedViews$View", name := "fits", desc := "(I)Z" } : Jvm.MethodName) ({ cls := "RentedViews$View", name := "fits", desc := "(I)Z" } : Jvm.MethodName)) ∈ lw_all := lw_g (lw_at lw_m3 82 rfl) rfl
theorem q643 : (Jvm.Cond.sameMethod "RentedViews$Street" "RentedViews$View" "lets" "()I") ∈ lw_all := lw_g (lw_at lw_m3 103 rfl) rfl
theorem q646 : (Jvm.Cond.selects "RentedViews$Street" ({ cls := "RentedViews$View", name := "lets", desc := "()I" } : Jvm.MethodName) ({ cls := "RentedViews$View", name := "lets", desc := "()I" } : Jvm.MethodName)) ∈ lw_all := lw_g (lw_at lw_m3 106 rfl) rfl
theorem q696 : (Jvm.Cond.selects "RentedViews$Street" ({ cls := "RentedViews$View", name := "kind", desc := "()I" } : Jvm.MethodName) ({ cls := "RentedViews$Street", name := "kind", desc := "()I" } : Jvm.MethodName)) ∈ lw_all := lw_g (lw_at lw_m3 156 rfl) rfl
theorem q697 : (Jvm.Cond.instanceMethod ({ cls := "RentedViews$Street", name := "kind", desc := "()I" } : Jvm.MethodName)) ∈ lw_all := lw_g (lw_at lw_m3 157 rfl) rfl
theorem q698 : (Jvm.Cond.code ({ cls := "RentedViews$Street", name := "kind", desc := "()I" } : Jvm.MethodName) prog_11_method_2_code (1 : Nat) (Option.some Jvm.ClassFile.FieldType.int)) ∈ lw_all := lw_g (lw_at lw_m3 158 rfl) rfl
theorem q723 : (Jvm.Cond.selects "RentedViews$Street" ({ cls := "RentedViews$View", name := "shows", desc := "(I)I" } : Jvm.MethodName) ({ cls := "RentedViews$Street", name := "shows", desc := "(I)I" } : Jvm.MethodName)) ∈ lw_all := lw_g (lw_at lw_m3 183 rfl) rfl
theorem q724 : (Jvm.Cond.instanceMethod ({ cls := "RentedViews$Street", name := "shows", desc := "(I)I" } : Jvm.MethodName)) ∈ lw_all := lw_g (lw_at lw_m3 184 rfl) rfl
theorem q725 : (Jvm.Cond.code ({ cls := "RentedViews$Street", name := "shows", desc := "(I)I" } : Jvm.MethodName) prog_11_method_3_code (2 : Nat) (Option.some Jvm.ClassFile.FieldType.int)) ∈ lw_all := lw_g (lw_at lw_m3 185 rfl) rfl
theorem q726 : (Jvm.Cond.methodLink "RentedViews$Street" (7 : Nat) ({ cls := "RentedViews$View", name := "shows", desc := "(I)I" } : Jvm.MethodName)) ∈ lw_all := lw_g (lw_at lw_m3 186 rfl) rfl
theorem q1336 : (Jvm.Cond.castable "RentedViews$Street" "RentedViews$View") ∈ lw_tbl := lw_at lw_m6 76 rfl
theorem in_X7 : ∀ w ∈ wsX70, w ∈ lw_all := lw_in wsX70 [342, 344, 346] (by decide +kernel) (by decide +kernel)
/-! RentedViews$Fire -/
set_option maxRecDepth 100000
def RX8 : String := "RentedViews$Fire"
def TX8 : u_T := fun k => match k with
  | 0 => ("RentedViews$View", "size", "I", true)
  | 1 => ("RentedViews$View", "price", "I", true)
  | _ => ("RentedViews$View", "weather", "I", true)
def tyX8 : Nat → FieldType := fun k => match k with
  | 0 => .int
  | 1 => .int
  | _ => .int
abbrev wsX80 : List Cond := u_ws RX8 TX8 3
theorem nmX8 : ∀ a, a < 3 → ∀ b, b < 3 → a ≠ b → (TX8 a).2.1 ≠ (TX8 b).2.1 := by decide +kernel
theorem tyX8_ok : ∀ k, k < 3 → parseFieldDescriptor (TX8 k).2.2.1 = some (tyX8 k) := by decide +kernel
abbrev cX8_init : ByteArray := prog_5_method_1_code
def yX8_init : MethodName := ⟨RX8, "<init>", "(III)V"⟩
def dkwX8_init_0 : List UInt8 := [42, 27, 28, 29, 183, 0, 1, 177]
abbrev dktX8_init_0 : List UInt8 := dkwX8_init_0 ++ []
theorem dksX8_init_0 : cX8_init.data.toList.drop 0 = dktX8_init_0 := by decide +kernel
theorem dX8_init_0 : decode cX8_init 0 = .ok (.aload_n 0, 1) := dk_42 (dk_at dksX8_init_0 0 rfl rfl)
theorem dX8_init_1 : decode cX8_init 1 = .ok (.iload_n 1, 1) := dk_27 (dk_at dksX8_init_0 1 rfl rfl)
theorem dX8_init_2 : decode cX8_init 2 = .ok (.iload_n 2, 1) := dk_28 (dk_at dksX8_init_0 2 rfl rfl)
theorem dX8_init_3 : decode cX8_init 3 = .ok (.iload_n 3, 1) := dk_29 (dk_at dksX8_init_0 3 rfl rfl)
theorem dX8_init_4 : decode cX8_init 4 = .ok (.invokespecial 1, 3) := dk_183 0 1 (dk_at dksX8_init_0 4 rfl rfl)
theorem dX8_init_7 : decode cX8_init 7 = .ok (.return_, 1) := dk_177 (dk_at dksX8_init_0 7 rfl rfl)
abbrev cX8_lets : ByteArray := prog_5_method_4_code
def yX8_lets : MethodName := ⟨RX8, "lets", "()I"⟩
def dkwX8_lets_0 : List UInt8 := [5, 42, 183, 0, 11, 104, 172]
abbrev dktX8_lets_0 : List UInt8 := dkwX8_lets_0 ++ []
theorem dksX8_lets_0 : cX8_lets.data.toList.drop 0 = dktX8_lets_0 := by decide +kernel
theorem dX8_lets_0 : decode cX8_lets 0 = .ok (.iconst 2, 1) := dk_5 (dk_at dksX8_lets_0 0 rfl rfl)
theorem dX8_lets_1 : decode cX8_lets 1 = .ok (.aload_n 0, 1) := dk_42 (dk_at dksX8_lets_0 1 rfl rfl)
theorem dX8_lets_2 : decode cX8_lets 2 = .ok (.invokespecial 11, 3) := dk_183 0 11 (dk_at dksX8_lets_0 2 rfl rfl)
theorem dX8_lets_5 : decode cX8_lets 5 = .ok (.imul, 1) := dk_104 (dk_at dksX8_lets_0 5 rfl rfl)
theorem dX8_lets_6 : decode cX8_lets 6 = .ok (.ireturn, 1) := dk_172 (dk_at dksX8_lets_0 6 rfl rfl)
abbrev cX8_kind : ByteArray := prog_5_method_2_code
def yX8_kind : MethodName := ⟨RX8, "kind", "()I"⟩
theorem dX8_kind_0 : decode cX8_kind 0 = .ok (.iconst 2, 1) := by decide +kernel
theorem dX8_kind_1 : decode cX8_kind 1 = .ok (.ireturn, 1) := by decide +kernel
abbrev cX8_shows : ByteArray := prog_5_method_3_code
def yX8_shows : MethodName := ⟨RX8, "shows", "(I)I"⟩
def dkwX8_shows_0 : List UInt8 := [42, 27, 183, 0, 7, 61, 28, 4, 160, 0, 7, 3, 167, 0, 4, 28, 172]
abbrev dktX8_shows_0 : List UInt8 := dkwX8_shows_0 ++ []
theorem dksX8_shows_0 : cX8_shows.data.toList.drop 0 = dktX8_shows_0 := by decide +kernel
theorem dX8_shows_0 : decode cX8_shows 0 = .ok (.aload_n 0, 1) := dk_42 (dk_at dksX8_shows_0 0 rfl rfl)
theorem dX8_shows_1 : decode cX8_shows 1 = .ok (.iload_n 1, 1) := dk_27 (dk_at dksX8_shows_0 1 rfl rfl)
theorem dX8_shows_2 : decode cX8_shows 2 = .ok (.invokespecial 7, 3) := dk_183 0 7 (dk_at dksX8_shows_0 2 rfl rfl)
theorem dX8_shows_5 : decode cX8_shows 5 = .ok (.istore_n 2, 1) := dk_61 (dk_at dksX8_shows_0 5 rfl rfl)
theorem dX8_shows_6 : decode cX8_shows 6 = .ok (.iload_n 2, 1) := dk_28 (dk_at dksX8_shows_0 6 rfl rfl)
theorem dX8_shows_7 : decode cX8_shows 7 = .ok (.iconst 1, 1) := dk_4 (dk_at dksX8_shows_0 7 rfl rfl)
theorem dX8_shows_8 : decode cX8_shows 8 = .ok (.if_icmp .ne 7, 3) := dk_160 0 7 (dk_at dksX8_shows_0 8 rfl rfl)
theorem dX8_shows_11 : decode cX8_shows 11 = .ok (.iconst 0, 1) := dk_3 (dk_at dksX8_shows_0 11 rfl rfl)
theorem dX8_shows_12 : decode cX8_shows 12 = .ok (.goto 4, 3) := dk_167 0 4 (dk_at dksX8_shows_0 12 rfl rfl)
theorem dX8_shows_15 : decode cX8_shows 15 = .ok (.iload_n 2, 1) := dk_28 (dk_at dksX8_shows_0 15 rfl rfl)
theorem dX8_shows_16 : decode cX8_shows 16 = .ok (.ireturn, 1) := dk_172 (dk_at dksX8_shows_0 16 rfl rfl)
theorem q69 : (Jvm.Cond.initialized "RentedViews$Fire") ∈ lw_all := lw_g (lw_at lw_m1 9 rfl) rfl
theorem q350 : (Jvm.Cond.instantiable "RentedViews$Fire" (3 : Nat)) ∈ lw_all := lw_g (lw_at lw_m2 50 rfl) rfl
theorem q352 : (Jvm.Cond.instanceMethod ({ cls := "RentedViews$Fire", name := "<init>", desc := "(III)V" } : Jvm.MethodName)) ∈ lw_all := lw_g (lw_at lw_m2 52 rfl) rfl
theorem q353 : (Jvm.Cond.code ({ cls := "RentedViews$Fire", name := "<init>", desc := "(III)V" } : Jvm.MethodName) prog_5_method_1_code (4 : Nat) (Option.none : Option Jvm.ClassFile.FieldType)) ∈ lw_all := lw_g (lw_at lw_m2 53 rfl) rfl
theorem q354 : (Jvm.Cond.methodLink "RentedViews$Fire" (1 : Nat) ({ cls := "RentedViews$View", name := "<init>", desc := "(III)V" } : Jvm.MethodName)) ∈ lw_all := lw_g (lw_at lw_m2 54 rfl) rfl
theorem q355 : (Jvm.Cond.laysFinal "RentedViews$Fire" "RentedViews$View" "size" "I") ∈ lw_all := lw_g (lw_at lw_m2 55 rfl) rfl
theorem q356 : (Jvm.Cond.laysFinal "RentedViews$Fire" "RentedViews$View" "price" "I") ∈ lw_all := lw_g (lw_at lw_m2 56 rfl) rfl
theorem q357 : (Jvm.Cond.laysFinal "RentedViews$Fire" "RentedViews$View" "weather" "I") ∈ lw_all := lw_g (lw_at lw_m2 57 rfl) rfl
theorem q358 : (Jvm.Cond.superclass "RentedViews$Fire" "RentedViews$View") ∈ lw_all := lw_g (lw_at lw_m2 58 rfl) rfl
theorem q619 : (Jvm.Cond.selects "RentedViews$Fire" ({ cls := "RentedViews$View", name := "fits", desc := "(I)Z" } : Jvm.MethodName) ({ cls := "RentedViews$View", name := "fits", desc := "(I)Z" } : Jvm.MethodName)) ∈ lw_all := lw_g (lw_at lw_m3 79 rfl) rfl
theorem q632 : (Jvm.Cond.selects "RentedViews$Fire" ({ cls := "RentedViews$View", name := "lets", desc := "()I" } : Jvm.MethodName) ({ cls := "RentedViews$Fire", name := "lets", desc := "()I" } : Jvm.MethodName)) ∈ lw_all := lw_g (lw_at lw_m3 92 rfl) rfl
theorem q633 : (Jvm.Cond.instanceMethod ({ cls := "RentedViews$Fire", name := "lets", desc := "()I" } : Jvm.MethodName)) ∈ lw_all := lw_g (lw_at lw_m3 93 rfl) rfl
theorem q634 : (Jvm.Cond.code ({ cls := "RentedViews$Fire", name := "lets", desc := "()I" } : Jvm.MethodName) prog_5_method_4_code (1 : Nat) (Option.some Jvm.ClassFile.FieldType.int)) ∈ lw_all := lw_g (lw_at lw_m3 94 rfl) rfl
theorem q635 : (Jvm.Cond.methodLink "RentedViews$Fire" (11 : Nat) ({ cls := "RentedViews$View", name := "lets", desc := "()I" } : Jvm.MethodName)) ∈ lw_all := lw_g (lw_at lw_m3 95 rfl) rfl
theorem q687 : (Jvm.Cond.selects "RentedViews$Fire" ({ cls := "RentedViews$View", name := "kind", desc := "()I" } : Jvm.MethodName) ({ cls := "RentedViews$Fire", name := "kind", desc := "()I" } : Jvm.MethodName)) ∈ lw_all := lw_g (lw_at lw_m3 147 rfl) rfl
theorem q688 : (Jvm.Cond.instanceMethod ({ cls := "RentedViews$Fire", name := "kind", desc := "()I" } : Jvm.MethodName)) ∈ lw_all := lw_g (lw_at lw_m3 148 rfl) rfl
theorem q689 : (Jvm.Cond.code ({ cls := "RentedViews$Fire", name := "kind", desc := "()I" } : Jvm.MethodName) prog_5_method_2_code (1 : Nat) (Option.some Jvm.ClassFile.FieldType.int)) ∈ lw_all := lw_g (lw_at lw_m3 149 rfl) rfl
theorem q705 : (Jvm.Cond.selects "RentedViews$Fire" ({ cls := "RentedViews$View", name := "shows", desc := "(I)I" } : Jvm.MethodName) ({ cls := "RentedViews$Fire", name := "shows", desc := "(I)I" } : Jvm.MethodName)) ∈ lw_all := lw_g (lw_at lw_m3 165 rfl) rfl
theorem q706 : (Jvm.Cond.instanceMethod ({ cls := "RentedViews$Fire", name := "shows", desc := "(I)I" } : Jvm.MethodName)) ∈ lw_all := lw_g (lw_at lw_m3 166 rfl) rfl
theorem q707 : (Jvm.Cond.code ({ cls := "RentedViews$Fire", name := "shows", desc := "(I)I" } : Jvm.MethodName) prog_5_method_3_code (3 : Nat) (Option.some Jvm.ClassFile.FieldType.int)) ∈ lw_all := lw_g (lw_at lw_m3 167 rfl) rfl
theorem q708 : (Jvm.Cond.methodLink "RentedViews$Fire" (7 : Nat) ({ cls := "RentedViews$View", name := "shows", desc := "(I)I" } : Jvm.MethodName)) ∈ lw_all := lw_g (lw_at lw_m3 168 rfl) rfl
theorem q1337 : (Jvm.Cond.castable "RentedViews$Fire" "RentedViews$View") ∈ lw_tbl := lw_at lw_m6 77 rfl
theorem in_X8 : ∀ w ∈ wsX80, w ∈ lw_all := lw_in wsX80 [355, 356, 357] (by decide +kernel) (by decide +kernel)
/-! RentedViews$Kitchen -/
set_option maxRecDepth 100000
def RX9 : String := "RentedViews$Kitchen"
def TX9 : u_T := fun k => match k with
  | 0 => ("RentedViews$View", "size", "I", true)
  | 1 => ("RentedViews$View", "price", "I", true)
  | _ => ("RentedViews$View", "weather", "I", true)
def tyX9 : Nat → FieldType := fun k => match k with
  | 0 => .int
  | 1 => .int
  | _ => .int
abbrev wsX90 : List Cond := u_ws RX9 TX9 3
theorem nmX9 : ∀ a, a < 3 → ∀ b, b < 3 → a ≠ b → (TX9 a).2.1 ≠ (TX9 b).2.1 := by decide +kernel
theorem tyX9_ok : ∀ k, k < 3 → parseFieldDescriptor (TX9 k).2.2.1 = some (tyX9 k) := by decide +kernel
abbrev cX9_init : ByteArray := prog_7_method_1_code
def yX9_init : MethodName := ⟨RX9, "<init>", "(III)V"⟩
def dkwX9_init_0 : List UInt8 := [42, 27, 28, 29, 183, 0, 1, 177]
abbrev dktX9_init_0 : List UInt8 := dkwX9_init_0 ++ []
theorem dksX9_init_0 : cX9_init.data.toList.drop 0 = dktX9_init_0 := by decide +kernel
theorem dX9_init_0 : decode cX9_init 0 = .ok (.aload_n 0, 1) := dk_42 (dk_at dksX9_init_0 0 rfl rfl)
theorem dX9_init_1 : decode cX9_init 1 = .ok (.iload_n 1, 1) := dk_27 (dk_at dksX9_init_0 1 rfl rfl)
theorem dX9_init_2 : decode cX9_init 2 = .ok (.iload_n 2, 1) := dk_28 (dk_at dksX9_init_0 2 rfl rfl)
theorem dX9_init_3 : decode cX9_init 3 = .ok (.iload_n 3, 1) := dk_29 (dk_at dksX9_init_0 3 rfl rfl)
theorem dX9_init_4 : decode cX9_init 4 = .ok (.invokespecial 1, 3) := dk_183 0 1 (dk_at dksX9_init_0 4 rfl rfl)
theorem dX9_init_7 : decode cX9_init 7 = .ok (.return_, 1) := dk_177 (dk_at dksX9_init_0 7 rfl rfl)
abbrev cX9_lets : ByteArray := prog_7_method_4_code
def yX9_lets : MethodName := ⟨RX9, "lets", "()I"⟩
def dkwX9_lets_0 : List UInt8 := [42, 183, 0, 13, 16, 10, 96, 172]
abbrev dktX9_lets_0 : List UInt8 := dkwX9_lets_0 ++ []
theorem dksX9_lets_0 : cX9_lets.data.toList.drop 0 = dktX9_lets_0 := by decide +kernel
theorem dX9_lets_0 : decode cX9_lets 0 = .ok (.aload_n 0, 1) := dk_42 (dk_at dksX9_lets_0 0 rfl rfl)
theorem dX9_lets_1 : decode cX9_lets 1 = .ok (.invokespecial 13, 3) := dk_183 0 13 (dk_at dksX9_lets_0 1 rfl rfl)
theorem dX9_lets_4 : decode cX9_lets 4 = .ok (.bipush 10, 2) := dk_16 10 (dk_at dksX9_lets_0 4 rfl rfl)
theorem dX9_lets_6 : decode cX9_lets 6 = .ok (.iadd, 1) := dk_96 (dk_at dksX9_lets_0 6 rfl rfl)
theorem dX9_lets_7 : decode cX9_lets 7 = .ok (.ireturn, 1) := dk_172 (dk_at dksX9_lets_0 7 rfl rfl)
abbrev cX9_kind : ByteArray := prog_7_method_2_code
def yX9_kind : MethodName := ⟨RX9, "kind", "()I"⟩
theorem dX9_kind_0 : decode cX9_kind 0 = .ok (.iconst 3, 1) := by decide +kernel
theorem dX9_kind_1 : decode cX9_kind 1 = .ok (.ireturn, 1) := by decide +kernel
abbrev cX9_shows : ByteArray := prog_7_method_3_code
def yX9_shows : MethodName := ⟨RX9, "shows", "(I)I"⟩
theorem dX9_shows_0 : decode cX9_shows 0 = .ok (.aload_n 0, 1) := by decide +kernel
theorem dX9_shows_1 : decode cX9_shows 1 = .ok (.invokevirtual 7, 3) := by decide +kernel
theorem dX9_shows_4 : decode cX9_shows 4 = .ok (.ireturn, 1) := by decide +kernel
theorem q70 : (Jvm.Cond.initialized "RentedViews$Kitchen") ∈ lw_all := lw_g (lw_at lw_m1 10 rfl) rfl
theorem q360 : (Jvm.Cond.instantiable "RentedViews$Kitchen" (3 : Nat)) ∈ lw_all := lw_g (lw_at lw_m2 60 rfl) rfl
theorem q362 : (Jvm.Cond.instanceMethod ({ cls := "RentedViews$Kitchen", name := "<init>", desc := "(III)V" } : Jvm.MethodName)) ∈ lw_all := lw_g (lw_at lw_m2 62 rfl) rfl
theorem q363 : (Jvm.Cond.code ({ cls := "RentedViews$Kitchen", name := "<init>", desc := "(III)V" } : Jvm.MethodName) prog_7_method_1_code (4 : Nat) (Option.none : Option Jvm.ClassFile.FieldType)) ∈ lw_all := lw_g (lw_at lw_m2 63 rfl) rfl
theorem q364 : (Jvm.Cond.methodLink "RentedViews$Kitchen" (1 : Nat) ({ cls := "RentedViews$Street", name := "<init>", desc := "(III)V" } : Jvm.MethodName)) ∈ lw_all := lw_g (lw_at lw_m2 64 rfl) rfl
theorem q365 : (Jvm.Cond.laysFinal "RentedViews$Kitchen" "RentedViews$View" "size" "I") ∈ lw_all := lw_g (lw_at lw_m2 65 rfl) rfl
theorem q366 : (Jvm.Cond.laysFinal "RentedViews$Kitchen" "RentedViews$View" "price" "I") ∈ lw_all := lw_g (lw_at lw_m2 66 rfl) rfl
theorem q367 : (Jvm.Cond.laysFinal "RentedViews$Kitchen" "RentedViews$View" "weather" "I") ∈ lw_all := lw_g (lw_at lw_m2 67 rfl) rfl
theorem q368 : (Jvm.Cond.superclass "RentedViews$Kitchen" "RentedViews$Street") ∈ lw_all := lw_g (lw_at lw_m2 68 rfl) rfl
theorem q621 : (Jvm.Cond.selects "RentedViews$Kitchen" ({ cls := "RentedViews$View", name := "fits", desc := "(I)Z" } : Jvm.MethodName) ({ cls := "RentedViews$View", name := "fits", desc := "(I)Z" } : Jvm.MethodName)) ∈ lw_all := lw_g (lw_at lw_m3 81 rfl) rfl
theorem q640 : (Jvm.Cond.instanceMethod ({ cls := "RentedViews$Kitchen", name := "lets", desc := "()I" } : Jvm.MethodName)) ∈ lw_all := lw_g (lw_at lw_m3 100 rfl) rfl
theorem q641 : (Jvm.Cond.code ({ cls := "RentedViews$Kitchen", name := "lets", desc := "()I" } : Jvm.MethodName) prog_7_method_4_code (1 : Nat) (Option.some Jvm.ClassFile.FieldType.int)) ∈ lw_all := lw_g (lw_at lw_m3 101 rfl) rfl
theorem q642 : (Jvm.Cond.methodLink "RentedViews$Kitchen" (13 : Nat) ({ cls := "RentedViews$Street", name := "lets", desc := "()I" } : Jvm.MethodName)) ∈ lw_all := lw_g (lw_at lw_m3 102 rfl) rfl
theorem q645 : (Jvm.Cond.selects "RentedViews$Kitchen" ({ cls := "RentedViews$View", name := "lets", desc := "()I" } : Jvm.MethodName) ({ cls := "RentedViews$Kitchen", name := "lets", desc := "()I" } : Jvm.MethodName)) ∈ lw_all := lw_g (lw_at lw_m3 105 rfl) rfl
theorem q693 : (Jvm.Cond.selects "RentedViews$Kitchen" ({ cls := "RentedViews$View", name := "kind", desc := "()I" } : Jvm.MethodName) ({ cls := "RentedViews$Kitchen", name := "kind", desc := "()I" } : Jvm.MethodName)) ∈ lw_all := lw_g (lw_at lw_m3 153 rfl) rfl
theorem q694 : (Jvm.Cond.instanceMethod ({ cls := "RentedViews$Kitchen", name := "kind", desc := "()I" } : Jvm.MethodName)) ∈ lw_all := lw_g (lw_at lw_m3 154 rfl) rfl
theorem q695 : (Jvm.Cond.code ({ cls := "RentedViews$Kitchen", name := "kind", desc := "()I" } : Jvm.MethodName) prog_7_method_2_code (1 : Nat) (Option.some Jvm.ClassFile.FieldType.int)) ∈ lw_all := lw_g (lw_at lw_m3 155 rfl) rfl
theorem q713 : (Jvm.Cond.instanceMethod ({ cls := "RentedViews$Kitchen", name := "shows", desc := "(I)I" } : Jvm.MethodName)) ∈ lw_all := lw_g (lw_at lw_m3 173 rfl) rfl
theorem q714 : (Jvm.Cond.code ({ cls := "RentedViews$Kitchen", name := "shows", desc := "(I)I" } : Jvm.MethodName) prog_7_method_3_code (2 : Nat) (Option.some Jvm.ClassFile.FieldType.int)) ∈ lw_all := lw_g (lw_at lw_m3 174 rfl) rfl
theorem q715 : (Jvm.Cond.methodLink "RentedViews$Kitchen" (7 : Nat) ({ cls := "RentedViews$Kitchen", name := "first", desc := "()I" } : Jvm.MethodName)) ∈ lw_all := lw_g (lw_at lw_m3 175 rfl) rfl
theorem q716 : (Jvm.Cond.sameMethod "RentedViews$Kitchen" "RentedViews$View" "first" "()I") ∈ lw_all := lw_g (lw_at lw_m3 176 rfl) rfl
theorem q719 : (Jvm.Cond.selects "RentedViews$Kitchen" ({ cls := "RentedViews$Kitchen", name := "first", desc := "()I" } : Jvm.MethodName) ({ cls := "RentedViews$View", name := "first", desc := "()I" } : Jvm.MethodName)) ∈ lw_all := lw_g (lw_at lw_m3 179 rfl) rfl
theorem q722 : (Jvm.Cond.selects "RentedViews$Kitchen" ({ cls := "RentedViews$View", name := "shows", desc := "(I)I" } : Jvm.MethodName) ({ cls := "RentedViews$Kitchen", name := "shows", desc := "(I)I" } : Jvm.MethodName)) ∈ lw_all := lw_g (lw_at lw_m3 182 rfl) rfl
theorem q1334 : (Jvm.Cond.sameMethod "RentedViews$Kitchen" "RentedViews$Kitchen" "lets" "()I") ∈ lw_all := lw_g (lw_at lw_m6 74 rfl) rfl
theorem q1335 : (Jvm.Cond.sameMethod "RentedViews$Kitchen" "RentedViews$Kitchen" "shows" "(I)I") ∈ lw_all := lw_g (lw_at lw_m6 75 rfl) rfl
theorem q1338 : (Jvm.Cond.castable "RentedViews$Kitchen" "RentedViews$View") ∈ lw_tbl := lw_at lw_m6 78 rfl
theorem in_X9 : ∀ w ∈ wsX90, w ∈ lw_all := lw_in wsX90 [365, 366, 367] (by decide +kernel) (by decide +kernel)
/-! RentedViews$Bricks -/
set_option maxRecDepth 100000
def RX10 : String := "RentedViews$Bricks"
def TX10 : u_T := fun k => match k with
  | 0 => ("RentedViews$View", "size", "I", true)
  | 1 => ("RentedViews$View", "price", "I", true)
  | _ => ("RentedViews$View", "weather", "I", true)
def tyX10 : Nat → FieldType := fun k => match k with
  | 0 => .int
  | 1 => .int
  | _ => .int
abbrev wsX100 : List Cond := u_ws RX10 TX10 3
theorem nmX10 : ∀ a, a < 3 → ∀ b, b < 3 → a ≠ b → (TX10 a).2.1 ≠ (TX10 b).2.1 := by decide +kernel
theorem tyX10_ok : ∀ k, k < 3 → parseFieldDescriptor (TX10 k).2.2.1 = some (tyX10 k) := by decide +kernel
abbrev cX10_init : ByteArray := prog_3_method_1_code
def yX10_init : MethodName := ⟨RX10, "<init>", "(III)V"⟩
def dkwX10_init_0 : List UInt8 := [42, 27, 28, 29, 183, 0, 1, 177]
abbrev dktX10_init_0 : List UInt8 := dkwX10_init_0 ++ []
theorem dksX10_init_0 : cX10_init.data.toList.drop 0 = dktX10_init_0 := by decide +kernel
theorem dX10_init_0 : decode cX10_init 0 = .ok (.aload_n 0, 1) := dk_42 (dk_at dksX10_init_0 0 rfl rfl)
theorem dX10_init_1 : decode cX10_init 1 = .ok (.iload_n 1, 1) := dk_27 (dk_at dksX10_init_0 1 rfl rfl)
theorem dX10_init_2 : decode cX10_init 2 = .ok (.iload_n 2, 1) := dk_28 (dk_at dksX10_init_0 2 rfl rfl)
theorem dX10_init_3 : decode cX10_init 3 = .ok (.iload_n 3, 1) := dk_29 (dk_at dksX10_init_0 3 rfl rfl)
theorem dX10_init_4 : decode cX10_init 4 = .ok (.invokespecial 1, 3) := dk_183 0 1 (dk_at dksX10_init_0 4 rfl rfl)
theorem dX10_init_7 : decode cX10_init 7 = .ok (.return_, 1) := dk_177 (dk_at dksX10_init_0 7 rfl rfl)
abbrev cX10_fits : ByteArray := prog_3_method_4_code
def yX10_fits : MethodName := ⟨RX10, "fits", "(I)Z"⟩
theorem dX10_fits_0 : decode cX10_fits 0 = .ok (.iconst 1, 1) := by decide +kernel
theorem dX10_fits_1 : decode cX10_fits 1 = .ok (.ireturn, 1) := by decide +kernel
abbrev cX10_lets : ByteArray := prog_3_method_3_code
def yX10_lets : MethodName := ⟨RX10, "lets", "()I"⟩
def dkwX10_lets_0 : List UInt8 := [42, 183, 0, 7, 5, 108, 172]
abbrev dktX10_lets_0 : List UInt8 := dkwX10_lets_0 ++ []
theorem dksX10_lets_0 : cX10_lets.data.toList.drop 0 = dktX10_lets_0 := by decide +kernel
theorem dX10_lets_0 : decode cX10_lets 0 = .ok (.aload_n 0, 1) := dk_42 (dk_at dksX10_lets_0 0 rfl rfl)
theorem dX10_lets_1 : decode cX10_lets 1 = .ok (.invokespecial 7, 3) := dk_183 0 7 (dk_at dksX10_lets_0 1 rfl rfl)
theorem dX10_lets_4 : decode cX10_lets 4 = .ok (.iconst 2, 1) := dk_5 (dk_at dksX10_lets_0 4 rfl rfl)
theorem dX10_lets_5 : decode cX10_lets 5 = .ok (.idiv, 1) := dk_108 (dk_at dksX10_lets_0 5 rfl rfl)
theorem dX10_lets_6 : decode cX10_lets 6 = .ok (.ireturn, 1) := dk_172 (dk_at dksX10_lets_0 6 rfl rfl)
abbrev cX10_kind : ByteArray := prog_3_method_2_code
def yX10_kind : MethodName := ⟨RX10, "kind", "()I"⟩
theorem dX10_kind_0 : decode cX10_kind 0 = .ok (.iconst 4, 1) := by decide +kernel
theorem dX10_kind_1 : decode cX10_kind 1 = .ok (.ireturn, 1) := by decide +kernel
theorem q71 : (Jvm.Cond.initialized "RentedViews$Bricks") ∈ lw_all := lw_g (lw_at lw_m1 11 rfl) rfl
theorem q370 : (Jvm.Cond.instantiable "RentedViews$Bricks" (3 : Nat)) ∈ lw_all := lw_g (lw_at lw_m2 70 rfl) rfl
theorem q372 : (Jvm.Cond.instanceMethod ({ cls := "RentedViews$Bricks", name := "<init>", desc := "(III)V" } : Jvm.MethodName)) ∈ lw_all := lw_g (lw_at lw_m2 72 rfl) rfl
theorem q373 : (Jvm.Cond.code ({ cls := "RentedViews$Bricks", name := "<init>", desc := "(III)V" } : Jvm.MethodName) prog_3_method_1_code (4 : Nat) (Option.none : Option Jvm.ClassFile.FieldType)) ∈ lw_all := lw_g (lw_at lw_m2 73 rfl) rfl
theorem q374 : (Jvm.Cond.methodLink "RentedViews$Bricks" (1 : Nat) ({ cls := "RentedViews$View", name := "<init>", desc := "(III)V" } : Jvm.MethodName)) ∈ lw_all := lw_g (lw_at lw_m2 74 rfl) rfl
theorem q375 : (Jvm.Cond.laysFinal "RentedViews$Bricks" "RentedViews$View" "size" "I") ∈ lw_all := lw_g (lw_at lw_m2 75 rfl) rfl
theorem q376 : (Jvm.Cond.laysFinal "RentedViews$Bricks" "RentedViews$View" "price" "I") ∈ lw_all := lw_g (lw_at lw_m2 76 rfl) rfl
theorem q377 : (Jvm.Cond.laysFinal "RentedViews$Bricks" "RentedViews$View" "weather" "I") ∈ lw_all := lw_g (lw_at lw_m2 77 rfl) rfl
theorem q378 : (Jvm.Cond.superclass "RentedViews$Bricks" "RentedViews$View") ∈ lw_all := lw_g (lw_at lw_m2 78 rfl) rfl
theorem q616 : (Jvm.Cond.selects "RentedViews$Bricks" ({ cls := "RentedViews$View", name := "fits", desc := "(I)Z" } : Jvm.MethodName) ({ cls := "RentedViews$Bricks", name := "fits", desc := "(I)Z" } : Jvm.MethodName)) ∈ lw_all := lw_g (lw_at lw_m3 76 rfl) rfl
theorem q617 : (Jvm.Cond.instanceMethod ({ cls := "RentedViews$Bricks", name := "fits", desc := "(I)Z" } : Jvm.MethodName)) ∈ lw_all := lw_g (lw_at lw_m3 77 rfl) rfl
theorem q618 : (Jvm.Cond.code ({ cls := "RentedViews$Bricks", name := "fits", desc := "(I)Z" } : Jvm.MethodName) prog_3_method_4_code (2 : Nat) (Option.some Jvm.ClassFile.FieldType.boolean)) ∈ lw_all := lw_g (lw_at lw_m3 78 rfl) rfl
theorem q628 : (Jvm.Cond.selects "RentedViews$Bricks" ({ cls := "RentedViews$View", name := "lets", desc := "()I" } : Jvm.MethodName) ({ cls := "RentedViews$Bricks", name := "lets", desc := "()I" } : Jvm.MethodName)) ∈ lw_all := lw_g (lw_at lw_m3 88 rfl) rfl
theorem q629 : (Jvm.Cond.instanceMethod ({ cls := "RentedViews$Bricks", name := "lets", desc := "()I" } : Jvm.MethodName)) ∈ lw_all := lw_g (lw_at lw_m3 89 rfl) rfl
theorem q630 : (Jvm.Cond.code ({ cls := "RentedViews$Bricks", name := "lets", desc := "()I" } : Jvm.MethodName) prog_3_method_3_code (1 : Nat) (Option.some Jvm.ClassFile.FieldType.int)) ∈ lw_all := lw_g (lw_at lw_m3 90 rfl) rfl
theorem q631 : (Jvm.Cond.methodLink "RentedViews$Bricks" (7 : Nat) ({ cls := "RentedViews$View", name := "lets", desc := "()I" } : Jvm.MethodName)) ∈ lw_all := lw_g (lw_at lw_m3 91 rfl) rfl
theorem q684 : (Jvm.Cond.selects "RentedViews$Bricks" ({ cls := "RentedViews$View", name := "kind", desc := "()I" } : Jvm.MethodName) ({ cls := "RentedViews$Bricks", name := "kind", desc := "()I" } : Jvm.MethodName)) ∈ lw_all := lw_g (lw_at lw_m3 144 rfl) rfl
theorem q685 : (Jvm.Cond.instanceMethod ({ cls := "RentedViews$Bricks", name := "kind", desc := "()I" } : Jvm.MethodName)) ∈ lw_all := lw_g (lw_at lw_m3 145 rfl) rfl
theorem q686 : (Jvm.Cond.code ({ cls := "RentedViews$Bricks", name := "kind", desc := "()I" } : Jvm.MethodName) prog_3_method_2_code (1 : Nat) (Option.some Jvm.ClassFile.FieldType.int)) ∈ lw_all := lw_g (lw_at lw_m3 146 rfl) rfl
theorem q704 : (Jvm.Cond.selects "RentedViews$Bricks" ({ cls := "RentedViews$View", name := "shows", desc := "(I)I" } : Jvm.MethodName) ({ cls := "RentedViews$View", name := "shows", desc := "(I)I" } : Jvm.MethodName)) ∈ lw_all := lw_g (lw_at lw_m3 164 rfl) rfl
theorem q1339 : (Jvm.Cond.castable "RentedViews$Bricks" "RentedViews$View") ∈ lw_tbl := lw_at lw_m6 79 rfl
theorem in_X10 : ∀ w ∈ wsX100, w ∈ lw_all := lw_in wsX100 [375, 376, 377] (by decide +kernel) (by decide +kernel)
/-! RentedViews$Fogged -/
set_option maxRecDepth 100000
def RX11 : String := "RentedViews$Fogged"
def TX11 : u_T := fun k => match k with
  | 0 => ("RentedViews$View", "size", "I", true)
  | 1 => ("RentedViews$View", "price", "I", true)
  | _ => ("RentedViews$View", "weather", "I", true)
def tyX11 : Nat → FieldType := fun k => match k with
  | 0 => .int
  | 1 => .int
  | _ => .int
abbrev wsX110 : List Cond := u_ws RX11 TX11 3
theorem nmX11 : ∀ a, a < 3 → ∀ b, b < 3 → a ≠ b → (TX11 a).2.1 ≠ (TX11 b).2.1 := by decide +kernel
theorem tyX11_ok : ∀ k, k < 3 → parseFieldDescriptor (TX11 k).2.2.1 = some (tyX11 k) := by decide +kernel
abbrev cX11_init : ByteArray := prog_6_method_1_code
def yX11_init : MethodName := ⟨RX11, "<init>", "(III)V"⟩
def dkwX11_init_0 : List UInt8 := [42, 27, 28, 29, 183, 0, 1, 177]
abbrev dktX11_init_0 : List UInt8 := dkwX11_init_0 ++ []
theorem dksX11_init_0 : cX11_init.data.toList.drop 0 = dktX11_init_0 := by decide +kernel
theorem dX11_init_0 : decode cX11_init 0 = .ok (.aload_n 0, 1) := dk_42 (dk_at dksX11_init_0 0 rfl rfl)
theorem dX11_init_1 : decode cX11_init 1 = .ok (.iload_n 1, 1) := dk_27 (dk_at dksX11_init_0 1 rfl rfl)
theorem dX11_init_2 : decode cX11_init 2 = .ok (.iload_n 2, 1) := dk_28 (dk_at dksX11_init_0 2 rfl rfl)
theorem dX11_init_3 : decode cX11_init 3 = .ok (.iload_n 3, 1) := dk_29 (dk_at dksX11_init_0 3 rfl rfl)
theorem dX11_init_4 : decode cX11_init 4 = .ok (.invokespecial 1, 3) := dk_183 0 1 (dk_at dksX11_init_0 4 rfl rfl)
theorem dX11_init_7 : decode cX11_init 7 = .ok (.return_, 1) := dk_177 (dk_at dksX11_init_0 7 rfl rfl)
abbrev cX11_lets : ByteArray := prog_6_method_4_code
def yX11_lets : MethodName := ⟨RX11, "lets", "()I"⟩
def dkwX11_lets_0 : List UInt8 := [42, 183, 0, 11, 16, 10, 100, 172]
abbrev dktX11_lets_0 : List UInt8 := dkwX11_lets_0 ++ []
theorem dksX11_lets_0 : cX11_lets.data.toList.drop 0 = dktX11_lets_0 := by decide +kernel
theorem dX11_lets_0 : decode cX11_lets 0 = .ok (.aload_n 0, 1) := dk_42 (dk_at dksX11_lets_0 0 rfl rfl)
theorem dX11_lets_1 : decode cX11_lets 1 = .ok (.invokespecial 11, 3) := dk_183 0 11 (dk_at dksX11_lets_0 1 rfl rfl)
theorem dX11_lets_4 : decode cX11_lets 4 = .ok (.bipush 10, 2) := dk_16 10 (dk_at dksX11_lets_0 4 rfl rfl)
theorem dX11_lets_6 : decode cX11_lets 6 = .ok (.isub, 1) := dk_100 (dk_at dksX11_lets_0 6 rfl rfl)
theorem dX11_lets_7 : decode cX11_lets 7 = .ok (.ireturn, 1) := dk_172 (dk_at dksX11_lets_0 7 rfl rfl)
abbrev cX11_kind : ByteArray := prog_6_method_2_code
def yX11_kind : MethodName := ⟨RX11, "kind", "()I"⟩
theorem dX11_kind_0 : decode cX11_kind 0 = .ok (.iconst 5, 1) := by decide +kernel
theorem dX11_kind_1 : decode cX11_kind 1 = .ok (.ireturn, 1) := by decide +kernel
abbrev cX11_shows : ByteArray := prog_6_method_3_code
def yX11_shows : MethodName := ⟨RX11, "shows", "(I)I"⟩
def dkwX11_shows_0 : List UInt8 := [27, 5, 112, 4, 160, 0, 7, 8, 167, 0, 8, 42, 27, 183, 0, 7, 172]
abbrev dktX11_shows_0 : List UInt8 := dkwX11_shows_0 ++ []
theorem dksX11_shows_0 : cX11_shows.data.toList.drop 0 = dktX11_shows_0 := by decide +kernel
theorem dX11_shows_0 : decode cX11_shows 0 = .ok (.iload_n 1, 1) := dk_27 (dk_at dksX11_shows_0 0 rfl rfl)
theorem dX11_shows_1 : decode cX11_shows 1 = .ok (.iconst 2, 1) := dk_5 (dk_at dksX11_shows_0 1 rfl rfl)
theorem dX11_shows_2 : decode cX11_shows 2 = .ok (.irem, 1) := dk_112 (dk_at dksX11_shows_0 2 rfl rfl)
theorem dX11_shows_3 : decode cX11_shows 3 = .ok (.iconst 1, 1) := dk_4 (dk_at dksX11_shows_0 3 rfl rfl)
theorem dX11_shows_4 : decode cX11_shows 4 = .ok (.if_icmp .ne 7, 3) := dk_160 0 7 (dk_at dksX11_shows_0 4 rfl rfl)
theorem dX11_shows_7 : decode cX11_shows 7 = .ok (.iconst 5, 1) := dk_8 (dk_at dksX11_shows_0 7 rfl rfl)
theorem dX11_shows_8 : decode cX11_shows 8 = .ok (.goto 8, 3) := dk_167 0 8 (dk_at dksX11_shows_0 8 rfl rfl)
theorem dX11_shows_11 : decode cX11_shows 11 = .ok (.aload_n 0, 1) := dk_42 (dk_at dksX11_shows_0 11 rfl rfl)
theorem dX11_shows_12 : decode cX11_shows 12 = .ok (.iload_n 1, 1) := dk_27 (dk_at dksX11_shows_0 12 rfl rfl)
theorem dX11_shows_13 : decode cX11_shows 13 = .ok (.invokespecial 7, 3) := dk_183 0 7 (dk_at dksX11_shows_0 13 rfl rfl)
theorem dX11_shows_16 : decode cX11_shows 16 = .ok (.ireturn, 1) := dk_172 (dk_at dksX11_shows_0 16 rfl rfl)
theorem q72 : (Jvm.Cond.initialized "RentedViews$Fogged") ∈ lw_all := lw_g (lw_at lw_m1 12 rfl) rfl
theorem q380 : (Jvm.Cond.instantiable "RentedViews$Fogged" (3 : Nat)) ∈ lw_all := lw_g (lw_at lw_m2 80 rfl) rfl
theorem q382 : (Jvm.Cond.instanceMethod ({ cls := "RentedViews$Fogged", name := "<init>", desc := "(III)V" } : Jvm.MethodName)) ∈ lw_all := lw_g (lw_at lw_m2 82 rfl) rfl
theorem q383 : (Jvm.Cond.code ({ cls := "RentedViews$Fogged", name := "<init>", desc := "(III)V" } : Jvm.MethodName) prog_6_method_1_code (4 : Nat) (Option.none : Option Jvm.ClassFile.FieldType)) ∈ lw_all := lw_g (lw_at lw_m2 83 rfl) rfl
theorem q384 : (Jvm.Cond.methodLink "RentedViews$Fogged" (1 : Nat) ({ cls := "RentedViews$Kitchen", name := "<init>", desc := "(III)V" } : Jvm.MethodName)) ∈ lw_all := lw_g (lw_at lw_m2 84 rfl) rfl
theorem q385 : (Jvm.Cond.laysFinal "RentedViews$Fogged" "RentedViews$View" "size" "I") ∈ lw_all := lw_g (lw_at lw_m2 85 rfl) rfl
theorem q386 : (Jvm.Cond.laysFinal "RentedViews$Fogged" "RentedViews$View" "price" "I") ∈ lw_all := lw_g (lw_at lw_m2 86 rfl) rfl
theorem q387 : (Jvm.Cond.laysFinal "RentedViews$Fogged" "RentedViews$View" "weather" "I") ∈ lw_all := lw_g (lw_at lw_m2 87 rfl) rfl
theorem q388 : (Jvm.Cond.superclass "RentedViews$Fogged" "RentedViews$Kitchen") ∈ lw_all := lw_g (lw_at lw_m2 88 rfl) rfl
theorem q620 : (Jvm.Cond.selects "RentedViews$Fogged" ({ cls := "RentedViews$View", name := "fits", desc := "(I)Z" } : Jvm.MethodName) ({ cls := "RentedViews$View", name := "fits", desc := "(I)Z" } : Jvm.MethodName)) ∈ lw_all := lw_g (lw_at lw_m3 80 rfl) rfl
theorem q636 : (Jvm.Cond.selects "RentedViews$Fogged" ({ cls := "RentedViews$View", name := "lets", desc := "()I" } : Jvm.MethodName) ({ cls := "RentedViews$Fogged", name := "lets", desc := "()I" } : Jvm.MethodName)) ∈ lw_all := lw_g (lw_at lw_m3 96 rfl) rfl
theorem q637 : (Jvm.Cond.instanceMethod ({ cls := "RentedViews$Fogged", name := "lets", desc := "()I" } : Jvm.MethodName)) ∈ lw_all := lw_g (lw_at lw_m3 97 rfl) rfl
theorem q638 : (Jvm.Cond.code ({ cls := "RentedViews$Fogged", name := "lets", desc := "()I" } : Jvm.MethodName) prog_6_method_4_code (1 : Nat) (Option.some Jvm.ClassFile.FieldType.int)) ∈ lw_all := lw_g (lw_at lw_m3 98 rfl) rfl
theorem q639 : (Jvm.Cond.methodLink "RentedViews$Fogged" (11 : Nat) ({ cls := "RentedViews$Kitchen", name := "lets", desc := "()I" } : Jvm.MethodName)) ∈ lw_all := lw_g (lw_at lw_m3 99 rfl) rfl
theorem q690 : (Jvm.Cond.selects "RentedViews$Fogged" ({ cls := "RentedViews$View", name := "kind", desc := "()I" } : Jvm.MethodName) ({ cls := "RentedViews$Fogged", name := "kind", desc := "()I" } : Jvm.MethodName)) ∈ lw_all := lw_g (lw_at lw_m3 150 rfl) rfl
theorem q691 : (Jvm.Cond.instanceMethod ({ cls := "RentedViews$Fogged", name := "kind", desc := "()I" } : Jvm.MethodName)) ∈ lw_all := lw_g (lw_at lw_m3 151 rfl) rfl
theorem q692 : (Jvm.Cond.code ({ cls := "RentedViews$Fogged", name := "kind", desc := "()I" } : Jvm.MethodName) prog_6_method_2_code (1 : Nat) (Option.some Jvm.ClassFile.FieldType.int)) ∈ lw_all := lw_g (lw_at lw_m3 152 rfl) rfl
theorem q709 : (Jvm.Cond.selects "RentedViews$Fogged" ({ cls := "RentedViews$View", name := "shows", desc := "(I)I" } : Jvm.MethodName) ({ cls := "RentedViews$Fogged", name := "shows", desc := "(I)I" } : Jvm.MethodName)) ∈ lw_all := lw_g (lw_at lw_m3 169 rfl) rfl
theorem q710 : (Jvm.Cond.instanceMethod ({ cls := "RentedViews$Fogged", name := "shows", desc := "(I)I" } : Jvm.MethodName)) ∈ lw_all := lw_g (lw_at lw_m3 170 rfl) rfl
theorem q711 : (Jvm.Cond.code ({ cls := "RentedViews$Fogged", name := "shows", desc := "(I)I" } : Jvm.MethodName) prog_6_method_3_code (2 : Nat) (Option.some Jvm.ClassFile.FieldType.int)) ∈ lw_all := lw_g (lw_at lw_m3 171 rfl) rfl
theorem q712 : (Jvm.Cond.methodLink "RentedViews$Fogged" (7 : Nat) ({ cls := "RentedViews$Kitchen", name := "shows", desc := "(I)I" } : Jvm.MethodName)) ∈ lw_all := lw_g (lw_at lw_m3 172 rfl) rfl
theorem q718 : (Jvm.Cond.selects "RentedViews$Fogged" ({ cls := "RentedViews$Kitchen", name := "first", desc := "()I" } : Jvm.MethodName) ({ cls := "RentedViews$View", name := "first", desc := "()I" } : Jvm.MethodName)) ∈ lw_all := lw_g (lw_at lw_m3 178 rfl) rfl
theorem q1340 : (Jvm.Cond.castable "RentedViews$Fogged" "RentedViews$View") ∈ lw_tbl := lw_at lw_m6 80 rfl
theorem in_X11 : ∀ w ∈ wsX110, w ∈ lw_all := lw_in wsX110 [385, 386, 387] (by decide +kernel) (by decide +kernel)
/-! RentedViews$Fault -/
set_option maxRecDepth 100000
def RX12 : String := "RentedViews$Fault"
def TX12 : u_T := fun k => match k with
  | 0 => ("java/lang/Throwable", "cause", "Ljava/lang/Throwable;", false)
  | 1 => ("java/lang/Throwable", "stackTrace", "[Ljava/lang/StackTraceElement;", false)
  | 2 => ("java/lang/Throwable", "suppressedExceptions", "Ljava/util/List;", false)
  | 3 => ("java/lang/Throwable", "detailMessage", "Ljava/lang/String;", false)
  | 4 => ("java/lang/Throwable", "backtrace", "Ljava/lang/Object;", false)
  | 5 => ("java/lang/Throwable", "depth", "I", false)
  | _ => ("RentedViews$Fault", "place", "I", true)
def tyX12 : Nat → FieldType := fun k => match k with
  | 0 => .object "java/lang/Throwable"
  | 1 => .array (.object "java/lang/StackTraceElement")
  | 2 => .object "java/util/List"
  | 3 => .object "java/lang/String"
  | 4 => .object "java/lang/Object"
  | 5 => .int
  | _ => .int
abbrev wsX120 : List Cond := u_ws RX12 TX12 7
theorem nmX12 : ∀ a, a < 7 → ∀ b, b < 7 → a ≠ b → (TX12 a).2.1 ≠ (TX12 b).2.1 := by decide +kernel
theorem tyX12_ok : ∀ k, k < 7 → parseFieldDescriptor (TX12 k).2.2.1 = some (tyX12 k) := by decide +kernel
abbrev cX12_init : ByteArray := prog_4_method_1_code
def yX12_init : MethodName := ⟨RX12, "<init>", "(I)V"⟩
def dkwX12_init_0 : List UInt8 := [42, 1, 1, 3, 3, 183, 0, 1, 42, 27, 181, 0, 7, 177]
abbrev dktX12_init_0 : List UInt8 := dkwX12_init_0 ++ []
theorem dksX12_init_0 : cX12_init.data.toList.drop 0 = dktX12_init_0 := by decide +kernel
theorem dX12_init_0 : decode cX12_init 0 = .ok (.aload_n 0, 1) := dk_42 (dk_at dksX12_init_0 0 rfl rfl)
theorem dX12_init_1 : decode cX12_init 1 = .ok (.aconst_null, 1) := dk_1 (dk_at dksX12_init_0 1 rfl rfl)
theorem dX12_init_2 : decode cX12_init 2 = .ok (.aconst_null, 1) := dk_1 (dk_at dksX12_init_0 2 rfl rfl)
theorem dX12_init_3 : decode cX12_init 3 = .ok (.iconst 0, 1) := dk_3 (dk_at dksX12_init_0 3 rfl rfl)
theorem dX12_init_4 : decode cX12_init 4 = .ok (.iconst 0, 1) := dk_3 (dk_at dksX12_init_0 4 rfl rfl)
theorem dX12_init_5 : decode cX12_init 5 = .ok (.invokespecial 1, 3) := dk_183 0 1 (dk_at dksX12_init_0 5 rfl rfl)
theorem dX12_init_8 : decode cX12_init 8 = .ok (.aload_n 0, 1) := dk_42 (dk_at dksX12_init_0 8 rfl rfl)
theorem dX12_init_9 : decode cX12_init 9 = .ok (.iload_n 1, 1) := dk_27 (dk_at dksX12_init_0 9 rfl rfl)
theorem dX12_init_10 : decode cX12_init 10 = .ok (.putfield 7, 3) := dk_181 0 7 (dk_at dksX12_init_0 10 rfl rfl)
theorem dX12_init_13 : decode cX12_init 13 = .ok (.return_, 1) := dk_177 (dk_at dksX12_init_0 13 rfl rfl)
theorem q75 : (Jvm.Cond.initialized "RentedViews$Fault") ∈ lw_all := lw_g (lw_at lw_m1 15 rfl) rfl
theorem q458 : (Jvm.Cond.instantiable "RentedViews$Fault" (7 : Nat)) ∈ lw_all := lw_g (lw_at lw_m2 158 rfl) rfl
theorem q459 : (Jvm.Cond.castable "RentedViews$Fault" "RentedViews$Fault") ∈ lw_tbl := lw_at lw_m2 159 rfl
theorem q464 : (Jvm.Cond.selects "RentedViews$Fault" ({ cls := "java/lang/Throwable", name := "fillInStackTrace", desc := "(I)Ljava/lang/Throwable;" } : Jvm.MethodName) ({ cls := "java/lang/Throwable", name := "fillInStackTrace", desc := "(I)Ljava/lang/Throwable;" } : Jvm.MethodName)) ∈ lw_all := lw_g (lw_at lw_m2 164 rfl) rfl
theorem q465 : (Jvm.Cond.selects "RentedViews$Fault" ({ cls := "java/lang/Throwable", name := "fillInStackTrace", desc := "()Ljava/lang/Throwable;" } : Jvm.MethodName) ({ cls := "java/lang/Throwable", name := "fillInStackTrace", desc := "()Ljava/lang/Throwable;" } : Jvm.MethodName)) ∈ lw_all := lw_g (lw_at lw_m2 165 rfl) rfl
theorem q466 : (Jvm.Cond.lays "RentedViews$Fault" "java/lang/Throwable" "cause" "Ljava/lang/Throwable;") ∈ lw_all := lw_g (lw_at lw_m2 166 rfl) rfl
theorem q468 : (Jvm.Cond.lays "RentedViews$Fault" "java/lang/Throwable" "stackTrace" "[Ljava/lang/StackTraceElement;") ∈ lw_all := lw_g (lw_at lw_m2 168 rfl) rfl
theorem q470 : (Jvm.Cond.lays "RentedViews$Fault" "java/lang/Throwable" "suppressedExceptions" "Ljava/util/List;") ∈ lw_all := lw_g (lw_at lw_m2 170 rfl) rfl
theorem q472 : (Jvm.Cond.lays "RentedViews$Fault" "java/lang/Throwable" "detailMessage" "Ljava/lang/String;") ∈ lw_all := lw_g (lw_at lw_m2 172 rfl) rfl
theorem q474 : (Jvm.Cond.lays "RentedViews$Fault" "java/lang/Throwable" "backtrace" "Ljava/lang/Object;") ∈ lw_all := lw_g (lw_at lw_m2 174 rfl) rfl
theorem q495 : (Jvm.Cond.instanceMethod ({ cls := "RentedViews$Fault", name := "<init>", desc := "(I)V" } : Jvm.MethodName)) ∈ lw_all := lw_g (lw_at lw_m2 195 rfl) rfl
theorem q496 : (Jvm.Cond.code ({ cls := "RentedViews$Fault", name := "<init>", desc := "(I)V" } : Jvm.MethodName) prog_4_method_1_code (2 : Nat) (Option.none : Option Jvm.ClassFile.FieldType)) ∈ lw_all := lw_g (lw_at lw_m2 196 rfl) rfl
theorem q497 : (Jvm.Cond.methodLink "RentedViews$Fault" (1 : Nat) ({ cls := "java/lang/Exception", name := "<init>", desc := "(Ljava/lang/String;Ljava/lang/Throwable;ZZ)V" } : Jvm.MethodName)) ∈ lw_all := lw_g (lw_at lw_m2 197 rfl) rfl
theorem q503 : (Jvm.Cond.fieldLink "RentedViews$Fault" (7 : Nat) "RentedViews$Fault" "place" "I") ∈ lw_all := lw_g (lw_at lw_m2 203 rfl) rfl
theorem q510 : (Jvm.Cond.laysFinal "RentedViews$Fault" "RentedViews$Fault" "place" "I") ∈ lw_all := lw_g (lw_at lw_m2 210 rfl) rfl
theorem q511 : (Jvm.Cond.soleField "RentedViews$Fault" "place") ∈ lw_all := lw_g (lw_at lw_m2 211 rfl) rfl
theorem q516 : (Jvm.Cond.lays "RentedViews$Fault" "java/lang/Throwable" "depth" "I") ∈ lw_all := lw_g (lw_at lw_m2 216 rfl) rfl
theorem q519 : (Jvm.Cond.superclass "RentedViews$Fault" "java/lang/Exception") ∈ lw_all := lw_g (lw_at lw_m2 219 rfl) rfl
theorem in_X12 : ∀ w ∈ wsX120, w ∈ lw_all := lw_in wsX120 [466, 468, 470, 472, 474, 516, 510] (by decide +kernel) (by decide +kernel)
