set_option maxRecDepth 100000
/-! the Model: leaves -/
theorem met_in (l : Launch) (v : Int64) (lo : Int64) (hi : Int64) : Met l yX5_in (ws_ yX5_in cX5_in 6 (some .boolean)) { frames := 1, cells := 0, slots := 0, locals := 60 } (fun v_ _ => v_ = [.long v, .long lo, .long hi].toArray) (vp_Si (fun r_ => r_ = (rb_i (rv_inL v lo hi)))) 0 0 (fun _ => False) := by
  refine rv_inS (by decide) (Nat.le_of_ble_eq_true rfl) (lv := [(0, .long v), (2, .long lo), (4, .long hi)]) rfl ?_
  intro p e s m below meth c hx hb hml hown hts hr hlk ls hl
  refine lv_lload_n hx hb dX5_in_0 rfl (lv_at hl 0 rfl) ?_
  refine lv_lload_n hx hb dX5_in_1 rfl (lv_at hl 1 rfl) ?_
  refine rn_lcmp_lt (tgt := 17) hx hb dX5_in_2 dX5_in_3 (by decide) (fun c_2 => ?_) (fun c_2 => ?_)
  · refine lv_iconst (v := nI 0) hx hb dX5_in_17 rfl ?_
    exact rv_rz hx hb hr hlk rfl dX5_in_18 (by simp_all [rv_inL, rb_i, Int64.lt_iff_toInt_lt, Int64.le_iff_toInt_le] <;> first | rfl | (split <;> first | rfl | (exfalso; omega)))
  · refine lv_lload_n hx hb dX5_in_6 rfl (lv_at hl 0 rfl) ?_
    refine lv_lload hx hb dX5_in_7 (lv_at hl 2 rfl) ?_
    refine rn_lcmp_gt (tgt := 17) hx hb dX5_in_9 dX5_in_10 (by decide) (fun c_9 => ?_) (fun c_9 => ?_)
    · refine lv_iconst (v := nI 0) hx hb dX5_in_17 rfl ?_
      exact rv_rz hx hb hr hlk rfl dX5_in_18 (by simp_all [rv_inL, rb_i, Int64.lt_iff_toInt_lt, Int64.le_iff_toInt_le] <;> first | rfl | (split <;> first | rfl | (exfalso; omega)))
    · refine lv_iconst (v := nI 1) hx hb dX5_in_13 rfl ?_
      refine lv_goto (tgt := 18) hx hb dX5_in_14 (by decide) ?_
      exact rv_rz hx hb hr hlk rfl dX5_in_18 (by simp_all [rv_inL, rb_i, Int64.lt_iff_toInt_lt, Int64.le_iff_toInt_le] <;> first | rfl | (split <;> first | rfl | (exfalso; omega)))
theorem met_bad (l : Launch) (dC : Nat → ClassId) (dI : Nat → Nat → Nat) (dA : Nat → ClassId) (n : Nat) (σ : mdT) (ab be : Int64) (t : Int32) : Met l yX5_bad (ws_ yX5_bad cX5_bad 2 (some .int)) { frames := 1, cells := 0, slots := 0, locals := 60 } (mdPc dC dI dA n σ ab be [.ref n, .int t]) (va_Qi (fun r_ u => r_ = t ∧ u = mdS σ 3 0 (σ 3 0 + nI 1)) (mdB dC dI dA n ab be) (mdA n)) 0 0 (mdA n) := by
  refine md_in (by decide) rfl (Nat.le_of_ble_eq_true rfl) (lv := [(0, .ref n), (1, .int t)]) rfl ?_
  intro p e s m below meth c C hr hlk hP ls hl
  have hx := C.1
  have hb := C.2.1
  have hown := C.2.2.2.1
  have hts := C.2.2.2.2.1
  have hS : va_S (mdA n) s.heap s.heap [] := va_S.rf
  refine lv_aload_n hx hb dX5_bad_0 rfl (lv_at hl 0 rfl) ?_
  refine md_g3 C hP dX5_bad_1 ?_
  refine lv_iconst (v := nI 0) hx hb dX5_bad_4 rfl ?_
  refine lv_dup2_11 hx hb dX5_bad_5 rfl rfl ?_
  refine md_l3 C hP (by omega) dX5_bad_6 ?_
  refine lv_iconst (v := nI 1) hx hb dX5_bad_7 rfl ?_
  refine lv_iadd hx hb dX5_bad_8 ?_
  refine md_s3 C hP hS (by omega) dX5_bad_9 (fun H locs hP hS => ?_)
  refine lv_iload_n hx hb dX5_bad_10 rfl (lv_at hl 1 rfl) ?_
  exact md_ri C hr hlk hP hS dX5_bad_11 ⟨rfl, rfl⟩
theorem met_no (l : Launch) (dC : Nat → ClassId) (dI : Nat → Nat → Nat) (dA : Nat → ClassId) (n : Nat) (σ : mdT) (ab be : Int64) : Met l yX5_no (ws_ yX5_no cX5_no 1 (some .int)) { frames := 1, cells := 0, slots := 0, locals := 60 } (mdPc dC dI dA n σ ab be [.ref n]) (va_Qi (fun r_ u => r_ = (-3) ∧ u = mdS σ 3 1 (σ 3 1 + nI 1)) (mdB dC dI dA n ab be) (mdA n)) 0 0 (mdA n) := by
  refine md_in (by decide) rfl (Nat.le_of_ble_eq_true rfl) (lv := [(0, .ref n)]) rfl ?_
  intro p e s m below meth c C hr hlk hP ls hl
  have hx := C.1
  have hb := C.2.1
  have hown := C.2.2.2.1
  have hts := C.2.2.2.2.1
  have hS : va_S (mdA n) s.heap s.heap [] := va_S.rf
  refine lv_aload_n hx hb dX5_no_0 rfl (lv_at hl 0 rfl) ?_
  refine md_g3 C hP dX5_no_1 ?_
  refine lv_iconst (v := nI 1) hx hb dX5_no_4 rfl ?_
  refine lv_dup2_11 hx hb dX5_no_5 rfl rfl ?_
  refine md_l3 C hP (by omega) dX5_no_6 ?_
  refine lv_iconst (v := nI 1) hx hb dX5_no_7 rfl ?_
  refine lv_iadd hx hb dX5_no_8 ?_
  refine md_s3 C hP hS (by omega) dX5_no_9 (fun H locs hP hS => ?_)
  refine lv_bipush (v := (-3)) hx hb dX5_no_10 rfl ?_
  exact md_ri C hr hlk hP hS dX5_no_12 ⟨rfl, rfl⟩
theorem met_full (l : Launch) (dC : Nat → ClassId) (dI : Nat → Nat → Nat) (dA : Nat → ClassId) (n : Nat) (σ : mdT) (ab be : Int64) : Met l yX5_full (ws_ yX5_full cX5_full 1 (some .int)) { frames := 1, cells := 0, slots := 0, locals := 60 } (mdPc dC dI dA n σ ab be [.ref n]) (va_Qi (fun r_ u => r_ = (-4) ∧ u = mdS σ 3 2 (σ 3 2 + nI 1)) (mdB dC dI dA n ab be) (mdA n)) 0 0 (mdA n) := by
  refine md_in (by decide) rfl (Nat.le_of_ble_eq_true rfl) (lv := [(0, .ref n)]) rfl ?_
  intro p e s m below meth c C hr hlk hP ls hl
  have hx := C.1
  have hb := C.2.1
  have hown := C.2.2.2.1
  have hts := C.2.2.2.2.1
  have hS : va_S (mdA n) s.heap s.heap [] := va_S.rf
  refine lv_aload_n hx hb dX5_full_0 rfl (lv_at hl 0 rfl) ?_
  refine md_g3 C hP dX5_full_1 ?_
  refine lv_iconst (v := nI 2) hx hb dX5_full_4 rfl ?_
  refine lv_dup2_11 hx hb dX5_full_5 rfl rfl ?_
  refine md_l3 C hP (by omega) dX5_full_6 ?_
  refine lv_iconst (v := nI 1) hx hb dX5_full_7 rfl ?_
  refine lv_iadd hx hb dX5_full_8 ?_
  refine md_s3 C hP hS (by omega) dX5_full_9 (fun H locs hP hS => ?_)
  refine lv_bipush (v := (-4)) hx hb dX5_full_10 rfl ?_
  exact md_ri C hr hlk hP hS dX5_full_12 ⟨rfl, rfl⟩
theorem met_views (l : Launch) (dC : Nat → ClassId) (dI : Nat → Nat → Nat) (dA : Nat → ClassId) (n : Nat) (σ : mdT) (ab be : Int64) : Met l yX5_views (ws_ yX5_views cX5_views 1 (some .int)) { frames := 1, cells := 0, slots := 0, locals := 60 } (mdPc dC dI dA n σ ab be [.ref n]) (vp_Si (fun r_ => r_ = (σ 0 0))) 0 0 (fun _ => False) := by
  refine md_in (by decide) rfl (Nat.le_of_ble_eq_true rfl) (lv := [(0, .ref n)]) rfl ?_
  intro p e s m below meth c C hr hlk hP ls hl
  have hx := C.1
  have hb := C.2.1
  have hown := C.2.2.2.1
  have hts := C.2.2.2.2.1
  refine lv_aload_n hx hb dX5_views_0 rfl (lv_at hl 0 rfl) ?_
  refine md_g0 C hP dX5_views_1 ?_
  refine lv_iconst (v := nI 0) hx hb dX5_views_4 rfl ?_
  refine md_l0 C hP (by omega) dX5_views_5 ?_
  exact rv_ri hx hb hr hlk dX5_views_6 rfl
theorem met_renters (l : Launch) (dC : Nat → ClassId) (dI : Nat → Nat → Nat) (dA : Nat → ClassId) (n : Nat) (σ : mdT) (ab be : Int64) : Met l yX5_renters (ws_ yX5_renters cX5_renters 1 (some .int)) { frames := 1, cells := 0, slots := 0, locals := 60 } (mdPc dC dI dA n σ ab be [.ref n]) (vp_Si (fun r_ => r_ = (σ 0 1))) 0 0 (fun _ => False) := by
  refine md_in (by decide) rfl (Nat.le_of_ble_eq_true rfl) (lv := [(0, .ref n)]) rfl ?_
  intro p e s m below meth c C hr hlk hP ls hl
  have hx := C.1
  have hb := C.2.1
  have hown := C.2.2.2.1
  have hts := C.2.2.2.2.1
  refine lv_aload_n hx hb dX5_renters_0 rfl (lv_at hl 0 rfl) ?_
  refine md_g0 C hP dX5_renters_1 ?_
  refine lv_iconst (v := nI 1) hx hb dX5_renters_4 rfl ?_
  refine md_l0 C hP (by omega) dX5_renters_5 ?_
  exact rv_ri hx hb hr hlk dX5_renters_6 rfl
theorem met_isView (l : Launch) (dC : Nat → ClassId) (dI : Nat → Nat → Nat) (dA : Nat → ClassId) (n : Nat) (σ : mdT) (ab be : Int64) (v : Int32) : Met l yX5_isView (ws_ yX5_isView cX5_isView 2 (some .boolean)) { frames := 2, cells := 0, slots := 0, locals := 120 } (mdPc dC dI dA n σ ab be [.ref n, .int v]) (vp_Si (fun r_ => r_ = (rb_i (rv_in v 0 (σ 0 0 - nI 1).toInt)))) 0 0 (fun _ => False) := by
  refine md_in (by decide) rfl (Nat.le_of_ble_eq_true rfl) (lv := [(0, .ref n), (1, .int v)]) rfl ?_
  intro p e s m below meth c C hr hlk hP ls hl
  have hx := C.1
  have hb := C.2.1
  have hown := C.2.2.2.1
  have hts := C.2.2.2.2.1
  refine lv_iload_n hx hb dX5_isView_0 rfl (lv_at hl 1 rfl) ?_
  refine lv_i2l hx hb dX5_isView_1 rfl ?_
  refine lv_lconst (v := 0) hx hb dX5_isView_2 rfl ?_
  refine lv_aload_n hx hb dX5_isView_3 rfl (lv_at hl 0 rfl) ?_
  refine md_cSe (As := []) (rest := [.long 0, .long (Int32.toInt64 v)]) C hP (met_views l dC dI dA n σ ab be) card_views rfl rfl ⟨Nat.le_of_ble_eq_true rfl, Nat.le_of_ble_eq_true rfl⟩ hl.1 (Nat.le_of_ble_eq_true rfl) dX5_isView_4 ?_
  refine lv_iconst (v := nI 1) hx hb dX5_isView_7 rfl ?_
  refine lv_isub hx hb dX5_isView_8 ?_
  refine lv_i2l hx hb dX5_isView_9 rfl ?_
  refine md_sSe (As := [.long (Int32.toInt64 v), .long 0, .long (Int32.toInt64 ((σ 0 0) - 1))]) (rest := []) C (met_in l (Int32.toInt64 v) 0 (Int32.toInt64 ((σ 0 0) - 1))) card_in rfl rfl ⟨Nat.le_of_ble_eq_true rfl, Nat.le_of_ble_eq_true rfl⟩ hl.1 (Nat.le_of_ble_eq_true rfl) dX5_isView_10 ?_
  exact rv_rz hx hb hr hlk (rv_nar _) dX5_isView_13 (by rw [rv_inL_ii]; rfl)
theorem met_isRenter (l : Launch) (dC : Nat → ClassId) (dI : Nat → Nat → Nat) (dA : Nat → ClassId) (n : Nat) (σ : mdT) (ab be : Int64) (v : Int32) : Met l yX5_isRenter (ws_ yX5_isRenter cX5_isRenter 2 (some .boolean)) { frames := 2, cells := 0, slots := 0, locals := 120 } (mdPc dC dI dA n σ ab be [.ref n, .int v]) (vp_Si (fun r_ => r_ = (rb_i (rv_in v 0 (σ 0 1 - nI 1).toInt)))) 0 0 (fun _ => False) := by
  refine md_in (by decide) rfl (Nat.le_of_ble_eq_true rfl) (lv := [(0, .ref n), (1, .int v)]) rfl ?_
  intro p e s m below meth c C hr hlk hP ls hl
  have hx := C.1
  have hb := C.2.1
  have hown := C.2.2.2.1
  have hts := C.2.2.2.2.1
  refine lv_iload_n hx hb dX5_isRenter_0 rfl (lv_at hl 1 rfl) ?_
  refine lv_i2l hx hb dX5_isRenter_1 rfl ?_
  refine lv_lconst (v := 0) hx hb dX5_isRenter_2 rfl ?_
  refine lv_aload_n hx hb dX5_isRenter_3 rfl (lv_at hl 0 rfl) ?_
  refine md_cSe (As := []) (rest := [.long 0, .long (Int32.toInt64 v)]) C hP (met_renters l dC dI dA n σ ab be) card_renters rfl rfl ⟨Nat.le_of_ble_eq_true rfl, Nat.le_of_ble_eq_true rfl⟩ hl.1 (Nat.le_of_ble_eq_true rfl) dX5_isRenter_4 ?_
  refine lv_iconst (v := nI 1) hx hb dX5_isRenter_7 rfl ?_
  refine lv_isub hx hb dX5_isRenter_8 ?_
  refine lv_i2l hx hb dX5_isRenter_9 rfl ?_
  refine md_sSe (As := [.long (Int32.toInt64 v), .long 0, .long (Int32.toInt64 ((σ 0 1) - 1))]) (rest := []) C (met_in l (Int32.toInt64 v) 0 (Int32.toInt64 ((σ 0 1) - 1))) card_in rfl rfl ⟨Nat.le_of_ble_eq_true rfl, Nat.le_of_ble_eq_true rfl⟩ hl.1 (Nat.le_of_ble_eq_true rfl) dX5_isRenter_10 ?_
  exact rv_rz hx hb hr hlk (rv_nar _) dX5_isRenter_13 (by rw [rv_inL_ii]; rfl)
theorem met_isEvening (l : Launch) (v : Int32) : Met l yX5_isEvening (ws_ yX5_isEvening cX5_isEvening 1 (some .boolean)) { frames := 2, cells := 0, slots := 0, locals := 120 } (fun v_ _ => v_ = [.int v].toArray) (vp_Si (fun r_ => r_ = (rb_i (rv_in v 0 99)))) 0 0 (fun _ => False) := by
  refine rv_inS (by decide) (Nat.le_of_ble_eq_true rfl) (lv := [(0, .int v)]) rfl ?_
  intro p e s m below meth c hx hb hml hown hts hr hlk ls hl
  refine lv_iload_n hx hb dX5_isEvening_0 rfl (lv_at hl 0 rfl) ?_
  refine lv_i2l hx hb dX5_isEvening_1 rfl ?_
  refine lv_lconst (v := 0) hx hb dX5_isEvening_2 rfl ?_
  refine lv_ldc2 (v := 99) hx hb hown (hts _ q1002) dX5_isEvening_3 ?_
  refine rv_sSe (As := [.long (Int32.toInt64 v), .long 0, .long 99]) (rest := []) ⟨hx, hb, hml, hown, hts⟩ (met_in l (Int32.toInt64 v) 0 99) card_in rfl rfl ⟨Nat.le_of_ble_eq_true rfl, Nat.le_of_ble_eq_true rfl⟩ hl.1 (Nat.le_of_ble_eq_true rfl) dX5_isEvening_6 ?_
  exact rv_rz hx hb hr hlk (rv_nar _) dX5_isEvening_9 (by rw [rv_inL_i]; rfl)
theorem met_isWeather (l : Launch) (v : Int32) : Met l yX5_isWeather (ws_ yX5_isWeather cX5_isWeather 1 (some .boolean)) { frames := 2, cells := 0, slots := 0, locals := 120 } (fun v_ _ => v_ = [.int v].toArray) (vp_Si (fun r_ => r_ = (rb_i (rv_in v 0 5)))) 0 0 (fun _ => False) := by
  refine rv_inS (by decide) (Nat.le_of_ble_eq_true rfl) (lv := [(0, .int v)]) rfl ?_
  intro p e s m below meth c hx hb hml hown hts hr hlk ls hl
  refine lv_iload_n hx hb dX5_isWeather_0 rfl (lv_at hl 0 rfl) ?_
  refine lv_i2l hx hb dX5_isWeather_1 rfl ?_
  refine lv_lconst (v := 0) hx hb dX5_isWeather_2 rfl ?_
  refine lv_ldc2 (v := 5) hx hb hown (hts _ q997) dX5_isWeather_3 ?_
  refine rv_sSe (As := [.long (Int32.toInt64 v), .long 0, .long 5]) (rest := []) ⟨hx, hb, hml, hown, hts⟩ (met_in l (Int32.toInt64 v) 0 5) card_in rfl rfl ⟨Nat.le_of_ble_eq_true rfl, Nat.le_of_ble_eq_true rfl⟩ hl.1 (Nat.le_of_ble_eq_true rfl) dX5_isWeather_6 ?_
  exact rv_rz hx hb hr hlk (rv_nar _) dX5_isWeather_9 (by rw [rv_inL_i]; rfl)
theorem met_viewHas (l : Launch) (dC : Nat → ClassId) (dI : Nat → Nat → Nat) (dA : Nat → ClassId) (n : Nat) (σ : mdT) (ab be : Int64) (v : Nat) (w : Nat) (hv : v < 6) (hw : w < 6) : Met l yX5_viewHas (ws_ yX5_viewHas cX5_viewHas 3 (some .int)) { frames := 1, cells := 0, slots := 0, locals := 60 } (mdPc dC dI dA n σ ab be [.ref n, .int (nI v), .int (nI w)]) (vp_Si (fun r_ => r_ = (σ 0 (7 + 6 * v + w)))) 0 0 (fun _ => False) := by
  refine md_in (by decide) rfl (Nat.le_of_ble_eq_true rfl) (lv := [(0, .ref n), (1, .int (nI v)), (2, .int (nI w))]) rfl ?_
  intro p e s m below meth c C hr hlk hP ls hl
  have hx := C.1
  have hb := C.2.1
  have hown := C.2.2.2.1
  have hts := C.2.2.2.2.1
  refine lv_aload_n hx hb dX5_viewHas_0 rfl (lv_at hl 0 rfl) ?_
  refine md_g0 C hP dX5_viewHas_1 ?_
  refine lv_bipush (v := nI 7) hx hb dX5_viewHas_4 rfl ?_
  refine lv_bipush (v := nI 6) hx hb dX5_viewHas_6 rfl ?_
  refine lv_iload_n hx hb dX5_viewHas_8 rfl (lv_at hl 1 rfl) ?_
  refine rn_imul hx hb dX5_viewHas_9 ?_
  refine rn_iadd hx hb dX5_viewHas_10 ?_
  refine lv_iload_n hx hb dX5_viewHas_11 rfl (lv_at hl 2 rfl) ?_
  refine rn_iadd hx hb dX5_viewHas_12 ?_
  refine md_l0 C hP (by omega) dX5_viewHas_13 ?_
  exact rv_ri hx hb hr hlk dX5_viewHas_14 rfl
theorem met_renterHas (l : Launch) (dC : Nat → ClassId) (dI : Nat → Nat → Nat) (dA : Nat → ClassId) (n : Nat) (σ : mdT) (ab be : Int64) (v : Nat) (w : Nat) (hv : v < 6) (hw : w < 3) : Met l yX5_renterHas (ws_ yX5_renterHas cX5_renterHas 3 (some .int)) { frames := 1, cells := 0, slots := 0, locals := 60 } (mdPc dC dI dA n σ ab be [.ref n, .int (nI v), .int (nI w)]) (vp_Si (fun r_ => r_ = (σ 0 (43 + 3 * v + w)))) 0 0 (fun _ => False) := by
  refine md_in (by decide) rfl (Nat.le_of_ble_eq_true rfl) (lv := [(0, .ref n), (1, .int (nI v)), (2, .int (nI w))]) rfl ?_
  intro p e s m below meth c C hr hlk hP ls hl
  have hx := C.1
  have hb := C.2.1
  have hown := C.2.2.2.1
  have hts := C.2.2.2.2.1
  refine lv_aload_n hx hb dX5_renterHas_0 rfl (lv_at hl 0 rfl) ?_
  refine md_g0 C hP dX5_renterHas_1 ?_
  refine lv_bipush (v := nI 43) hx hb dX5_renterHas_4 rfl ?_
  refine lv_iconst (v := nI 3) hx hb dX5_renterHas_6 rfl ?_
  refine lv_iload_n hx hb dX5_renterHas_7 rfl (lv_at hl 1 rfl) ?_
  refine rn_imul hx hb dX5_renterHas_8 ?_
  refine rn_iadd hx hb dX5_renterHas_9 ?_
  refine lv_iload_n hx hb dX5_renterHas_10 rfl (lv_at hl 2 rfl) ?_
  refine rn_iadd hx hb dX5_renterHas_11 ?_
  refine md_l0 C hP (by omega) dX5_renterHas_12 ?_
  exact rv_ri hx hb hr hlk dX5_renterHas_13 rfl
def md_begin (σ : mdT) (a i : Nat) : mdT := va_up σ a (fun k => if k < i then 0 else σ a k)
theorem md_begin_0 (σ : mdT) (a : Nat) : md_begin σ a 0 = σ := by
  funext b
  unfold md_begin va_up
  by_cases h : b = a
  · rw [if_pos h, h]; funext k; simp
  · rw [if_neg h]
theorem md_begin_s (σ : mdT) (a i : Nat) : mdS (md_begin σ a i) a i 0 = md_begin σ a (i + 1) := by
  funext b k
  rw [mdS_at]
  unfold md_begin va_up
  by_cases h : b = a
  · subst h
    by_cases h2 : k = i
    · simp [h2]
    · simp only [true_and, if_neg h2, if_pos]
      by_cases h3 : k < i
      · rw [if_pos h3, if_pos (by omega)]
      · rw [if_neg h3, if_neg (by omega)]
  · simp [h]
theorem met_begin_0 (l : Launch) (dC : Nat → ClassId) (dI : Nat → Nat → Nat) (dA : Nat → ClassId) (n : Nat) (σ : mdT) (ab be : Int64) : Met l yX5_begin (ws_ yX5_begin cX5_begin 2 none) { frames := 1, cells := 0, slots := 0, locals := 60 } (mdPc dC dI dA n σ ab be [.ref (n + 1)]) (va_Qv (fun u => u = md_begin σ 0 115) (mdB dC dI dA n ab be) (mdA n)) 0 0 (mdA n) := by
  refine md_in (by decide) rfl (Nat.le_of_ble_eq_true rfl) (lv := [(0, .ref (n + 1))]) rfl ?_
  intro p e s m below meth c C hr hlk hP ls hl
  have hx := C.1
  have hb := C.2.1
  have hown := C.2.2.2.1
  have hts := C.2.2.2.2.1
  have hS : va_S (mdA n) s.heap s.heap [] := va_S.rf
  have K2 : ∀ (k2_ : Nat) (i : Nat) (σ1 : mdT) (H : Heap) (locs : List Loc), 115 - i = k2_ → (i ≤ 115) → (σ1 = md_begin σ 0 i) → mdP dC dI dA n σ1 ab be H → va_S (mdA n) s.heap H locs → ∀ ls, lv_has ls 2 [(0, .ref (n + 1)), (1, .int (nI i))] → W p l e { frames := 1, cells := 0, slots := 0, locals := 60 } s m [.ref (n + 1)].toArray below meth c H locs 0 0 (MQ below (va_Qv (fun u => u = md_begin σ 0 115) (mdB dC dI dA n ab be) (mdA n)) [.ref (n + 1)].toArray s 0 0 (mdA n)) (F0 m 2 ls []) := by
    intro k2_
    induction k2_ using Nat.strongRecOn with
    | _ k2_ ih2 =>
      intro i σ1 H locs hm2_ hi hs hP hS ls hl
      refine lv_iload_n hx hb dX5_begin_2 rfl (lv_at hl 1 rfl) ?_
      refine lv_bipush (v := nI 115) hx hb dX5_begin_3 rfl ?_
      refine rn_icmp_ge (tgt := 18) hx hb (by omega) (by omega) dX5_begin_5 (by decide) (fun c_5 => ?_) (fun c_5 => ?_)
      · exact md_rv C hr hlk hP hS dX5_begin_18 (by rw [hs, show i = 115 by omega])
      · refine lv_aload_n hx hb dX5_begin_8 rfl (lv_at hl 0 rfl) ?_
        refine lv_iload_n hx hb dX5_begin_9 rfl (lv_at hl 1 rfl) ?_
        refine lv_iconst (v := nI 0) hx hb dX5_begin_10 rfl ?_
        refine md_s0 C hP hS (by omega) dX5_begin_11 (fun H locs hP hS => ?_)
        refine rn_iinc (lv' := [(1, .int (nI (i + 1))), (0, .ref (n + 1))]) hx hb dX5_begin_12 hl (k := 1) rfl (by decide) rfl (fun ls hl => ?_)
        refine lv_goto (tgt := 2) hx hb dX5_begin_15 (by decide) ?_
        exact ih2 _ (by omega) (i + 1) (mdS σ1 0 i (nI 0)) _ _ rfl (by omega) (by rw [hs]; exact md_begin_s σ 0 i) hP hS ls (lv_sub hl [1, 0] rfl)
  refine lv_iconst (v := nI 0) hx hb dX5_begin_0 rfl ?_
  refine lv_istore_n (lv' := [(1, .int (nI 0)), (0, .ref (n + 1))]) hx hb dX5_begin_1 rfl hl (by decide) rfl (fun ls hl => ?_)
  exact K2 _ 0 σ _ _ rfl (by omega) (md_begin_0 σ 0).symm hP hS ls (lv_sub hl [1, 0] rfl)
theorem met_begin_13 (l : Launch) (dC : Nat → ClassId) (dI : Nat → Nat → Nat) (dA : Nat → ClassId) (n : Nat) (σ : mdT) (ab be : Int64) : Met l yX5_begin (ws_ yX5_begin cX5_begin 2 none) { frames := 1, cells := 0, slots := 0, locals := 60 } (mdPc dC dI dA n σ ab be [.ref (n + 14)]) (va_Qv (fun u => u = md_begin σ 13 115) (mdB dC dI dA n ab be) (mdA n)) 0 0 (mdA n) := by
  refine md_in (by decide) rfl (Nat.le_of_ble_eq_true rfl) (lv := [(0, .ref (n + 14))]) rfl ?_
  intro p e s m below meth c C hr hlk hP ls hl
  have hx := C.1
  have hb := C.2.1
  have hown := C.2.2.2.1
  have hts := C.2.2.2.2.1
  have hS : va_S (mdA n) s.heap s.heap [] := va_S.rf
  have K2 : ∀ (k2_ : Nat) (i : Nat) (σ1 : mdT) (H : Heap) (locs : List Loc), 115 - i = k2_ → (i ≤ 115) → (σ1 = md_begin σ 13 i) → mdP dC dI dA n σ1 ab be H → va_S (mdA n) s.heap H locs → ∀ ls, lv_has ls 2 [(0, .ref (n + 14)), (1, .int (nI i))] → W p l e { frames := 1, cells := 0, slots := 0, locals := 60 } s m [.ref (n + 14)].toArray below meth c H locs 0 0 (MQ below (va_Qv (fun u => u = md_begin σ 13 115) (mdB dC dI dA n ab be) (mdA n)) [.ref (n + 14)].toArray s 0 0 (mdA n)) (F0 m 2 ls []) := by
    intro k2_
    induction k2_ using Nat.strongRecOn with
    | _ k2_ ih2 =>
      intro i σ1 H locs hm2_ hi hs hP hS ls hl
      refine lv_iload_n hx hb dX5_begin_2 rfl (lv_at hl 1 rfl) ?_
      refine lv_bipush (v := nI 115) hx hb dX5_begin_3 rfl ?_
      refine rn_icmp_ge (tgt := 18) hx hb (by omega) (by omega) dX5_begin_5 (by decide) (fun c_5 => ?_) (fun c_5 => ?_)
      · exact md_rv C hr hlk hP hS dX5_begin_18 (by rw [hs, show i = 115 by omega])
      · refine lv_aload_n hx hb dX5_begin_8 rfl (lv_at hl 0 rfl) ?_
        refine lv_iload_n hx hb dX5_begin_9 rfl (lv_at hl 1 rfl) ?_
        refine lv_iconst (v := nI 0) hx hb dX5_begin_10 rfl ?_
        refine md_s13 C hP hS (by omega) dX5_begin_11 (fun H locs hP hS => ?_)
        refine rn_iinc (lv' := [(1, .int (nI (i + 1))), (0, .ref (n + 14))]) hx hb dX5_begin_12 hl (k := 1) rfl (by decide) rfl (fun ls hl => ?_)
        refine lv_goto (tgt := 2) hx hb dX5_begin_15 (by decide) ?_
        exact ih2 _ (by omega) (i + 1) (mdS σ1 13 i (nI 0)) _ _ rfl (by omega) (by rw [hs]; exact md_begin_s σ 13 i) hP hS ls (lv_sub hl [1, 0] rfl)
  refine lv_iconst (v := nI 0) hx hb dX5_begin_0 rfl ?_
  refine lv_istore_n (lv' := [(1, .int (nI 0)), (0, .ref (n + 14))]) hx hb dX5_begin_1 rfl hl (by decide) rfl (fun ls hl => ?_)
  exact K2 _ 0 σ _ _ rfl (by omega) (md_begin_0 σ 13).symm hP hS ls (lv_sub hl [1, 0] rfl)
theorem met_shop (l : Launch) (dC : Nat → ClassId) (dI : Nat → Nat → Nat) (dA : Nat → ClassId) (n : Nat) (σ : mdT) (ab be : Int64) : Met l yX5_shop (ws_ yX5_shop cX5_shop 2 (some .int)) { frames := 2, cells := 0, slots := 0, locals := 120 } (mdPc dC dI dA n σ ab be [.ref n]) (va_Qi (fun r_ u => r_ = (σ 0 0) ∧ u = md_begin σ 0 115) (mdB dC dI dA n ab be) (mdA n)) 0 0 (mdA n) := by
  refine md_in (by decide) rfl (Nat.le_of_ble_eq_true rfl) (lv := [(0, .ref n)]) rfl ?_
  intro p e s m below meth c C hr hlk hP ls hl
  have hx := C.1
  have hb := C.2.1
  have hown := C.2.2.2.1
  have hts := C.2.2.2.2.1
  have hS : va_S (mdA n) s.heap s.heap [] := va_S.rf
  refine lv_aload_n hx hb dX5_shop_0 rfl (lv_at hl 0 rfl) ?_
  refine md_cSe (As := []) (rest := []) C hP (met_views l dC dI dA n σ ab be) card_views rfl rfl ⟨Nat.le_of_ble_eq_true rfl, Nat.le_of_ble_eq_true rfl⟩ hl.1 (Nat.le_of_ble_eq_true rfl) dX5_shop_1 ?_
  refine lv_istore_n (lv' := [(1, .int (σ 0 0)), (0, .ref n)]) hx hb dX5_shop_4 rfl hl (by decide) rfl (fun ls hl => ?_)
  refine lv_aload_n hx hb dX5_shop_5 rfl (lv_at hl 1 rfl) ?_
  refine md_g0 C hP dX5_shop_6 ?_
  refine md_sWve (As := [.ref (n + 1)]) (rest := []) C hP hS (met_begin_0 l dC dI dA n σ ab be) card_begin rfl rfl ⟨Nat.le_of_ble_eq_true rfl, Nat.le_of_ble_eq_true rfl⟩ hl.1 (Nat.le_of_ble_eq_true rfl) dX5_shop_9 (fun H locs hP hS => ?_)
  refine lv_iload_n hx hb dX5_shop_12 rfl (lv_at hl 0 rfl) ?_
  exact md_ri C hr hlk hP hS dX5_shop_13 ⟨rfl, rfl⟩
theorem met_isViewTold (l : Launch) (kd : Int32) (sz : Int32) (pr : Int32) (we : Int32) : Met l yX5_isViewTold (ws_ yX5_isViewTold cX5_isViewTold 4 (some .boolean)) { frames := 3, cells := 0, slots := 0, locals := 180 } (fun v_ _ => v_ = [.int kd, .int sz, .int pr, .int we].toArray) (vp_Si (fun r_ => r_ = (rb_i (rv_in kd 0 5 && rv_in sz 1 9 && rv_in pr 0 99 && rv_in we 0 5)))) 0 0 (fun _ => False) := by
  refine rv_inS (by decide) (Nat.le_of_ble_eq_true rfl) (lv := [(0, .int kd), (1, .int sz), (2, .int pr), (3, .int we)]) rfl ?_
  intro p e s m below meth c hx hb hml hown hts hr hlk ls hl
  refine lv_iload_n hx hb dX5_isViewTold_0 rfl (lv_at hl 0 rfl) ?_
  refine lv_i2l hx hb dX5_isViewTold_1 rfl ?_
  refine lv_lconst (v := 0) hx hb dX5_isViewTold_2 rfl ?_
  refine lv_ldc2 (v := 5) hx hb hown (hts _ q997) dX5_isViewTold_3 ?_
  refine rv_sSe (As := [.long (Int32.toInt64 kd), .long 0, .long 5]) (rest := []) ⟨hx, hb, hml, hown, hts⟩ (met_in l (Int32.toInt64 kd) 0 5) card_in rfl rfl ⟨Nat.le_of_ble_eq_true rfl, Nat.le_of_ble_eq_true rfl⟩ hl.1 (Nat.le_of_ble_eq_true rfl) dX5_isViewTold_6 ?_
  refine rn_zt (tgt := 47) hx hb dX5_isViewTold_9 (by decide) (fun c_9 => ?_) (fun c_9 => ?_)
  · refine lv_iconst (v := nI 0) hx hb dX5_isViewTold_47 rfl ?_
    exact rv_rz hx hb hr hlk rfl dX5_isViewTold_48 (by simp only [rv_inL_i] at *; first | exact (rb_is1 (by simp_all [Int64.toInt])) | exact (rb_is0 (by simp_all)))
  · refine lv_iload_n hx hb dX5_isViewTold_12 rfl (lv_at hl 1 rfl) ?_
    refine lv_i2l hx hb dX5_isViewTold_13 rfl ?_
    refine lv_lconst (v := 1) hx hb dX5_isViewTold_14 rfl ?_
    refine lv_ldc2 (v := 9) hx hb hown (hts _ q1001) dX5_isViewTold_15 ?_
    refine rv_sSe (As := [.long (Int32.toInt64 sz), .long 1, .long 9]) (rest := []) ⟨hx, hb, hml, hown, hts⟩ (met_in l (Int32.toInt64 sz) 1 9) card_in rfl rfl ⟨Nat.le_of_ble_eq_true rfl, Nat.le_of_ble_eq_true rfl⟩ hl.1 (Nat.le_of_ble_eq_true rfl) dX5_isViewTold_18 ?_
    refine rn_zt (tgt := 47) hx hb dX5_isViewTold_21 (by decide) (fun c_21 => ?_) (fun c_21 => ?_)
    · refine lv_iconst (v := nI 0) hx hb dX5_isViewTold_47 rfl ?_
      exact rv_rz hx hb hr hlk rfl dX5_isViewTold_48 (by simp only [rv_inL_i] at *; first | exact (rb_is1 (by simp_all [Int64.toInt])) | exact (rb_is0 (by simp_all)))
    · refine lv_iload_n hx hb dX5_isViewTold_24 rfl (lv_at hl 2 rfl) ?_
      refine lv_i2l hx hb dX5_isViewTold_25 rfl ?_
      refine lv_lconst (v := 0) hx hb dX5_isViewTold_26 rfl ?_
      refine lv_ldc2 (v := 99) hx hb hown (hts _ q1002) dX5_isViewTold_27 ?_
      refine rv_sSe (As := [.long (Int32.toInt64 pr), .long 0, .long 99]) (rest := []) ⟨hx, hb, hml, hown, hts⟩ (met_in l (Int32.toInt64 pr) 0 99) card_in rfl rfl ⟨Nat.le_of_ble_eq_true rfl, Nat.le_of_ble_eq_true rfl⟩ hl.1 (Nat.le_of_ble_eq_true rfl) dX5_isViewTold_30 ?_
      refine rn_zt (tgt := 47) hx hb dX5_isViewTold_33 (by decide) (fun c_33 => ?_) (fun c_33 => ?_)
      · refine lv_iconst (v := nI 0) hx hb dX5_isViewTold_47 rfl ?_
        exact rv_rz hx hb hr hlk rfl dX5_isViewTold_48 (by simp only [rv_inL_i] at *; first | exact (rb_is1 (by simp_all [Int64.toInt])) | exact (rb_is0 (by simp_all)))
      · refine lv_iload_n hx hb dX5_isViewTold_36 rfl (lv_at hl 3 rfl) ?_
        refine rv_sSe (As := [.int we]) (rest := []) ⟨hx, hb, hml, hown, hts⟩ (met_isWeather l we) card_isWeather rfl rfl ⟨Nat.le_of_ble_eq_true rfl, Nat.le_of_ble_eq_true rfl⟩ hl.1 (Nat.le_of_ble_eq_true rfl) dX5_isViewTold_37 ?_
        refine rn_zt (tgt := 47) hx hb dX5_isViewTold_40 (by decide) (fun c_40 => ?_) (fun c_40 => ?_)
        · refine lv_iconst (v := nI 0) hx hb dX5_isViewTold_47 rfl ?_
          exact rv_rz hx hb hr hlk rfl dX5_isViewTold_48 (by simp only [rv_inL_i] at *; first | exact (rb_is1 (by simp_all [Int64.toInt])) | exact (rb_is0 (by simp_all)))
        · refine lv_iconst (v := nI 1) hx hb dX5_isViewTold_43 rfl ?_
          refine lv_goto (tgt := 48) hx hb dX5_isViewTold_44 (by decide) ?_
          exact rv_rz hx hb hr hlk rfl dX5_isViewTold_48 (by simp only [rv_inL_i] at *; first | exact (rb_is1 (by simp_all [Int64.toInt])) | exact (rb_is0 (by simp_all)))
theorem met_isRenterTold (l : Launch) (wl : Int32) (pu : Int32) (wa : Int32) : Met l yX5_isRenterTold (ws_ yX5_isRenterTold cX5_isRenterTold 3 (some .boolean)) { frames := 2, cells := 0, slots := 0, locals := 120 } (fun v_ _ => v_ = [.int wl, .int pu, .int wa].toArray) (vp_Si (fun r_ => r_ = (rb_i (rv_in wl 1 9 && rv_in pu 0 999 && rv_in wa 0 6)))) 0 0 (fun _ => False) := by
  refine rv_inS (by decide) (Nat.le_of_ble_eq_true rfl) (lv := [(0, .int wl), (1, .int pu), (2, .int wa)]) rfl ?_
  intro p e s m below meth c hx hb hml hown hts hr hlk ls hl
  refine lv_iload_n hx hb dX5_isRenterTold_0 rfl (lv_at hl 0 rfl) ?_
  refine lv_i2l hx hb dX5_isRenterTold_1 rfl ?_
  refine lv_lconst (v := 1) hx hb dX5_isRenterTold_2 rfl ?_
  refine lv_ldc2 (v := 9) hx hb hown (hts _ q1001) dX5_isRenterTold_3 ?_
  refine rv_sSe (As := [.long (Int32.toInt64 wl), .long 1, .long 9]) (rest := []) ⟨hx, hb, hml, hown, hts⟩ (met_in l (Int32.toInt64 wl) 1 9) card_in rfl rfl ⟨Nat.le_of_ble_eq_true rfl, Nat.le_of_ble_eq_true rfl⟩ hl.1 (Nat.le_of_ble_eq_true rfl) dX5_isRenterTold_6 ?_
  refine rn_zt (tgt := 40) hx hb dX5_isRenterTold_9 (by decide) (fun c_9 => ?_) (fun c_9 => ?_)
  · refine lv_iconst (v := nI 0) hx hb dX5_isRenterTold_40 rfl ?_
    exact rv_rz hx hb hr hlk rfl dX5_isRenterTold_41 (by simp only [rv_inL_i] at *; first | exact (rb_is1 (by simp_all [Int64.toInt])) | exact (rb_is0 (by simp_all)))
  · refine lv_iload_n hx hb dX5_isRenterTold_12 rfl (lv_at hl 1 rfl) ?_
    refine lv_i2l hx hb dX5_isRenterTold_13 rfl ?_
    refine lv_lconst (v := 0) hx hb dX5_isRenterTold_14 rfl ?_
    refine lv_ldc2 (v := 999) hx hb hown (hts _ q1024) dX5_isRenterTold_15 ?_
    refine rv_sSe (As := [.long (Int32.toInt64 pu), .long 0, .long 999]) (rest := []) ⟨hx, hb, hml, hown, hts⟩ (met_in l (Int32.toInt64 pu) 0 999) card_in rfl rfl ⟨Nat.le_of_ble_eq_true rfl, Nat.le_of_ble_eq_true rfl⟩ hl.1 (Nat.le_of_ble_eq_true rfl) dX5_isRenterTold_18 ?_
    refine rn_zt (tgt := 40) hx hb dX5_isRenterTold_21 (by decide) (fun c_21 => ?_) (fun c_21 => ?_)
    · refine lv_iconst (v := nI 0) hx hb dX5_isRenterTold_40 rfl ?_
      exact rv_rz hx hb hr hlk rfl dX5_isRenterTold_41 (by simp only [rv_inL_i] at *; first | exact (rb_is1 (by simp_all [Int64.toInt])) | exact (rb_is0 (by simp_all)))
    · refine lv_iload_n hx hb dX5_isRenterTold_24 rfl (lv_at hl 2 rfl) ?_
      refine lv_i2l hx hb dX5_isRenterTold_25 rfl ?_
      refine lv_lconst (v := 0) hx hb dX5_isRenterTold_26 rfl ?_
      refine lv_ldc2 (v := 6) hx hb hown (hts _ q1025) dX5_isRenterTold_27 ?_
      refine rv_sSe (As := [.long (Int32.toInt64 wa), .long 0, .long 6]) (rest := []) ⟨hx, hb, hml, hown, hts⟩ (met_in l (Int32.toInt64 wa) 0 6) card_in rfl rfl ⟨Nat.le_of_ble_eq_true rfl, Nat.le_of_ble_eq_true rfl⟩ hl.1 (Nat.le_of_ble_eq_true rfl) dX5_isRenterTold_30 ?_
      refine rn_zt (tgt := 40) hx hb dX5_isRenterTold_33 (by decide) (fun c_33 => ?_) (fun c_33 => ?_)
      · refine lv_iconst (v := nI 0) hx hb dX5_isRenterTold_40 rfl ?_
        exact rv_rz hx hb hr hlk rfl dX5_isRenterTold_41 (by simp only [rv_inL_i] at *; first | exact (rb_is1 (by simp_all [Int64.toInt])) | exact (rb_is0 (by simp_all)))
      · refine lv_iconst (v := nI 1) hx hb dX5_isRenterTold_36 rfl ?_
        refine lv_goto (tgt := 41) hx hb dX5_isRenterTold_37 (by decide) ?_
        exact rv_rz hx hb hr hlk rfl dX5_isRenterTold_41 (by simp only [rv_inL_i] at *; first | exact (rb_is1 (by simp_all [Int64.toInt])) | exact (rb_is0 (by simp_all)))
/-- a view, a renter laid into the row a of numbers, which has many of them -/
def md_layV (σ : mdT) (a many : Nat) (kd sz pr we : Int32) : mdT := mdS (mdS (mdS (mdS (mdS (mdS (mdS σ a (7 + 6 * many) kd) a (7 + 6 * many + 1) sz) a (7 + 6 * many + 2) pr) a (7 + 6 * many + 3) we) a (7 + 6 * many + 4) (-1)) a (7 + 6 * many + 5) 0) a 0 (nI (many + 1))
def md_layR (σ : mdT) (a rent : Nat) (wl pu wa : Int32) : mdT := mdS (mdS (mdS (mdS σ a (43 + 3 * rent) wl) a (43 + 3 * rent + 1) pu) a (43 + 3 * rent + 2) wa) a 1 (nI (rent + 1))
theorem mdS_ne {σ : mdT} {a k : Nat} {v : Int32} {k2 : Nat} (h : k2 ≠ k) : mdS σ a k v a k2 = σ a k2 := by rw [mdS_at, if_neg (by simp [h])]
theorem met_layView_0 (l : Launch) (dC : Nat → ClassId) (dI : Nat → Nat → Nat) (dA : Nat → ClassId) (n : Nat) (σ : mdT) (ab be : Int64) (kd : Int32) (sz : Int32) (pr : Int32) (we : Int32) (many : Nat) (hm : many < 6) (h0 : σ 0 0 = nI many) : Met l yX5_layView (ws_ yX5_layView cX5_layView 6 none) { frames := 1, cells := 0, slots := 0, locals := 60 } (mdPc dC dI dA n σ ab be [.ref (n + 1), .int kd, .int sz, .int pr, .int we]) (va_Qv (fun u => u = md_layV σ 0 many kd sz pr we) (mdB dC dI dA n ab be) (mdA n)) 0 0 (mdA n) := by
  refine md_in (by decide) rfl (Nat.le_of_ble_eq_true rfl) (lv := [(0, .ref (n + 1)), (1, .int kd), (2, .int sz), (3, .int pr), (4, .int we)]) rfl ?_
  intro p e s m below meth c C hr hlk hP ls hl
  have hx := C.1
  have hb := C.2.1
  have hown := C.2.2.2.1
  have hts := C.2.2.2.2.1
  have hS : va_S (mdA n) s.heap s.heap [] := va_S.rf
  refine lv_bipush (v := nI 7) hx hb dX5_layView_0 rfl ?_
  refine lv_bipush (v := nI 6) hx hb dX5_layView_2 rfl ?_
  refine lv_aload_n hx hb dX5_layView_4 rfl (lv_at hl 0 rfl) ?_
  refine lv_iconst (v := nI 0) hx hb dX5_layView_5 rfl ?_
  refine md_l0 C hP (by omega) dX5_layView_6 ?_
  refine rn_co (y := nI many) h0 ?_
  refine rn_imul hx hb dX5_layView_7 ?_
  refine rn_iadd hx hb dX5_layView_8 ?_
  refine lv_istore (lv' := [(5, .int (nI (7 + (6 * many)))), (0, .ref (n + 1)), (1, .int kd), (2, .int sz), (3, .int pr), (4, .int we)]) hx hb dX5_layView_9 hl (by decide) rfl (fun ls hl => ?_)
  refine lv_aload_n hx hb dX5_layView_11 rfl (lv_at hl 1 rfl) ?_
  refine lv_iload hx hb dX5_layView_12 (lv_at hl 0 rfl) ?_
  refine lv_iconst (v := nI 0) hx hb dX5_layView_14 rfl ?_
  refine rn_iadd hx hb dX5_layView_15 ?_
  refine lv_iload_n hx hb dX5_layView_16 rfl (lv_at hl 2 rfl) ?_
  refine md_s0 C hP hS (by omega) dX5_layView_17 (fun H locs hP hS => ?_)
  refine lv_aload_n hx hb dX5_layView_18 rfl (lv_at hl 1 rfl) ?_
  refine lv_iload hx hb dX5_layView_19 (lv_at hl 0 rfl) ?_
  refine lv_iconst (v := nI 1) hx hb dX5_layView_21 rfl ?_
  refine rn_iadd hx hb dX5_layView_22 ?_
  refine lv_iload_n hx hb dX5_layView_23 rfl (lv_at hl 3 rfl) ?_
  refine md_s0 C hP hS (by omega) dX5_layView_24 (fun H locs hP hS => ?_)
  refine lv_aload_n hx hb dX5_layView_25 rfl (lv_at hl 1 rfl) ?_
  refine lv_iload hx hb dX5_layView_26 (lv_at hl 0 rfl) ?_
  refine lv_iconst (v := nI 2) hx hb dX5_layView_28 rfl ?_
  refine rn_iadd hx hb dX5_layView_29 ?_
  refine lv_iload_n hx hb dX5_layView_30 rfl (lv_at hl 4 rfl) ?_
  refine md_s0 C hP hS (by omega) dX5_layView_31 (fun H locs hP hS => ?_)
  refine lv_aload_n hx hb dX5_layView_32 rfl (lv_at hl 1 rfl) ?_
  refine lv_iload hx hb dX5_layView_33 (lv_at hl 0 rfl) ?_
  refine lv_iconst (v := nI 3) hx hb dX5_layView_35 rfl ?_
  refine rn_iadd hx hb dX5_layView_36 ?_
  refine lv_iload hx hb dX5_layView_37 (lv_at hl 5 rfl) ?_
  refine md_s0 C hP hS (by omega) dX5_layView_39 (fun H locs hP hS => ?_)
  refine lv_aload_n hx hb dX5_layView_40 rfl (lv_at hl 1 rfl) ?_
  refine lv_iload hx hb dX5_layView_41 (lv_at hl 0 rfl) ?_
  refine lv_iconst (v := nI 4) hx hb dX5_layView_43 rfl ?_
  refine rn_iadd hx hb dX5_layView_44 ?_
  refine lv_iconst (v := (-1)) hx hb dX5_layView_45 rfl ?_
  refine md_s0 C hP hS (by omega) dX5_layView_46 (fun H locs hP hS => ?_)
  refine lv_aload_n hx hb dX5_layView_47 rfl (lv_at hl 1 rfl) ?_
  refine lv_iload hx hb dX5_layView_48 (lv_at hl 0 rfl) ?_
  refine lv_iconst (v := nI 5) hx hb dX5_layView_50 rfl ?_
  refine rn_iadd hx hb dX5_layView_51 ?_
  refine lv_iconst (v := nI 0) hx hb dX5_layView_52 rfl ?_
  refine md_s0 C hP hS (by omega) dX5_layView_53 (fun H locs hP hS => ?_)
  refine lv_aload_n hx hb dX5_layView_54 rfl (lv_at hl 1 rfl) ?_
  refine lv_iconst (v := nI 0) hx hb dX5_layView_55 rfl ?_
  refine lv_dup2_11 hx hb dX5_layView_56 rfl rfl ?_
  refine md_l0 C hP (by omega) dX5_layView_57 ?_
  refine lv_iconst (v := nI 1) hx hb dX5_layView_58 rfl ?_
  refine lv_iadd hx hb dX5_layView_59 ?_
  refine md_s0 C hP hS (by omega) dX5_layView_60 (fun H locs hP hS => ?_)
  exact md_rv C hr hlk hP hS dX5_layView_61 (congrArg (mdS _ 0 0) (by simp only [mdS_at]; simp [h0]; rw [if_neg (by omega), nI_add]))
theorem met_layRenter_0 (l : Launch) (dC : Nat → ClassId) (dI : Nat → Nat → Nat) (dA : Nat → ClassId) (n : Nat) (σ : mdT) (ab be : Int64) (wl : Int32) (pu : Int32) (wa : Int32) (rent : Nat) (hm : rent < 6) (h0 : σ 0 1 = nI rent) : Met l yX5_layRenter (ws_ yX5_layRenter cX5_layRenter 5 none) { frames := 1, cells := 0, slots := 0, locals := 60 } (mdPc dC dI dA n σ ab be [.ref (n + 1), .int wl, .int pu, .int wa]) (va_Qv (fun u => u = md_layR σ 0 rent wl pu wa) (mdB dC dI dA n ab be) (mdA n)) 0 0 (mdA n) := by
  refine md_in (by decide) rfl (Nat.le_of_ble_eq_true rfl) (lv := [(0, .ref (n + 1)), (1, .int wl), (2, .int pu), (3, .int wa)]) rfl ?_
  intro p e s m below meth c C hr hlk hP ls hl
  have hx := C.1
  have hb := C.2.1
  have hown := C.2.2.2.1
  have hts := C.2.2.2.2.1
  have hS : va_S (mdA n) s.heap s.heap [] := va_S.rf
  refine lv_bipush (v := nI 43) hx hb dX5_layRenter_0 rfl ?_
  refine lv_iconst (v := nI 3) hx hb dX5_layRenter_2 rfl ?_
  refine lv_aload_n hx hb dX5_layRenter_3 rfl (lv_at hl 0 rfl) ?_
  refine lv_iconst (v := nI 1) hx hb dX5_layRenter_4 rfl ?_
  refine md_l0 C hP (by omega) dX5_layRenter_5 ?_
  refine rn_co (y := nI rent) h0 ?_
  refine rn_imul hx hb dX5_layRenter_6 ?_
  refine rn_iadd hx hb dX5_layRenter_7 ?_
  refine lv_istore (lv' := [(4, .int (nI (43 + (3 * rent)))), (0, .ref (n + 1)), (1, .int wl), (2, .int pu), (3, .int wa)]) hx hb dX5_layRenter_8 hl (by decide) rfl (fun ls hl => ?_)
  refine lv_aload_n hx hb dX5_layRenter_10 rfl (lv_at hl 1 rfl) ?_
  refine lv_iload hx hb dX5_layRenter_11 (lv_at hl 0 rfl) ?_
  refine lv_iconst (v := nI 0) hx hb dX5_layRenter_13 rfl ?_
  refine rn_iadd hx hb dX5_layRenter_14 ?_
  refine lv_iload_n hx hb dX5_layRenter_15 rfl (lv_at hl 2 rfl) ?_
  refine md_s0 C hP hS (by omega) dX5_layRenter_16 (fun H locs hP hS => ?_)
  refine lv_aload_n hx hb dX5_layRenter_17 rfl (lv_at hl 1 rfl) ?_
  refine lv_iload hx hb dX5_layRenter_18 (lv_at hl 0 rfl) ?_
  refine lv_iconst (v := nI 1) hx hb dX5_layRenter_20 rfl ?_
  refine rn_iadd hx hb dX5_layRenter_21 ?_
  refine lv_iload_n hx hb dX5_layRenter_22 rfl (lv_at hl 3 rfl) ?_
  refine md_s0 C hP hS (by omega) dX5_layRenter_23 (fun H locs hP hS => ?_)
  refine lv_aload_n hx hb dX5_layRenter_24 rfl (lv_at hl 1 rfl) ?_
  refine lv_iload hx hb dX5_layRenter_25 (lv_at hl 0 rfl) ?_
  refine lv_iconst (v := nI 2) hx hb dX5_layRenter_27 rfl ?_
  refine rn_iadd hx hb dX5_layRenter_28 ?_
  refine lv_iload_n hx hb dX5_layRenter_29 rfl (lv_at hl 4 rfl) ?_
  refine md_s0 C hP hS (by omega) dX5_layRenter_30 (fun H locs hP hS => ?_)
  refine lv_aload_n hx hb dX5_layRenter_31 rfl (lv_at hl 1 rfl) ?_
  refine lv_iconst (v := nI 1) hx hb dX5_layRenter_32 rfl ?_
  refine lv_dup2_11 hx hb dX5_layRenter_33 rfl rfl ?_
  refine md_l0 C hP (by omega) dX5_layRenter_34 ?_
  refine lv_iconst (v := nI 1) hx hb dX5_layRenter_35 rfl ?_
  refine lv_iadd hx hb dX5_layRenter_36 ?_
  refine md_s0 C hP hS (by omega) dX5_layRenter_37 (fun H locs hP hS => ?_)
  exact md_rv C hr hlk hP hS dX5_layRenter_38 (congrArg (mdS _ 0 1) (by simp only [mdS_at]; simp [h0]; rw [if_neg (by omega), nI_add]))
theorem met_layView_13 (l : Launch) (dC : Nat → ClassId) (dI : Nat → Nat → Nat) (dA : Nat → ClassId) (n : Nat) (σ : mdT) (ab be : Int64) (kd : Int32) (sz : Int32) (pr : Int32) (we : Int32) (many : Nat) (hm : many < 6) (h0 : σ 13 0 = nI many) : Met l yX5_layView (ws_ yX5_layView cX5_layView 6 none) { frames := 1, cells := 0, slots := 0, locals := 60 } (mdPc dC dI dA n σ ab be [.ref (n + 14), .int kd, .int sz, .int pr, .int we]) (va_Qv (fun u => u = md_layV σ 13 many kd sz pr we) (mdB dC dI dA n ab be) (mdA n)) 0 0 (mdA n) := by
  refine md_in (by decide) rfl (Nat.le_of_ble_eq_true rfl) (lv := [(0, .ref (n + 14)), (1, .int kd), (2, .int sz), (3, .int pr), (4, .int we)]) rfl ?_
  intro p e s m below meth c C hr hlk hP ls hl
  have hx := C.1
  have hb := C.2.1
  have hown := C.2.2.2.1
  have hts := C.2.2.2.2.1
  have hS : va_S (mdA n) s.heap s.heap [] := va_S.rf
  refine lv_bipush (v := nI 7) hx hb dX5_layView_0 rfl ?_
  refine lv_bipush (v := nI 6) hx hb dX5_layView_2 rfl ?_
  refine lv_aload_n hx hb dX5_layView_4 rfl (lv_at hl 0 rfl) ?_
  refine lv_iconst (v := nI 0) hx hb dX5_layView_5 rfl ?_
  refine md_l13 C hP (by omega) dX5_layView_6 ?_
  refine rn_co (y := nI many) h0 ?_
  refine rn_imul hx hb dX5_layView_7 ?_
  refine rn_iadd hx hb dX5_layView_8 ?_
  refine lv_istore (lv' := [(5, .int (nI (7 + (6 * many)))), (0, .ref (n + 14)), (1, .int kd), (2, .int sz), (3, .int pr), (4, .int we)]) hx hb dX5_layView_9 hl (by decide) rfl (fun ls hl => ?_)
  refine lv_aload_n hx hb dX5_layView_11 rfl (lv_at hl 1 rfl) ?_
  refine lv_iload hx hb dX5_layView_12 (lv_at hl 0 rfl) ?_
  refine lv_iconst (v := nI 0) hx hb dX5_layView_14 rfl ?_
  refine rn_iadd hx hb dX5_layView_15 ?_
  refine lv_iload_n hx hb dX5_layView_16 rfl (lv_at hl 2 rfl) ?_
  refine md_s13 C hP hS (by omega) dX5_layView_17 (fun H locs hP hS => ?_)
  refine lv_aload_n hx hb dX5_layView_18 rfl (lv_at hl 1 rfl) ?_
  refine lv_iload hx hb dX5_layView_19 (lv_at hl 0 rfl) ?_
  refine lv_iconst (v := nI 1) hx hb dX5_layView_21 rfl ?_
  refine rn_iadd hx hb dX5_layView_22 ?_
  refine lv_iload_n hx hb dX5_layView_23 rfl (lv_at hl 3 rfl) ?_
  refine md_s13 C hP hS (by omega) dX5_layView_24 (fun H locs hP hS => ?_)
  refine lv_aload_n hx hb dX5_layView_25 rfl (lv_at hl 1 rfl) ?_
  refine lv_iload hx hb dX5_layView_26 (lv_at hl 0 rfl) ?_
  refine lv_iconst (v := nI 2) hx hb dX5_layView_28 rfl ?_
  refine rn_iadd hx hb dX5_layView_29 ?_
  refine lv_iload_n hx hb dX5_layView_30 rfl (lv_at hl 4 rfl) ?_
  refine md_s13 C hP hS (by omega) dX5_layView_31 (fun H locs hP hS => ?_)
  refine lv_aload_n hx hb dX5_layView_32 rfl (lv_at hl 1 rfl) ?_
  refine lv_iload hx hb dX5_layView_33 (lv_at hl 0 rfl) ?_
  refine lv_iconst (v := nI 3) hx hb dX5_layView_35 rfl ?_
  refine rn_iadd hx hb dX5_layView_36 ?_
  refine lv_iload hx hb dX5_layView_37 (lv_at hl 5 rfl) ?_
  refine md_s13 C hP hS (by omega) dX5_layView_39 (fun H locs hP hS => ?_)
  refine lv_aload_n hx hb dX5_layView_40 rfl (lv_at hl 1 rfl) ?_
  refine lv_iload hx hb dX5_layView_41 (lv_at hl 0 rfl) ?_
  refine lv_iconst (v := nI 4) hx hb dX5_layView_43 rfl ?_
  refine rn_iadd hx hb dX5_layView_44 ?_
  refine lv_iconst (v := (-1)) hx hb dX5_layView_45 rfl ?_
  refine md_s13 C hP hS (by omega) dX5_layView_46 (fun H locs hP hS => ?_)
  refine lv_aload_n hx hb dX5_layView_47 rfl (lv_at hl 1 rfl) ?_
  refine lv_iload hx hb dX5_layView_48 (lv_at hl 0 rfl) ?_
  refine lv_iconst (v := nI 5) hx hb dX5_layView_50 rfl ?_
  refine rn_iadd hx hb dX5_layView_51 ?_
  refine lv_iconst (v := nI 0) hx hb dX5_layView_52 rfl ?_
  refine md_s13 C hP hS (by omega) dX5_layView_53 (fun H locs hP hS => ?_)
  refine lv_aload_n hx hb dX5_layView_54 rfl (lv_at hl 1 rfl) ?_
  refine lv_iconst (v := nI 0) hx hb dX5_layView_55 rfl ?_
  refine lv_dup2_11 hx hb dX5_layView_56 rfl rfl ?_
  refine md_l13 C hP (by omega) dX5_layView_57 ?_
  refine lv_iconst (v := nI 1) hx hb dX5_layView_58 rfl ?_
  refine lv_iadd hx hb dX5_layView_59 ?_
  refine md_s13 C hP hS (by omega) dX5_layView_60 (fun H locs hP hS => ?_)
  exact md_rv C hr hlk hP hS dX5_layView_61 (congrArg (mdS _ 13 0) (by simp only [mdS_at]; simp [h0]; rw [if_neg (by omega), nI_add]))
theorem met_layRenter_13 (l : Launch) (dC : Nat → ClassId) (dI : Nat → Nat → Nat) (dA : Nat → ClassId) (n : Nat) (σ : mdT) (ab be : Int64) (wl : Int32) (pu : Int32) (wa : Int32) (rent : Nat) (hm : rent < 6) (h0 : σ 13 1 = nI rent) : Met l yX5_layRenter (ws_ yX5_layRenter cX5_layRenter 5 none) { frames := 1, cells := 0, slots := 0, locals := 60 } (mdPc dC dI dA n σ ab be [.ref (n + 14), .int wl, .int pu, .int wa]) (va_Qv (fun u => u = md_layR σ 13 rent wl pu wa) (mdB dC dI dA n ab be) (mdA n)) 0 0 (mdA n) := by
  refine md_in (by decide) rfl (Nat.le_of_ble_eq_true rfl) (lv := [(0, .ref (n + 14)), (1, .int wl), (2, .int pu), (3, .int wa)]) rfl ?_
  intro p e s m below meth c C hr hlk hP ls hl
  have hx := C.1
  have hb := C.2.1
  have hown := C.2.2.2.1
  have hts := C.2.2.2.2.1
  have hS : va_S (mdA n) s.heap s.heap [] := va_S.rf
  refine lv_bipush (v := nI 43) hx hb dX5_layRenter_0 rfl ?_
  refine lv_iconst (v := nI 3) hx hb dX5_layRenter_2 rfl ?_
  refine lv_aload_n hx hb dX5_layRenter_3 rfl (lv_at hl 0 rfl) ?_
  refine lv_iconst (v := nI 1) hx hb dX5_layRenter_4 rfl ?_
  refine md_l13 C hP (by omega) dX5_layRenter_5 ?_
  refine rn_co (y := nI rent) h0 ?_
  refine rn_imul hx hb dX5_layRenter_6 ?_
  refine rn_iadd hx hb dX5_layRenter_7 ?_
  refine lv_istore (lv' := [(4, .int (nI (43 + (3 * rent)))), (0, .ref (n + 14)), (1, .int wl), (2, .int pu), (3, .int wa)]) hx hb dX5_layRenter_8 hl (by decide) rfl (fun ls hl => ?_)
  refine lv_aload_n hx hb dX5_layRenter_10 rfl (lv_at hl 1 rfl) ?_
  refine lv_iload hx hb dX5_layRenter_11 (lv_at hl 0 rfl) ?_
  refine lv_iconst (v := nI 0) hx hb dX5_layRenter_13 rfl ?_
  refine rn_iadd hx hb dX5_layRenter_14 ?_
  refine lv_iload_n hx hb dX5_layRenter_15 rfl (lv_at hl 2 rfl) ?_
  refine md_s13 C hP hS (by omega) dX5_layRenter_16 (fun H locs hP hS => ?_)
  refine lv_aload_n hx hb dX5_layRenter_17 rfl (lv_at hl 1 rfl) ?_
  refine lv_iload hx hb dX5_layRenter_18 (lv_at hl 0 rfl) ?_
  refine lv_iconst (v := nI 1) hx hb dX5_layRenter_20 rfl ?_
  refine rn_iadd hx hb dX5_layRenter_21 ?_
  refine lv_iload_n hx hb dX5_layRenter_22 rfl (lv_at hl 3 rfl) ?_
  refine md_s13 C hP hS (by omega) dX5_layRenter_23 (fun H locs hP hS => ?_)
  refine lv_aload_n hx hb dX5_layRenter_24 rfl (lv_at hl 1 rfl) ?_
  refine lv_iload hx hb dX5_layRenter_25 (lv_at hl 0 rfl) ?_
  refine lv_iconst (v := nI 2) hx hb dX5_layRenter_27 rfl ?_
  refine rn_iadd hx hb dX5_layRenter_28 ?_
  refine lv_iload_n hx hb dX5_layRenter_29 rfl (lv_at hl 4 rfl) ?_
  refine md_s13 C hP hS (by omega) dX5_layRenter_30 (fun H locs hP hS => ?_)
  refine lv_aload_n hx hb dX5_layRenter_31 rfl (lv_at hl 1 rfl) ?_
  refine lv_iconst (v := nI 1) hx hb dX5_layRenter_32 rfl ?_
  refine lv_dup2_11 hx hb dX5_layRenter_33 rfl rfl ?_
  refine md_l13 C hP (by omega) dX5_layRenter_34 ?_
  refine lv_iconst (v := nI 1) hx hb dX5_layRenter_35 rfl ?_
  refine lv_iadd hx hb dX5_layRenter_36 ?_
  refine md_s13 C hP hS (by omega) dX5_layRenter_37 (fun H locs hP hS => ?_)
  exact md_rv C hr hlk hP hS dX5_layRenter_38 (congrArg (mdS _ 13 1) (by simp only [mdS_at]; simp [h0]; rw [if_neg (by omega), nI_add]))
def rv_rem6 (x : Int32) : Int32 := x - x / 6 * 6
def rv_weather (kd we ev : Int32) : Int32 := if kd = 1 then rv_rem6 (we + 2 * ev) else if kd = 2 then (if rv_rem6 (we + ev) = 1 then 0 else rv_rem6 (we + ev)) else if kd = 3 then we else if kd = 5 then (if ev - ev / 2 * 2 = 1 then 5 else we) else rv_rem6 (we + ev)
def rv_cost (kd pr : Int32) : Int32 := if kd = 2 then 2 * pr else if kd = 3 then pr + 10 else if kd = 4 then pr / 2 else pr
def rv_fits (kd sz wall : Int32) : Bool := decide (kd = 4) || decide (sz ≤ wall)
/-- the last of the first n views that renter r has -/
def rv_vo (f : Nat → Int32) (r : Int32) : Nat → Int32
  | 0 => -1
  | n + 1 => if f n = r then nI n else rv_vo f r n
def rv_out (f : Nat → Int32) : Nat → Int32
  | 0 => 0
  | n + 1 => rv_out f n + (if f n = -1 then 0 else 1)
def rv_sum (f : Nat → Int32) (h : Int64) : Nat → Int64
  | 0 => h
  | n + 1 => 31 * rv_sum f h n + (f n).toInt64
theorem met_lake (l : Launch) (we : Int32) (ev : Int32) : Met l yX5_lake (ws_ yX5_lake cX5_lake 2 (some .int)) { frames := 1, cells := 0, slots := 0, locals := 60 } (fun v_ _ => v_ = [.int we, .int ev].toArray) (vp_Si (fun r_ => r_ = (rv_rem6 (we + ev)))) 0 0 (fun _ => False) := by
  refine rv_inS (by decide) (Nat.le_of_ble_eq_true rfl) (lv := [(0, .int we), (1, .int ev)]) rfl ?_
  intro p e s m below meth c hx hb hml hown hts hr hlk ls hl
  refine lv_iload_n hx hb dX5_lake_0 rfl (lv_at hl 0 rfl) ?_
  refine lv_iload_n hx hb dX5_lake_1 rfl (lv_at hl 1 rfl) ?_
  refine lv_iadd hx hb dX5_lake_2 ?_
  refine lv_bipush (v := nI 6) hx hb dX5_lake_3 rfl ?_
  refine lv_irem hx hb dX5_lake_5 (by decide) ?_
  exact rv_ri hx hb hr hlk dX5_lake_6 rfl
theorem met_weatherOf (l : Launch) (kd : Int32) (we : Int32) (ev : Int32) : Met l yX5_weatherOf (ws_ yX5_weatherOf cX5_weatherOf 3 (some .int)) { frames := 2, cells := 0, slots := 0, locals := 120 } (fun v_ _ => v_ = [.int kd, .int we, .int ev].toArray) (vp_Si (fun r_ => r_ = (rv_weather kd we ev))) 0 0 (fun _ => False) := by
  refine rv_inS (by decide) (Nat.le_of_ble_eq_true rfl) (lv := [(0, .int kd), (1, .int we), (2, .int ev)]) rfl ?_
  intro p e s m below meth c hx hb hml hown hts hr hlk ls hl
  refine lv_iload_n hx hb dX5_weatherOf_0 rfl (lv_at hl 0 rfl) ?_
  refine rn_switch (x := kd) (lo := 1) (k := 5) (fun j_ hj_ c_1 => ?_) (fun c_1 => ?_)
  · match j_, hj_ with
    | 0, _ =>
      have c_1 : kd = 1 := rn_swe rfl c_1
      refine lv_tableIn (tgt := 36) hx hb dX5_weatherOf_1 (by rw [c_1]; decide) (by rw [c_1]; decide) (off := 35) (by rw [c_1]; rfl) (by decide) ?_
      refine lv_iload_n hx hb dX5_weatherOf_36 rfl (lv_at hl 1 rfl) ?_
      refine lv_iconst (v := nI 2) hx hb dX5_weatherOf_37 rfl ?_
      refine lv_iload_n hx hb dX5_weatherOf_38 rfl (lv_at hl 2 rfl) ?_
      refine lv_imul hx hb dX5_weatherOf_39 ?_
      refine lv_iadd hx hb dX5_weatherOf_40 ?_
      refine lv_bipush (v := nI 6) hx hb dX5_weatherOf_41 rfl ?_
      refine lv_irem hx hb dX5_weatherOf_43 (by decide) ?_
      exact rv_ri hx hb hr hlk dX5_weatherOf_44 (by simp_all [rv_weather] <;> rfl)
    | 1, _ =>
      have c_1 : kd = 2 := rn_swe rfl c_1
      refine lv_tableIn (tgt := 45) hx hb dX5_weatherOf_1 (by rw [c_1]; decide) (by rw [c_1]; decide) (off := 44) (by rw [c_1]; rfl) (by decide) ?_
      refine lv_iload_n hx hb dX5_weatherOf_45 rfl (lv_at hl 1 rfl) ?_
      refine lv_iload_n hx hb dX5_weatherOf_46 rfl (lv_at hl 2 rfl) ?_
      refine rv_sSe (As := [.int we, .int ev]) (rest := []) ⟨hx, hb, hml, hown, hts⟩ (met_lake l we ev) card_lake rfl rfl ⟨Nat.le_of_ble_eq_true rfl, Nat.le_of_ble_eq_true rfl⟩ hl.1 (Nat.le_of_ble_eq_true rfl) dX5_weatherOf_47 ?_
      refine lv_iconst (v := nI 1) hx hb dX5_weatherOf_50 rfl ?_
      refine lv_icmp_ne (tgt := 58) hx hb dX5_weatherOf_51 (by decide) (fun (c_51 : ¬ rv_rem6 (we + ev) = 1) => ?_) (fun (c_51 : rv_rem6 (we + ev) = 1) => ?_)
      · refine lv_iload_n hx hb dX5_weatherOf_58 rfl (lv_at hl 1 rfl) ?_
        refine lv_iload_n hx hb dX5_weatherOf_59 rfl (lv_at hl 2 rfl) ?_
        refine rv_sSe (As := [.int we, .int ev]) (rest := []) ⟨hx, hb, hml, hown, hts⟩ (met_lake l we ev) card_lake rfl rfl ⟨Nat.le_of_ble_eq_true rfl, Nat.le_of_ble_eq_true rfl⟩ hl.1 (Nat.le_of_ble_eq_true rfl) dX5_weatherOf_60 ?_
        exact rv_ri hx hb hr hlk dX5_weatherOf_63 (by simp_all [rv_weather] <;> rfl)
      · refine lv_iconst (v := nI 0) hx hb dX5_weatherOf_54 rfl ?_
        refine lv_goto (tgt := 63) hx hb dX5_weatherOf_55 (by decide) ?_
        exact rv_ri hx hb hr hlk dX5_weatherOf_63 (by simp_all [rv_weather] <;> rfl)
    | 2, _ =>
      have c_1 : kd = 3 := rn_swe rfl c_1
      refine lv_tableIn (tgt := 64) hx hb dX5_weatherOf_1 (by rw [c_1]; decide) (by rw [c_1]; decide) (off := 63) (by rw [c_1]; rfl) (by decide) ?_
      refine lv_iload_n hx hb dX5_weatherOf_64 rfl (lv_at hl 1 rfl) ?_
      exact rv_ri hx hb hr hlk dX5_weatherOf_65 (by simp_all [rv_weather] <;> rfl)
    | 3, _ =>
      have c_1 : kd = 4 := rn_swe rfl c_1
      refine lv_tableIn (tgt := 79) hx hb dX5_weatherOf_1 (by rw [c_1]; decide) (by rw [c_1]; decide) (off := 78) (by rw [c_1]; rfl) (by decide) ?_
      refine lv_iload_n hx hb dX5_weatherOf_79 rfl (lv_at hl 1 rfl) ?_
      refine lv_iload_n hx hb dX5_weatherOf_80 rfl (lv_at hl 2 rfl) ?_
      refine rv_sSe (As := [.int we, .int ev]) (rest := []) ⟨hx, hb, hml, hown, hts⟩ (met_lake l we ev) card_lake rfl rfl ⟨Nat.le_of_ble_eq_true rfl, Nat.le_of_ble_eq_true rfl⟩ hl.1 (Nat.le_of_ble_eq_true rfl) dX5_weatherOf_81 ?_
      exact rv_ri hx hb hr hlk dX5_weatherOf_84 (by first | (simp_all [rv_weather]; done) | (have h1 : kd ≠ 1 := (fun z => by rw [z] at c_1; exact absurd c_1 (by decide)); have h2 : kd ≠ 2 := (fun z => by rw [z] at c_1; exact absurd c_1 (by decide)); have h3 : kd ≠ 3 := (fun z => by rw [z] at c_1; exact absurd c_1 (by decide)); have h5 : kd ≠ 5 := (fun z => by rw [z] at c_1; exact absurd c_1 (by decide)); simp [rv_weather, h1, h2, h3, h5]))
    | 4, _ =>
      have c_1 : kd = 5 := rn_swe rfl c_1
      refine lv_tableIn (tgt := 66) hx hb dX5_weatherOf_1 (by rw [c_1]; decide) (by rw [c_1]; decide) (off := 65) (by rw [c_1]; rfl) (by decide) ?_
      refine lv_iload_n hx hb dX5_weatherOf_66 rfl (lv_at hl 2 rfl) ?_
      refine lv_iconst (v := nI 2) hx hb dX5_weatherOf_67 rfl ?_
      refine lv_irem hx hb dX5_weatherOf_68 (by decide) ?_
      refine lv_iconst (v := nI 1) hx hb dX5_weatherOf_69 rfl ?_
      refine lv_icmp_ne (tgt := 77) hx hb dX5_weatherOf_70 (by decide) (fun (c_70 : ¬ ev - ev / 2 * 2 = 1) => ?_) (fun (c_70 : ev - ev / 2 * 2 = 1) => ?_)
      · refine lv_iload_n hx hb dX5_weatherOf_77 rfl (lv_at hl 1 rfl) ?_
        exact rv_ri hx hb hr hlk dX5_weatherOf_78 (by simp_all [rv_weather] <;> rfl)
      · refine lv_iconst (v := nI 5) hx hb dX5_weatherOf_73 rfl ?_
        refine lv_goto (tgt := 78) hx hb dX5_weatherOf_74 (by decide) ?_
        exact rv_ri hx hb hr hlk dX5_weatherOf_78 (by simp_all [rv_weather] <;> rfl)
    | (_ + 5), hj_ => exact absurd hj_ (by omega)
  · refine lv_tableOut (tgt := 79) hx hb dX5_weatherOf_1 (by omega) (by decide) ?_
    refine lv_iload_n hx hb dX5_weatherOf_79 rfl (lv_at hl 1 rfl) ?_
    refine lv_iload_n hx hb dX5_weatherOf_80 rfl (lv_at hl 2 rfl) ?_
    refine rv_sSe (As := [.int we, .int ev]) (rest := []) ⟨hx, hb, hml, hown, hts⟩ (met_lake l we ev) card_lake rfl rfl ⟨Nat.le_of_ble_eq_true rfl, Nat.le_of_ble_eq_true rfl⟩ hl.1 (Nat.le_of_ble_eq_true rfl) dX5_weatherOf_81 ?_
    exact rv_ri hx hb hr hlk dX5_weatherOf_84 (by first | (simp_all [rv_weather]; done) | (have h1 : kd ≠ 1 := (fun z => by rw [z] at c_1; exact absurd c_1 (by decide)); have h2 : kd ≠ 2 := (fun z => by rw [z] at c_1; exact absurd c_1 (by decide)); have h3 : kd ≠ 3 := (fun z => by rw [z] at c_1; exact absurd c_1 (by decide)); have h5 : kd ≠ 5 := (fun z => by rw [z] at c_1; exact absurd c_1 (by decide)); simp [rv_weather, h1, h2, h3, h5]))
theorem met_costOf (l : Launch) (kd : Int32) (pr : Int32) : Met l yX5_costOf (ws_ yX5_costOf cX5_costOf 2 (some .int)) { frames := 1, cells := 0, slots := 0, locals := 60 } (fun v_ _ => v_ = [.int kd, .int pr].toArray) (vp_Si (fun r_ => r_ = (rv_cost kd pr))) 0 0 (fun _ => False) := by
  refine rv_inS (by decide) (Nat.le_of_ble_eq_true rfl) (lv := [(0, .int kd), (1, .int pr)]) rfl ?_
  intro p e s m below meth c hx hb hml hown hts hr hlk ls hl
  refine lv_iload_n hx hb dX5_costOf_0 rfl (lv_at hl 0 rfl) ?_
  refine lv_iconst (v := nI 2) hx hb dX5_costOf_1 rfl ?_
  refine lv_icmp_ne (tgt := 11) hx hb dX5_costOf_2 (by decide) (fun (c_2 : ¬ kd = 2) => ?_) (fun (c_2 : kd = 2) => ?_)
  · refine lv_iload_n hx hb dX5_costOf_11 rfl (lv_at hl 0 rfl) ?_
    refine lv_iconst (v := nI 3) hx hb dX5_costOf_12 rfl ?_
    refine lv_icmp_ne (tgt := 23) hx hb dX5_costOf_13 (by decide) (fun (c_13 : ¬ kd = 3) => ?_) (fun (c_13 : kd = 3) => ?_)
    · refine lv_iload_n hx hb dX5_costOf_23 rfl (lv_at hl 0 rfl) ?_
      refine lv_iconst (v := nI 4) hx hb dX5_costOf_24 rfl ?_
      refine lv_icmp_ne (tgt := 34) hx hb dX5_costOf_25 (by decide) (fun (c_25 : ¬ kd = 4) => ?_) (fun (c_25 : kd = 4) => ?_)
      · refine lv_iload_n hx hb dX5_costOf_34 rfl (lv_at hl 1 rfl) ?_
        exact rv_ri hx hb hr hlk dX5_costOf_35 (by simp_all [rv_cost] <;> rfl)
      · refine lv_iload_n hx hb dX5_costOf_28 rfl (lv_at hl 1 rfl) ?_
        refine lv_iconst (v := nI 2) hx hb dX5_costOf_29 rfl ?_
        refine lv_idiv hx hb dX5_costOf_30 (by decide) ?_
        refine lv_goto (tgt := 35) hx hb dX5_costOf_31 (by decide) ?_
        exact rv_ri hx hb hr hlk dX5_costOf_35 (by simp_all [rv_cost] <;> rfl)
    · refine lv_iload_n hx hb dX5_costOf_16 rfl (lv_at hl 1 rfl) ?_
      refine lv_bipush (v := nI 10) hx hb dX5_costOf_17 rfl ?_
      refine lv_iadd hx hb dX5_costOf_19 ?_
      refine lv_goto (tgt := 35) hx hb dX5_costOf_20 (by decide) ?_
      exact rv_ri hx hb hr hlk dX5_costOf_35 (by simp_all [rv_cost] <;> rfl)
  · refine lv_iconst (v := nI 2) hx hb dX5_costOf_5 rfl ?_
    refine lv_iload_n hx hb dX5_costOf_6 rfl (lv_at hl 1 rfl) ?_
    refine lv_imul hx hb dX5_costOf_7 ?_
    refine lv_goto (tgt := 35) hx hb dX5_costOf_8 (by decide) ?_
    exact rv_ri hx hb hr hlk dX5_costOf_35 (by simp_all [rv_cost] <;> rfl)
