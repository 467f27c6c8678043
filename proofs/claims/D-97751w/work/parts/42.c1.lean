set_option maxRecDepth 100000
/-! the component: what is asked of a shop -/
theorem xks_X0_89 : xKS RX0 yX0_in cX0_in 6 (some .boolean) 89 3 := ⟨q304, q305, q61, q306, by decide +kernel⟩
theorem xkv_X0_81 : xKV RX0 yX0_refuses cX0_refuses 3 (some .int) 81 2 := ⟨q316, q318, qs1, q61, q319, by decide +kernel⟩
theorem x_X0_in (l : Launch) (v : Int64) (lo : Int64) (hi : Int64) : Met l yX0_in (ws_ yX0_in cX0_in 6 (some .boolean)) { frames := 1, cells := 0, slots := 0, locals := 60 } (fun v_ _ => v_ = [.long v, .long lo, .long hi].toArray) (vp_Si (fun r_ => r_ = (rb_i (rv_inL v lo hi)))) 0 0 (fun _ => False) := by
  refine rv_inS (by decide) (Nat.le_of_ble_eq_true rfl) (lv := [(0, .long v), (2, .long lo), (4, .long hi)]) rfl ?_
  intro p e s m below meth c_ hx hb hml hown hts hr hlk ls hl
  refine lv_lload_n hx hb dX0_in_0 rfl (lv_at hl 0 rfl) ?_
  refine lv_lload_n hx hb dX0_in_1 rfl (lv_at hl 1 rfl) ?_
  refine rn_lcmp_lt (tgt := 17) hx hb dX0_in_2 dX0_in_3 (by decide) (fun c_2 => ?_) (fun c_2 => ?_)
  · refine lv_iconst (v := nI 0) hx hb dX0_in_17 rfl ?_
    exact rv_rz hx hb hr hlk rfl dX0_in_18 (by simp_all [rv_inL, rb_i, Int64.lt_iff_toInt_lt, Int64.le_iff_toInt_le] <;> first | rfl | (split <;> first | rfl | (exfalso; omega)))
  · refine lv_lload_n hx hb dX0_in_6 rfl (lv_at hl 0 rfl) ?_
    refine lv_lload hx hb dX0_in_7 (lv_at hl 2 rfl) ?_
    refine rn_lcmp_gt (tgt := 17) hx hb dX0_in_9 dX0_in_10 (by decide) (fun c_9 => ?_) (fun c_9 => ?_)
    · refine lv_iconst (v := nI 0) hx hb dX0_in_17 rfl ?_
      exact rv_rz hx hb hr hlk rfl dX0_in_18 (by simp_all [rv_inL, rb_i, Int64.lt_iff_toInt_lt, Int64.le_iff_toInt_le] <;> first | rfl | (split <;> first | rfl | (exfalso; omega)))
    · refine lv_iconst (v := nI 1) hx hb dX0_in_13 rfl ?_
      refine lv_goto (tgt := 18) hx hb dX0_in_14 (by decide) ?_
      exact rv_rz hx hb hr hlk rfl dX0_in_18 (by simp_all [rv_inL, rb_i, Int64.lt_iff_toInt_lt, Int64.le_iff_toInt_le] <;> first | rfl | (split <;> first | rfl | (exfalso; omega)))
theorem x_X0_isEvening (l : Launch) (v : Int32) : Met l yX0_isEvening (ws_ yX0_isEvening cX0_isEvening 1 (some .boolean)) { frames := 2, cells := 0, slots := 0, locals := 120 } (fun v_ _ => v_ = [.int v].toArray) (vp_Si (fun r_ => r_ = (rb_i (rv_in v 0 99)))) 0 0 (fun _ => False) := by
  refine rv_inS (by decide) (Nat.le_of_ble_eq_true rfl) (lv := [(0, .int v)]) rfl ?_
  intro p e s m below meth c_ hx hb hml hown hts hr hlk ls hl
  refine lv_iload_n hx hb dX0_isEvening_0 rfl (lv_at hl 0 rfl) ?_
  refine lv_i2l hx hb dX0_isEvening_1 rfl ?_
  refine lv_lconst (v := 0) hx hb dX0_isEvening_2 rfl ?_
  refine lv_ldc2 (v := 99) hx hb hown (hts _ q308) dX0_isEvening_3 ?_
  refine rv_sSx (As := [.long (Int32.toInt64 v), .long 0, .long 99]) (rest := []) ⟨hx, hb, hml, hown, hts⟩ (x_X0_in l (Int32.toInt64 v) 0 99) xks_X0_89 rfl rfl ⟨Nat.le_of_ble_eq_true rfl, Nat.le_of_ble_eq_true rfl⟩ hl.1 (Nat.le_of_ble_eq_true rfl) dX0_isEvening_6 ?_
  exact rv_rz hx hb hr hlk (rv_nar _) dX0_isEvening_9 (by rw [rv_inL_i]; rfl)
theorem x_X0_isWeather (l : Launch) (v : Int32) : Met l yX0_isWeather (ws_ yX0_isWeather cX0_isWeather 1 (some .boolean)) { frames := 2, cells := 0, slots := 0, locals := 120 } (fun v_ _ => v_ = [.int v].toArray) (vp_Si (fun r_ => r_ = (rb_i (rv_in v 0 5)))) 0 0 (fun _ => False) := by
  refine rv_inS (by decide) (Nat.le_of_ble_eq_true rfl) (lv := [(0, .int v)]) rfl ?_
  intro p e s m below meth c_ hx hb hml hown hts hr hlk ls hl
  refine lv_iload_n hx hb dX0_isWeather_0 rfl (lv_at hl 0 rfl) ?_
  refine lv_i2l hx hb dX0_isWeather_1 rfl ?_
  refine lv_lconst (v := 0) hx hb dX0_isWeather_2 rfl ?_
  refine lv_ldc2 (v := 5) hx hb hown (hts _ q303) dX0_isWeather_3 ?_
  refine rv_sSx (As := [.long (Int32.toInt64 v), .long 0, .long 5]) (rest := []) ⟨hx, hb, hml, hown, hts⟩ (x_X0_in l (Int32.toInt64 v) 0 5) xks_X0_89 rfl rfl ⟨Nat.le_of_ble_eq_true rfl, Nat.le_of_ble_eq_true rfl⟩ hl.1 (Nat.le_of_ble_eq_true rfl) dX0_isWeather_6 ?_
  exact rv_rz hx hb hr hlk (rv_nar _) dX0_isWeather_9 (by rw [rv_inL_i]; rfl)
theorem x_X0_isOne (l : Launch) (wl : Int32) (pu : Int32) (wa : Int32) : Met l yX0_isOne (ws_ yX0_isOne cX0_isOne 3 (some .boolean)) { frames := 2, cells := 0, slots := 0, locals := 120 } (fun v_ _ => v_ = [.int wl, .int pu, .int wa].toArray) (vp_Si (fun r_ => r_ = (rb_i (rv_in wl 1 9 && rv_in pu 0 999 && rv_in wa 0 6)))) 0 0 (fun _ => False) := by
  refine rv_inS (by decide) (Nat.le_of_ble_eq_true rfl) (lv := [(0, .int wl), (1, .int pu), (2, .int wa)]) rfl ?_
  intro p e s m below meth c_ hx hb hml hown hts hr hlk ls hl
  refine lv_iload_n hx hb dX0_isOne_0 rfl (lv_at hl 0 rfl) ?_
  refine lv_i2l hx hb dX0_isOne_1 rfl ?_
  refine lv_lconst (v := 1) hx hb dX0_isOne_2 rfl ?_
  refine lv_ldc2 (v := 9) hx hb hown (hts _ q307) dX0_isOne_3 ?_
  refine rv_sSx (As := [.long (Int32.toInt64 wl), .long 1, .long 9]) (rest := []) ⟨hx, hb, hml, hown, hts⟩ (x_X0_in l (Int32.toInt64 wl) 1 9) xks_X0_89 rfl rfl ⟨Nat.le_of_ble_eq_true rfl, Nat.le_of_ble_eq_true rfl⟩ hl.1 (Nat.le_of_ble_eq_true rfl) dX0_isOne_6 ?_
  refine rn_zt (tgt := 40) hx hb dX0_isOne_9 (by decide) (fun c_9 => ?_) (fun c_9 => ?_)
  · refine lv_iconst (v := nI 0) hx hb dX0_isOne_40 rfl ?_
    exact rv_rz hx hb hr hlk rfl dX0_isOne_41 (by simp only [rv_inL_i] at *; first | exact (rb_is1 (by simp_all [Int64.toInt])) | exact (rb_is0 (by simp_all)))
  · refine lv_iload_n hx hb dX0_isOne_12 rfl (lv_at hl 1 rfl) ?_
    refine lv_i2l hx hb dX0_isOne_13 rfl ?_
    refine lv_lconst (v := 0) hx hb dX0_isOne_14 rfl ?_
    refine lv_ldc2 (v := 999) hx hb hown (hts _ q407) dX0_isOne_15 ?_
    refine rv_sSx (As := [.long (Int32.toInt64 pu), .long 0, .long 999]) (rest := []) ⟨hx, hb, hml, hown, hts⟩ (x_X0_in l (Int32.toInt64 pu) 0 999) xks_X0_89 rfl rfl ⟨Nat.le_of_ble_eq_true rfl, Nat.le_of_ble_eq_true rfl⟩ hl.1 (Nat.le_of_ble_eq_true rfl) dX0_isOne_18 ?_
    refine rn_zt (tgt := 40) hx hb dX0_isOne_21 (by decide) (fun c_21 => ?_) (fun c_21 => ?_)
    · refine lv_iconst (v := nI 0) hx hb dX0_isOne_40 rfl ?_
      exact rv_rz hx hb hr hlk rfl dX0_isOne_41 (by simp only [rv_inL_i] at *; first | exact (rb_is1 (by simp_all [Int64.toInt])) | exact (rb_is0 (by simp_all)))
    · refine lv_iload_n hx hb dX0_isOne_24 rfl (lv_at hl 2 rfl) ?_
      refine lv_i2l hx hb dX0_isOne_25 rfl ?_
      refine lv_lconst (v := 0) hx hb dX0_isOne_26 rfl ?_
      refine lv_ldc2 (v := 6) hx hb hown (hts _ q408) dX0_isOne_27 ?_
      refine rv_sSx (As := [.long (Int32.toInt64 wa), .long 0, .long 6]) (rest := []) ⟨hx, hb, hml, hown, hts⟩ (x_X0_in l (Int32.toInt64 wa) 0 6) xks_X0_89 rfl rfl ⟨Nat.le_of_ble_eq_true rfl, Nat.le_of_ble_eq_true rfl⟩ hl.1 (Nat.le_of_ble_eq_true rfl) dX0_isOne_30 ?_
      refine rn_zt (tgt := 40) hx hb dX0_isOne_33 (by decide) (fun c_33 => ?_) (fun c_33 => ?_)
      · refine lv_iconst (v := nI 0) hx hb dX0_isOne_40 rfl ?_
        exact rv_rz hx hb hr hlk rfl dX0_isOne_41 (by simp only [rv_inL_i] at *; first | exact (rb_is1 (by simp_all [Int64.toInt])) | exact (rb_is0 (by simp_all)))
      · refine lv_iconst (v := nI 1) hx hb dX0_isOne_36 rfl ?_
        refine lv_goto (tgt := 41) hx hb dX0_isOne_37 (by decide) ?_
        exact rv_rz hx hb hr hlk rfl dX0_isOne_41 (by simp only [rv_inL_i] at *; first | exact (rb_is1 (by simp_all [Int64.toInt])) | exact (rb_is0 (by simp_all)))
theorem x_X0_refuses (l : Launch) (dC : Nat → ClassId) (dI : Nat → Nat → Nat) (dA : Nat → ClassId) (n : Nat) (ξ : mdT) (V : Nat → Option Nat) (V2 : Nat → Option Nat) (im : Nat → Option Nat) (ab : Int64) (be : Int64) (so : Nat) (v : Int32) (hso : so < 3) : Met l yX0_refuses (ws_ yX0_refuses cX0_refuses 3 (some .int)) { frames := 1, cells := 0, slots := 0, locals := 60 } (xPc dC dI dA (bkP dC dI n 96 (xE dA n ξ V V2 im ab be)) [.ref n, .int (nI so), .int v]) (xEi (v) (bkP dC dI n 96 (xE dA n (mdS ξ 89 so (ξ 89 so + nI 1)) V V2 im ab be)) (bkA n 96)) 0 0 (bkA n 96) := by
  refine x_in (by decide) rfl (Nat.le_of_ble_eq_true rfl) (lv := [(0, .ref n), (1, .int (nI so)), (2, .int v)]) rfl ?_
  intro p e s m below meth c_ X hN hnm hr hlk hP ls hl
  have hS : va_S (bkA n 96) s.heap s.heap [] := va_S.rf
  refine lv_aload_n X.1 X.2.1 dX0_refuses_0 rfl (lv_at hl 0 rfl) ?_
  refine xb_get (C := RX0) (T := TX0) (v := .ref (n + 89)) X in_X0 (ci := 0) rfl hP (j := 0) (by decide) (xe_x0 ..) 5 (by decide) q256 rfl rfl dX0_refuses_1 ?_
  refine lv_iload_n X.1 X.2.1 dX0_refuses_4 rfl (lv_at hl 1 rfl) ?_
  refine lv_dup2_11 X.1 X.2.1 dX0_refuses_5 rfl rfl ?_
  refine xb_iald X hP (j := 89) (by decide) (n := 3) (f := ξ 89) rfl (by omega) (by decide) dX0_refuses_6 ?_
  refine lv_iconst (v := nI 1) X.1 X.2.1 dX0_refuses_7 rfl ?_
  refine lv_iadd X.1 X.2.1 dX0_refuses_8 ?_
  refine xb_iast (E' := xE dA n (mdS ξ 89 so ((ξ 89 so) + 1)) V V2 im ab be) X hP (fun _ h => h) hS (j := 89) (by decide) (n := 3) (f := ξ 89) rfl (by omega) (by decide) (fun i_ _ => xE_S dA n ξ V V2 im ab be 89 so ((ξ 89 so) + 1) i_) dX0_refuses_9 (fun H locs hP hS => ?_)
  refine lv_iload_n X.1 X.2.1 dX0_refuses_10 rfl (lv_at hl 2 rfl) ?_
  exact x_ri () X hr hlk hS dX0_refuses_11 rfl hP
theorem x_X0_bad (l : Launch) (dC : Nat → ClassId) (dI : Nat → Nat → Nat) (dA : Nat → ClassId) (n : Nat) (ξ : mdT) (V : Nat → Option Nat) (V2 : Nat → Option Nat) (im : Nat → Option Nat) (ab : Int64) (be : Int64) : Met l yX0_bad (ws_ yX0_bad cX0_bad 1 (some .int)) { frames := 2, cells := 0, slots := 0, locals := 120 } (xPc dC dI dA (bkP dC dI n 96 (xE dA n ξ V V2 im ab be)) [.ref n]) (xEi ((-2)) (bkP dC dI n 96 (xE dA n (mdS ξ 89 0 (ξ 89 0 + nI 1)) V V2 im ab be)) (bkA n 96)) 0 0 (bkA n 96) := by
  refine x_in (by decide) rfl (Nat.le_of_ble_eq_true rfl) (lv := [(0, .ref n)]) rfl ?_
  intro p e s m below meth c_ X hN hnm hr hlk hP ls hl
  have hS : va_S (bkA n 96) s.heap s.heap [] := va_S.rf
  refine lv_aload_n X.1 X.2.1 dX0_bad_0 rfl (lv_at hl 0 rfl) ?_
  refine lv_iconst (v := nI 0) X.1 X.2.1 dX0_bad_1 rfl ?_
  refine lv_bipush (v := (-2)) X.1 X.2.1 dX0_bad_2 rfl ?_
  refine x_cWi (x_runV X hN hP (As := [.int (nI 0), .int (-2)]) (rest := []) (x_X0_refuses l dC dI dA n ξ V V2 im ab be 0 (-2) (by omega)) xkv_X0_81 (x_recv (ci := 0) X.2.2.2.2.2 hP (j := 0) (by decide) (xe_x0 ..) rfl) rfl rfl ⟨Nat.le_of_ble_eq_true rfl, Nat.le_of_ble_eq_true rfl⟩ hl.1 (Nat.le_of_ble_eq_true rfl) dX0_bad_4 ⟨Nat.le_of_ble_eq_true rfl, Nat.le_of_ble_eq_true rfl⟩) hS (fun _ h => h) (fun _ h => h) (fun r4 _ H locs hr1 hP1 hz1 hk1 hS => ?_)
  subst hr1
  have hP := hP1
  exact x_ri () X hr hlk hS dX0_bad_7 rfl hP
theorem x_X0_no (l : Launch) (dC : Nat → ClassId) (dI : Nat → Nat → Nat) (dA : Nat → ClassId) (n : Nat) (ξ : mdT) (V : Nat → Option Nat) (V2 : Nat → Option Nat) (im : Nat → Option Nat) (ab : Int64) (be : Int64) : Met l yX0_no (ws_ yX0_no cX0_no 1 (some .int)) { frames := 2, cells := 0, slots := 0, locals := 120 } (xPc dC dI dA (bkP dC dI n 96 (xE dA n ξ V V2 im ab be)) [.ref n]) (xEi ((-3)) (bkP dC dI n 96 (xE dA n (mdS ξ 89 1 (ξ 89 1 + nI 1)) V V2 im ab be)) (bkA n 96)) 0 0 (bkA n 96) := by
  refine x_in (by decide) rfl (Nat.le_of_ble_eq_true rfl) (lv := [(0, .ref n)]) rfl ?_
  intro p e s m below meth c_ X hN hnm hr hlk hP ls hl
  have hS : va_S (bkA n 96) s.heap s.heap [] := va_S.rf
  refine lv_aload_n X.1 X.2.1 dX0_no_0 rfl (lv_at hl 0 rfl) ?_
  refine lv_iconst (v := nI 1) X.1 X.2.1 dX0_no_1 rfl ?_
  refine lv_bipush (v := (-3)) X.1 X.2.1 dX0_no_2 rfl ?_
  refine x_cWi (x_runV X hN hP (As := [.int (nI 1), .int (-3)]) (rest := []) (x_X0_refuses l dC dI dA n ξ V V2 im ab be 1 (-3) (by omega)) xkv_X0_81 (x_recv (ci := 0) X.2.2.2.2.2 hP (j := 0) (by decide) (xe_x0 ..) rfl) rfl rfl ⟨Nat.le_of_ble_eq_true rfl, Nat.le_of_ble_eq_true rfl⟩ hl.1 (Nat.le_of_ble_eq_true rfl) dX0_no_4 ⟨Nat.le_of_ble_eq_true rfl, Nat.le_of_ble_eq_true rfl⟩) hS (fun _ h => h) (fun _ h => h) (fun r4 _ H locs hr1 hP1 hz1 hk1 hS => ?_)
  subst hr1
  have hP := hP1
  exact x_ri () X hr hlk hS dX0_no_7 rfl hP
theorem x_X0_full (l : Launch) (dC : Nat → ClassId) (dI : Nat → Nat → Nat) (dA : Nat → ClassId) (n : Nat) (ξ : mdT) (V : Nat → Option Nat) (V2 : Nat → Option Nat) (im : Nat → Option Nat) (ab : Int64) (be : Int64) : Met l yX0_full (ws_ yX0_full cX0_full 1 (some .int)) { frames := 2, cells := 0, slots := 0, locals := 120 } (xPc dC dI dA (bkP dC dI n 96 (xE dA n ξ V V2 im ab be)) [.ref n]) (xEi ((-4)) (bkP dC dI n 96 (xE dA n (mdS ξ 89 2 (ξ 89 2 + nI 1)) V V2 im ab be)) (bkA n 96)) 0 0 (bkA n 96) := by
  refine x_in (by decide) rfl (Nat.le_of_ble_eq_true rfl) (lv := [(0, .ref n)]) rfl ?_
  intro p e s m below meth c_ X hN hnm hr hlk hP ls hl
  have hS : va_S (bkA n 96) s.heap s.heap [] := va_S.rf
  refine lv_aload_n X.1 X.2.1 dX0_full_0 rfl (lv_at hl 0 rfl) ?_
  refine lv_iconst (v := nI 2) X.1 X.2.1 dX0_full_1 rfl ?_
  refine lv_bipush (v := (-4)) X.1 X.2.1 dX0_full_2 rfl ?_
  refine x_cWi (x_runV X hN hP (As := [.int (nI 2), .int (-4)]) (rest := []) (x_X0_refuses l dC dI dA n ξ V V2 im ab be 2 (-4) (by omega)) xkv_X0_81 (x_recv (ci := 0) X.2.2.2.2.2 hP (j := 0) (by decide) (xe_x0 ..) rfl) rfl rfl ⟨Nat.le_of_ble_eq_true rfl, Nat.le_of_ble_eq_true rfl⟩ hl.1 (Nat.le_of_ble_eq_true rfl) dX0_full_4 ⟨Nat.le_of_ble_eq_true rfl, Nat.le_of_ble_eq_true rfl⟩) hS (fun _ h => h) (fun _ h => h) (fun r4 _ H locs hr1 hP1 hz1 hk1 hS => ?_)
  subst hr1
  have hP := hP1
  exact x_ri () X hr hlk hS dX0_full_7 rfl hP
theorem x_X0_badAsk (l : Launch) (dC : Nat → ClassId) (dI : Nat → Nat → Nat) (dA : Nat → ClassId) (n : Nat) (ξ : mdT) (V : Nat → Option Nat) (V2 : Nat → Option Nat) (im : Nat → Option Nat) (ab : Int64) (be : Int64) : Met l yX0_badAsk (ws_ yX0_badAsk cX0_badAsk 1 (some .int)) { frames := 2, cells := 0, slots := 0, locals := 120 } (xPc dC dI dA (bkP dC dI n 96 (xE dA n ξ V V2 im ab be)) [.ref n]) (xEi ((-10)) (bkP dC dI n 96 (xE dA n (mdS ξ 89 0 (ξ 89 0 + nI 1)) V V2 im ab be)) (bkA n 96)) 0 0 (bkA n 96) := by
  refine x_in (by decide) rfl (Nat.le_of_ble_eq_true rfl) (lv := [(0, .ref n)]) rfl ?_
  intro p e s m below meth c_ X hN hnm hr hlk hP ls hl
  have hS : va_S (bkA n 96) s.heap s.heap [] := va_S.rf
  refine lv_aload_n X.1 X.2.1 dX0_badAsk_0 rfl (lv_at hl 0 rfl) ?_
  refine lv_iconst (v := nI 0) X.1 X.2.1 dX0_badAsk_1 rfl ?_
  refine lv_bipush (v := (-10)) X.1 X.2.1 dX0_badAsk_2 rfl ?_
  refine x_cWi (x_runV X hN hP (As := [.int (nI 0), .int (-10)]) (rest := []) (x_X0_refuses l dC dI dA n ξ V V2 im ab be 0 (-10) (by omega)) xkv_X0_81 (x_recv (ci := 0) X.2.2.2.2.2 hP (j := 0) (by decide) (xe_x0 ..) rfl) rfl rfl ⟨Nat.le_of_ble_eq_true rfl, Nat.le_of_ble_eq_true rfl⟩ hl.1 (Nat.le_of_ble_eq_true rfl) dX0_badAsk_4 ⟨Nat.le_of_ble_eq_true rfl, Nat.le_of_ble_eq_true rfl⟩) hS (fun _ h => h) (fun _ h => h) (fun r4 _ H locs hr1 hP1 hz1 hk1 hS => ?_)
  subst hr1
  have hP := hP1
  exact x_ri () X hr hlk hS dX0_badAsk_7 rfl hP
theorem x_X0_isView (l : Launch) (dC : Nat → ClassId) (dI : Nat → Nat → Nat) (dA : Nat → ClassId) (n : Nat) (ξ : mdT) (V : Nat → Option Nat) (V2 : Nat → Option Nat) (im : Nat → Option Nat) (ab : Int64) (be : Int64) (v : Int32) (c : Nat) (many : Nat) (rent : Nat) (rd : Nat) (un : Nat) (hs : Nat) (ev : Nat) (f : Nat → Int32) (hR : shR c many rent rd un hs ev f (fun i_ => ξ (1 + i_))) : Met l yX0_isView (ws_ yX0_isView cX0_isView 2 (some .boolean)) { frames := 2, cells := 0, slots := 0, locals := 120 } (xPc dC dI dA (bkP dC dI n 96 (xE dA n ξ V V2 im ab be)) [.ref n, .int v]) (vp_Si (fun r_ => r_ = (rb_i (rv_in v 0 (f 0 - nI 1).toInt)))) 0 0 (fun _ => False) := by
  refine x_in (by decide) rfl (Nat.le_of_ble_eq_true rfl) (lv := [(0, .ref n), (1, .int v)]) rfl ?_
  intro p e s m below meth c_ X hN hnm hr hlk hP ls hl
  have hm := hR.m6
  have hr6 := hR.r6
  have hd6 := hR.d6
  have hu8 := hR.u8
  have hs12 := hR.h12
  refine lv_iload_n X.1 X.2.1 dX0_isView_0 rfl (lv_at hl 1 rfl) ?_
  refine lv_i2l X.1 X.2.1 dX0_isView_1 rfl ?_
  refine lv_lconst (v := 0) X.1 X.2.1 dX0_isView_2 rfl ?_
  refine lv_aload_n X.1 X.2.1 dX0_isView_3 rfl (lv_at hl 0 rfl) ?_
  refine xb_get (C := RX0) (T := TX0) (v := .ref (n + 1)) X in_X0 (ci := 0) rfl hP (j := 0) (by decide) (xe_x0 ..) 0 (by decide) q248 rfl rfl dX0_isView_4 ?_
  refine xb_getN (host := "RentedViews") (C := RX1) (T := TX1) (v := .int (ξ 1 0)) X in_X1 (ci := 1) rfl hP (j := 1) (by decide) (xe_x1 ..) 2 (by decide) (x_nest hN q145 rfl) rfl rfl dX0_isView_7 ?_
  refine rn_co (y := f 0) (hR.nm.trans hR.f0.symm) ?_
  refine lv_iconst (v := nI 1) X.1 X.2.1 dX0_isView_10 rfl ?_
  refine lv_isub X.1 X.2.1 dX0_isView_11 ?_
  refine lv_i2l X.1 X.2.1 dX0_isView_12 rfl ?_
  refine x_cSe (x_runSp X (As := [.long (Int32.toInt64 v), .long 0, .long (Int32.toInt64 ((f 0) - 1))]) (rest := []) (x_X0_in l (Int32.toInt64 v) 0 (Int32.toInt64 ((f 0) - 1))) xks_X0_89 rfl rfl ⟨Nat.le_of_ble_eq_true rfl, Nat.le_of_ble_eq_true rfl⟩ hl.1 (Nat.le_of_ble_eq_true rfl) dX0_isView_13 ⟨Nat.le_of_ble_eq_true rfl, Nat.le_of_ble_eq_true rfl⟩) ?_
  exact rv_rz X.1 X.2.1 hr hlk (rv_nar _) dX0_isView_16 (by rw [rv_inL_ii]; rfl)
theorem x_X0_isRenter (l : Launch) (dC : Nat → ClassId) (dI : Nat → Nat → Nat) (dA : Nat → ClassId) (n : Nat) (ξ : mdT) (V : Nat → Option Nat) (V2 : Nat → Option Nat) (im : Nat → Option Nat) (ab : Int64) (be : Int64) (v : Int32) (c : Nat) (many : Nat) (rent : Nat) (rd : Nat) (un : Nat) (hs : Nat) (ev : Nat) (f : Nat → Int32) (hR : shR c many rent rd un hs ev f (fun i_ => ξ (1 + i_))) : Met l yX0_isRenter (ws_ yX0_isRenter cX0_isRenter 2 (some .boolean)) { frames := 2, cells := 0, slots := 0, locals := 120 } (xPc dC dI dA (bkP dC dI n 96 (xE dA n ξ V V2 im ab be)) [.ref n, .int v]) (vp_Si (fun r_ => r_ = (rb_i (rv_in v 0 (f 1 - nI 1).toInt)))) 0 0 (fun _ => False) := by
  refine x_in (by decide) rfl (Nat.le_of_ble_eq_true rfl) (lv := [(0, .ref n), (1, .int v)]) rfl ?_
  intro p e s m below meth c_ X hN hnm hr hlk hP ls hl
  have hm := hR.m6
  have hr6 := hR.r6
  have hd6 := hR.d6
  have hu8 := hR.u8
  have hs12 := hR.h12
  refine lv_iload_n X.1 X.2.1 dX0_isRenter_0 rfl (lv_at hl 1 rfl) ?_
  refine lv_i2l X.1 X.2.1 dX0_isRenter_1 rfl ?_
  refine lv_lconst (v := 0) X.1 X.2.1 dX0_isRenter_2 rfl ?_
  refine lv_aload_n X.1 X.2.1 dX0_isRenter_3 rfl (lv_at hl 0 rfl) ?_
  refine xb_get (C := RX0) (T := TX0) (v := .ref (n + 1)) X in_X0 (ci := 0) rfl hP (j := 0) (by decide) (xe_x0 ..) 0 (by decide) q248 rfl rfl dX0_isRenter_4 ?_
  refine xb_getN (host := "RentedViews") (C := RX1) (T := TX1) (v := .int (ξ 1 1)) X in_X1 (ci := 1) rfl hP (j := 1) (by decide) (xe_x1 ..) 5 (by decide) (x_nest hN q154 rfl) rfl rfl dX0_isRenter_7 ?_
  refine rn_co (y := f 1) (hR.nr.trans hR.f1.symm) ?_
  refine lv_iconst (v := nI 1) X.1 X.2.1 dX0_isRenter_10 rfl ?_
  refine lv_isub X.1 X.2.1 dX0_isRenter_11 ?_
  refine lv_i2l X.1 X.2.1 dX0_isRenter_12 rfl ?_
  refine x_cSe (x_runSp X (As := [.long (Int32.toInt64 v), .long 0, .long (Int32.toInt64 ((f 1) - 1))]) (rest := []) (x_X0_in l (Int32.toInt64 v) 0 (Int32.toInt64 ((f 1) - 1))) xks_X0_89 rfl rfl ⟨Nat.le_of_ble_eq_true rfl, Nat.le_of_ble_eq_true rfl⟩ hl.1 (Nat.le_of_ble_eq_true rfl) dX0_isRenter_13 ⟨Nat.le_of_ble_eq_true rfl, Nat.le_of_ble_eq_true rfl⟩) ?_
  exact rv_rz X.1 X.2.1 hr hlk (rv_nar _) dX0_isRenter_16 (by rw [rv_inL_ii]; rfl)
theorem x_X0_all (l : Launch) (dC : Nat → ClassId) (dI : Nat → Nat → Nat) (dA : Nat → ClassId) (n : Nat) (ξ : mdT) (V : Nat → Option Nat) (V2 : Nat → Option Nat) (im : Nat → Option Nat) (ab : Int64) (be : Int64) (c : Nat) (many : Nat) (rent : Nat) (rd : Nat) (un : Nat) (hs : Nat) (ev : Nat) (f : Nat → Int32) (hR : shR c many rent rd un hs ev f (fun i_ => ξ (1 + i_))) : Met l yX0_all (ws_ yX0_all cX0_all 1 (some .int)) { frames := 1, cells := 0, slots := 0, locals := 60 } (xPc dC dI dA (bkP dC dI n 96 (xE dA n ξ V V2 im ab be)) [.ref n]) (vp_Si (fun r_ => r_ = (nI (2 ^ rent - 1)))) 0 0 (fun _ => False) := by
  refine x_in (by decide) rfl (Nat.le_of_ble_eq_true rfl) (lv := [(0, .ref n)]) rfl ?_
  intro p e s m below meth c_ X hN hnm hr hlk hP ls hl
  have hm := hR.m6
  have hr6 := hR.r6
  have hd6 := hR.d6
  have hu8 := hR.u8
  have hs12 := hR.h12
  refine lv_iconst (v := nI 1) X.1 X.2.1 dX0_all_0 rfl ?_
  refine lv_aload_n X.1 X.2.1 dX0_all_1 rfl (lv_at hl 0 rfl) ?_
  refine xb_get (C := RX0) (T := TX0) (v := .ref (n + 1)) X in_X0 (ci := 0) rfl hP (j := 0) (by decide) (xe_x0 ..) 0 (by decide) q248 rfl rfl dX0_all_2 ?_
  refine xb_getN (host := "RentedViews") (C := RX1) (T := TX1) (v := .int (ξ 1 1)) X in_X1 (ci := 1) rfl hP (j := 1) (by decide) (xe_x1 ..) 5 (by decide) (x_nest hN q154 rfl) rfl rfl dX0_all_5 ?_
  refine rn_co (y := nI rent) hR.nr ?_
  refine lv_ishl X.1 X.2.1 dX0_all_8 ?_
  refine lv_iconst (v := nI 1) X.1 X.2.1 dX0_all_9 rfl ?_
  refine lv_isub X.1 X.2.1 dX0_all_10 ?_
  exact rv_ri X.1 X.2.1 hr hlk dX0_all_11 (b_all1 rent (by omega))
theorem x_X0_out (l : Launch) (dC : Nat → ClassId) (dI : Nat → Nat → Nat) (dA : Nat → ClassId) (n : Nat) (ξ : mdT) (V : Nat → Option Nat) (V2 : Nat → Option Nat) (im : Nat → Option Nat) (ab : Int64) (be : Int64) (c : Nat) (many : Nat) (rent : Nat) (rd : Nat) (un : Nat) (hs : Nat) (ev : Nat) (f : Nat → Int32) (hR : shR c many rent rd un hs ev f (fun i_ => ξ (1 + i_))) : Met l yX0_out (ws_ yX0_out cX0_out 3 (some .int)) { frames := 1, cells := 0, slots := 0, locals := 60 } (xPc dC dI dA (bkP dC dI n 96 (xE dA n ξ V V2 im ab be)) [.ref n]) (vp_Si (fun r_ => r_ = (rv_out (fun v => f (7 + 6 * v + 4)) many))) 0 0 (fun _ => False) := by
  refine x_in (by decide) rfl (Nat.le_of_ble_eq_true rfl) (lv := [(0, .ref n)]) rfl ?_
  intro p e s m below meth c_ X hN hnm hr hlk hP ls hl
  have hm := hR.m6
  have hr6 := hR.r6
  have hd6 := hR.d6
  have hu8 := hR.u8
  have hs12 := hR.h12
  have K4 : ∀ (k4_ : Nat) (x : Int32) (i : Nat), many - i = k4_ → (i ≤ many) → (x = rv_out (fun v => f (7 + 6 * v + 4)) i) → ∀ ls, lv_has ls 3 [(0, .ref n), (1, .int x), (2, .int (nI i))] → W p l e { frames := 1, cells := 0, slots := 0, locals := 60 } s m [.ref n].toArray below meth c_ s.heap [] 0 0 (MQ below (vp_Si (fun r_ => r_ = (rv_out (fun v => f (7 + 6 * v + 4)) many))) [.ref n].toArray s 0 0 (fun _ => False)) (F0 m 4 ls []) := by
    intro k4_
    induction k4_ using Nat.strongRecOn with
    | _ k4_ ih4 =>
      intro x i hm4_ hi hf ls hl
      refine lv_iload_n X.1 X.2.1 dX0_out_4 rfl (lv_at hl 2 rfl) ?_
      refine lv_aload_n X.1 X.2.1 dX0_out_5 rfl (lv_at hl 0 rfl) ?_
      refine xb_get (C := RX0) (T := TX0) (v := .ref (n + 1)) X in_X0 (ci := 0) rfl hP (j := 0) (by decide) (xe_x0 ..) 0 (by decide) q248 rfl rfl dX0_out_6 ?_
      refine xb_getN (host := "RentedViews") (C := RX1) (T := TX1) (v := .int (ξ 1 0)) X in_X1 (ci := 1) rfl hP (j := 1) (by decide) (xe_x1 ..) 2 (by decide) (x_nest hN q145 rfl) rfl rfl dX0_out_9 ?_
      refine rn_co (y := nI many) hR.nm ?_
      refine rn_icmp_ge (tgt := 45) X.1 X.2.1 (by omega) (by omega) dX0_out_12 (by decide) (fun c_12 => ?_) (fun c_12 => ?_)
      · refine lv_iload_n X.1 X.2.1 dX0_out_45 rfl (lv_at hl 1 rfl) ?_
        exact rv_ri X.1 X.2.1 hr hlk dX0_out_46 (by rw [hf, show i = many by omega])
      · refine lv_iload_n X.1 X.2.1 dX0_out_15 rfl (lv_at hl 1 rfl) ?_
        refine lv_aload_n X.1 X.2.1 dX0_out_16 rfl (lv_at hl 0 rfl) ?_
        refine xb_get (C := RX0) (T := TX0) (v := .ref (n + 1)) X in_X0 (ci := 0) rfl hP (j := 0) (by decide) (xe_x0 ..) 0 (by decide) q248 rfl rfl dX0_out_17 ?_
        refine xb_getN (host := "RentedViews") (C := RX1) (T := TX1) (v := .ref (n + 7)) X in_X1 (ci := 1) rfl hP (j := 1) (by decide) (xe_x1 ..) 8 (by decide) (x_nest hN q160 rfl) rfl rfl dX0_out_20 ?_
        refine xb_getN (host := "RentedViews") (C := RX2) (T := TX2) (v := .ref (n + 9)) X in_X2 (ci := 2) rfl hP (j := 7) (by decide) (xe_x7 ..) 1 (by decide) (x_nest hN q110 rfl) rfl rfl dX0_out_23 ?_
        refine lv_iload_n X.1 X.2.1 dX0_out_26 rfl (lv_at hl 2 rfl) ?_
        refine xb_iald X hP (j := 9) (by decide) (n := 6) (f := ξ 9) rfl (by omega) (by decide) dX0_out_27 ?_
        refine rn_co (y := f (7 + 6 * i + 4)) (hR.lt (by omega)) ?_
        refine lv_iconst (v := (-1)) X.1 X.2.1 dX0_out_28 rfl ?_
        refine lv_icmp_eq (tgt := 36) X.1 X.2.1 dX0_out_29 (by decide) (fun (c_29 : f (7 + 6 * i + 4) = (-1)) => ?_) (fun (c_29 : ¬ f (7 + 6 * i + 4) = (-1)) => ?_)
        · refine lv_iconst (v := nI 0) X.1 X.2.1 dX0_out_36 rfl ?_
          refine lv_iadd X.1 X.2.1 dX0_out_37 ?_
          refine lv_istore_n (lv' := [(1, .int (x + 0)), (0, .ref n), (2, .int (nI i))]) X.1 X.2.1 dX0_out_38 rfl hl (by decide) rfl (fun ls hl => ?_)
          refine rn_iinc (lv' := [(2, .int (nI (i + 1))), (1, .int (x + 0)), (0, .ref n)]) X.1 X.2.1 dX0_out_39 hl (k := 2) rfl (by decide) rfl (fun ls hl => ?_)
          refine lv_goto (tgt := 4) X.1 X.2.1 dX0_out_42 (by decide) ?_
          exact ih4 _ (by omega) (x + 0) (i + 1) rfl (by omega) (by simp only [rv_out]; first | (rw [if_pos c_29, hf]) | (rw [if_neg c_29, hf])) ls (lv_sub hl [2, 1, 0] rfl)
        · refine lv_iconst (v := nI 1) X.1 X.2.1 dX0_out_32 rfl ?_
          refine lv_goto (tgt := 37) X.1 X.2.1 dX0_out_33 (by decide) ?_
          refine lv_iadd X.1 X.2.1 dX0_out_37 ?_
          refine lv_istore_n (lv' := [(1, .int (x + 1)), (0, .ref n), (2, .int (nI i))]) X.1 X.2.1 dX0_out_38 rfl hl (by decide) rfl (fun ls hl => ?_)
          refine rn_iinc (lv' := [(2, .int (nI (i + 1))), (1, .int (x + 1)), (0, .ref n)]) X.1 X.2.1 dX0_out_39 hl (k := 2) rfl (by decide) rfl (fun ls hl => ?_)
          refine lv_goto (tgt := 4) X.1 X.2.1 dX0_out_42 (by decide) ?_
          exact ih4 _ (by omega) (x + 1) (i + 1) rfl (by omega) (by simp only [rv_out]; first | (rw [if_pos c_29, hf]) | (rw [if_neg c_29, hf])) ls (lv_sub hl [2, 1, 0] rfl)
  refine lv_iconst (v := nI 0) X.1 X.2.1 dX0_out_0 rfl ?_
  refine lv_istore_n (lv' := [(1, .int (nI 0)), (0, .ref n)]) X.1 X.2.1 dX0_out_1 rfl hl (by decide) rfl (fun ls hl => ?_)
  refine lv_iconst (v := nI 0) X.1 X.2.1 dX0_out_2 rfl ?_
  refine lv_istore_n (lv' := [(2, .int (nI 0)), (1, .int (nI 0)), (0, .ref n)]) X.1 X.2.1 dX0_out_3 rfl hl (by decide) rfl (fun ls hl => ?_)
  exact K4 _ (nI 0) 0 rfl (by omega) rfl ls (lv_sub hl [2, 1, 0] rfl)
theorem x_X1_viewOf (l : Launch) (dC : Nat → ClassId) (dI : Nat → Nat → Nat) (dA : Nat → ClassId) (b : Nat) (S : mdT) (V : Nat → Option Nat) (r : Int32) (c : Nat) (many : Nat) (rent : Nat) (rd : Nat) (un : Nat) (hs : Nat) (ev : Nat) (f : Nat → Int32) (hR : shR c many rent rd un hs ev f S) : Met l yX1_viewOf (ws_ yX1_viewOf cX1_viewOf 4 (some .int)) { frames := 1, cells := 0, slots := 0, locals := 60 } (xPc dC dI dA (bkP dC dI b 43 (sbE dA b S V)) [.ref b, .int r]) (vp_Si (fun r_ => r_ = (rv_vo (fun v => f (7 + 6 * v + 4)) r many))) 0 0 (fun _ => False) := by
  refine x_in (by decide) rfl (Nat.le_of_ble_eq_true rfl) (lv := [(0, .ref b), (1, .int r)]) rfl ?_
  intro p e s m below meth c_ X hN hnm hr hlk hP ls hl
  have hm := hR.m6
  have hr6 := hR.r6
  have hd6 := hR.d6
  have hu8 := hR.u8
  have hs12 := hR.h12
  have K4 : ∀ (k4_ : Nat) (x : Int32) (i : Nat), many - i = k4_ → (i ≤ many) → (x = rv_vo (fun v => f (7 + 6 * v + 4)) r i) → ∀ ls, lv_has ls 4 [(0, .ref b), (1, .int r), (2, .int x), (3, .int (nI i))] → W p l e { frames := 1, cells := 0, slots := 0, locals := 60 } s m [.ref b, .int r].toArray below meth c_ s.heap [] 0 0 (MQ below (vp_Si (fun r_ => r_ = (rv_vo (fun v => f (7 + 6 * v + 4)) r many))) [.ref b, .int r].toArray s 0 0 (fun _ => False)) (F0 m 4 ls []) := by
    intro k4_
    induction k4_ using Nat.strongRecOn with
    | _ k4_ ih4 =>
      intro x i hm4_ hi hf ls hl
      refine lv_iload_n X.1 X.2.1 dX1_viewOf_4 rfl (lv_at hl 3 rfl) ?_
      refine lv_aload_n X.1 X.2.1 dX1_viewOf_5 rfl (lv_at hl 0 rfl) ?_
      refine xb_get (C := RX1) (T := TX1) (v := .int (S 0 0)) X in_X1 (ci := 1) rfl hP (j := 0) (by decide) (xe_s0 ..) 2 (by decide) q143 rfl rfl dX1_viewOf_6 ?_
      refine rn_co (y := nI many) hR.nm ?_
      refine rn_icmp_ge (tgt := 37) X.1 X.2.1 (by omega) (by omega) dX1_viewOf_9 (by decide) (fun c_9 => ?_) (fun c_9 => ?_)
      · refine lv_iload_n X.1 X.2.1 dX1_viewOf_37 rfl (lv_at hl 2 rfl) ?_
        exact rv_ri X.1 X.2.1 hr hlk dX1_viewOf_38 (by rw [hf, show i = many by omega])
      · refine lv_aload_n X.1 X.2.1 dX1_viewOf_12 rfl (lv_at hl 0 rfl) ?_
        refine xb_get (C := RX1) (T := TX1) (v := .ref (b + 6)) X in_X1 (ci := 1) rfl hP (j := 0) (by decide) (xe_s0 ..) 8 (by decide) q159 rfl rfl dX1_viewOf_13 ?_
        refine xb_getN (host := "RentedViews") (C := RX2) (T := TX2) (v := .ref (b + 8)) X in_X2 (ci := 2) rfl hP (j := 6) (by decide) (xe_s6 ..) 1 (by decide) (x_nest hN q109 rfl) rfl rfl dX1_viewOf_16 ?_
        refine lv_iload_n X.1 X.2.1 dX1_viewOf_19 rfl (lv_at hl 3 rfl) ?_
        refine xb_iald X hP (j := 8) (by decide) (n := 6) (f := S 8) rfl (by omega) (by decide) dX1_viewOf_20 ?_
        refine rn_co (y := f (7 + 6 * i + 4)) (hR.lt (by omega)) ?_
        refine lv_iload_n X.1 X.2.1 dX1_viewOf_21 rfl (lv_at hl 1 rfl) ?_
        refine lv_icmp_ne (tgt := 29) X.1 X.2.1 dX1_viewOf_22 (by decide) (fun (c_22 : ¬ f (7 + 6 * i + 4) = r) => ?_) (fun (c_22 : f (7 + 6 * i + 4) = r) => ?_)
        · refine lv_iload_n X.1 X.2.1 dX1_viewOf_29 rfl (lv_at hl 2 rfl) ?_
          refine lv_istore_n (lv' := [(2, .int x), (0, .ref b), (1, .int r), (3, .int (nI i))]) X.1 X.2.1 dX1_viewOf_30 rfl hl (by decide) rfl (fun ls hl => ?_)
          refine rn_iinc (lv' := [(3, .int (nI (i + 1))), (2, .int x), (0, .ref b), (1, .int r)]) X.1 X.2.1 dX1_viewOf_31 hl (k := 3) rfl (by decide) rfl (fun ls hl => ?_)
          refine lv_goto (tgt := 4) X.1 X.2.1 dX1_viewOf_34 (by decide) ?_
          exact ih4 _ (by omega) x (i + 1) rfl (by omega) (by simp only [rv_vo]; first | rw [if_pos c_22] | rw [if_neg c_22, hf]) ls (lv_sub hl [2, 3, 1, 0] rfl)
        · refine lv_iload_n X.1 X.2.1 dX1_viewOf_25 rfl (lv_at hl 3 rfl) ?_
          refine lv_goto (tgt := 30) X.1 X.2.1 dX1_viewOf_26 (by decide) ?_
          refine lv_istore_n (lv' := [(2, .int (nI i)), (0, .ref b), (1, .int r), (3, .int (nI i))]) X.1 X.2.1 dX1_viewOf_30 rfl hl (by decide) rfl (fun ls hl => ?_)
          refine rn_iinc (lv' := [(3, .int (nI (i + 1))), (2, .int (nI i)), (0, .ref b), (1, .int r)]) X.1 X.2.1 dX1_viewOf_31 hl (k := 3) rfl (by decide) rfl (fun ls hl => ?_)
          refine lv_goto (tgt := 4) X.1 X.2.1 dX1_viewOf_34 (by decide) ?_
          exact ih4 _ (by omega) (nI i) (i + 1) rfl (by omega) (by simp only [rv_vo]; first | rw [if_pos c_22] | rw [if_neg c_22, hf]) ls (lv_sub hl [2, 3, 1, 0] rfl)
  refine lv_iconst (v := (-1)) X.1 X.2.1 dX1_viewOf_0 rfl ?_
  refine lv_istore_n (lv' := [(2, .int (-1)), (0, .ref b), (1, .int r)]) X.1 X.2.1 dX1_viewOf_1 rfl hl (by decide) rfl (fun ls hl => ?_)
  refine lv_iconst (v := nI 0) X.1 X.2.1 dX1_viewOf_2 rfl ?_
  refine lv_istore_n (lv' := [(3, .int (nI 0)), (2, .int (-1)), (0, .ref b), (1, .int r)]) X.1 X.2.1 dX1_viewOf_3 rfl hl (by decide) rfl (fun ls hl => ?_)
  exact K4 _ (-1) 0 rfl (by omega) rfl ls (lv_sub hl [2, 3, 1, 0] rfl)
theorem x_X1_suits (l : Launch) (dC : Nat → ClassId) (dI : Nat → Nat → Nat) (dA : Nat → ClassId) (b : Nat) (S : mdT) (V : Nat → Option Nat) (v : Nat) (r : Nat) (ei : Int32) (c : Nat) (many : Nat) (rent : Nat) (rd : Nat) (un : Nat) (hs : Nat) (ev : Nat) (f : Nat → Int32) (hR : shR c many rent rd un hs ev f S) (T : Nat → Prop) (hv6 : v < many) (hrr : r < rent) : Met l yX1_suits (ws_ yX1_suits cX1_suits 5 (some .boolean)) { frames := 4, cells := 0, slots := 0, locals := 240 } (xPc dC dI dA (fun H => (bkP dC dI b 43 (sbE dA b S V) H) ∧ (shV dC dI T many f V H)) [.ref b, .int (nI v), .int (nI r), .int ei]) (vp_Si (fun r_ => r_ = (rb_i (rv_suitN f v r ei)))) 0 0 (fun _ => False) := by
  refine x_in (by decide) rfl (Nat.le_of_ble_eq_true rfl) (lv := [(0, .ref b), (1, .int (nI v)), (2, .int (nI r)), (3, .int ei)]) rfl ?_
  intro p e s m below meth c_ X hN hnm hr hlk hP ls hl
  obtain ⟨hP, hV⟩ := hP
  have hm := hR.m6
  have hr6 := hR.r6
  have hd6 := hR.d6
  have hu8 := hR.u8
  have hs12 := hR.h12
  refine lv_aload_n X.1 X.2.1 dX1_suits_0 rfl (lv_at hl 0 rfl) ?_
  refine xb_get (C := RX1) (T := TX1) (v := .ref (b + 1)) X in_X1 (ci := 1) rfl hP (j := 0) (by decide) (xe_s0 ..) 0 (by decide) q137 rfl rfl dX1_suits_1 ?_
  refine lv_iload_n X.1 X.2.1 dX1_suits_4 rfl (lv_at hl 1 rfl) ?_
  obtain ⟨a5, kd5, hVa5, hTa5, hk5, hf5, hv5⟩ := hV.2 v (by omega)
  refine xb_aald X hP (j := 1) (by decide) (t := 3) (C := RX6) (f := V) rfl rfl (by omega) (by decide) dX1_suits_5 ?_
  refine x_vq hVa5 ?_
  refine lv_aload_n X.1 X.2.1 dX1_suits_6 rfl (lv_at hl 0 rfl) ?_
  refine xb_get (C := RX1) (T := TX1) (v := .ref (b + 3)) X in_X1 (ci := 1) rfl hP (j := 0) (by decide) (xe_s0 ..) 3 (by decide) q147 rfl rfl dX1_suits_7 ?_
  refine lv_iload_n X.1 X.2.1 dX1_suits_10 rfl (lv_at hl 2 rfl) ?_
  refine xb_iald X hP (j := 3) (by decide) (n := 6) (f := S 3) rfl (by omega) (by decide) dX1_suits_11 ?_
  refine rn_co (y := f (43 + 3 * r)) (hR.wal (by omega)) ?_
  refine vd_X1_fits (f (43 + 3 * r)) X hN hk5 hv5 (rest := []) ⟨Nat.le_of_ble_eq_true rfl, Nat.le_of_ble_eq_true rfl⟩ hl.1 (Nat.le_of_ble_eq_true rfl) dX1_suits_12 ⟨Nat.le_of_ble_eq_true rfl, Nat.le_of_ble_eq_true rfl⟩ ?_
  refine rn_co (y := rb_i (rv_fits (f (7 + 6 * v)) (f (7 + 6 * v + 1)) (f (43 + 3 * r)))) (by rw [hf5]) ?_
  refine rn_zt (tgt := 43) X.1 X.2.1 dX1_suits_15 (by decide) (fun c_15 => ?_) (fun c_15 => ?_)
  · refine lv_iconst (v := nI 0) X.1 X.2.1 dX1_suits_43 rfl ?_
    refine lv_istore (lv' := [(4, .int (nI 0)), (0, .ref b), (1, .int (nI v)), (2, .int (nI r)), (3, .int ei)]) X.1 X.2.1 dX1_suits_44 hl (by decide) rfl (fun ls hl => ?_)
    refine lv_iload X.1 X.2.1 dX1_suits_46 (lv_at hl 0 rfl) ?_
    refine rn_if_eq (tgt := 85) X.1 X.2.1 (by omega) dX1_suits_48 (by decide) (fun c_48 => ?_) (fun c_48 => ?_)
    · refine lv_iconst (v := nI 0) X.1 X.2.1 dX1_suits_85 rfl ?_
      exact rv_rz X.1 X.2.1 hr hlk rfl dX1_suits_86 (by first | exact (rb_is0 (by unfold rv_suitN; rw [c_15]; rfl)) | exact (rb_is0 (by unfold rv_suitN; rw [decide_eq_false (Int32.not_le.mpr c_36)]; simp)) | exact (rb_is1 (by unfold rv_suitN; rw [c_15, decide_eq_true (Int32.not_lt.mp c_36), decide_eq_true c_59]; rfl)) | exact (rb_is1 (by unfold rv_suitN; rw [c_15, decide_eq_true (Int32.not_lt.mp c_36), decide_eq_true (Eq.symm c_78)]; simp)) | exact (rb_is0 (by unfold rv_suitN; rw [c_15, decide_eq_false c_59, decide_eq_false (fun z => c_78 (Eq.symm z))]; simp)))
    · exact absurd c_48 (by decide)
  · refine lv_aload_n X.1 X.2.1 dX1_suits_18 rfl (lv_at hl 0 rfl) ?_
    refine xb_get (C := RX1) (T := TX1) (v := .ref (b + 1)) X in_X1 (ci := 1) rfl hP (j := 0) (by decide) (xe_s0 ..) 0 (by decide) q137 rfl rfl dX1_suits_19 ?_
    refine lv_iload_n X.1 X.2.1 dX1_suits_22 rfl (lv_at hl 1 rfl) ?_
    obtain ⟨a23, kd23, hVa23, hTa23, hk23, hf23, hv23⟩ := hV.2 v (by omega)
    refine xb_aald X hP (j := 1) (by decide) (t := 3) (C := RX6) (f := V) rfl rfl (by omega) (by decide) dX1_suits_23 ?_
    refine x_vq hVa23 ?_
    refine vd_X1_lets X hN hk23 hv23 (rest := []) ⟨Nat.le_of_ble_eq_true rfl, Nat.le_of_ble_eq_true rfl⟩ hl.1 (Nat.le_of_ble_eq_true rfl) dX1_suits_24 ⟨Nat.le_of_ble_eq_true rfl, Nat.le_of_ble_eq_true rfl⟩ ?_
    refine rn_co (y := rv_cost (f (7 + 6 * v)) (f (7 + 6 * v + 2))) (by rw [hf23]) ?_
    refine lv_aload_n X.1 X.2.1 dX1_suits_27 rfl (lv_at hl 0 rfl) ?_
    refine xb_get (C := RX1) (T := TX1) (v := .ref (b + 6)) X in_X1 (ci := 1) rfl hP (j := 0) (by decide) (xe_s0 ..) 8 (by decide) q159 rfl rfl dX1_suits_28 ?_
    refine xb_getN (host := "RentedViews") (C := RX2) (T := TX2) (v := .ref (b + 7)) X in_X2 (ci := 2) rfl hP (j := 6) (by decide) (xe_s6 ..) 0 (by decide) (x_nest hN q106 rfl) rfl rfl dX1_suits_31 ?_
    refine lv_iload_n X.1 X.2.1 dX1_suits_34 rfl (lv_at hl 2 rfl) ?_
    refine xb_iald X hP (j := 7) (by decide) (n := 6) (f := S 7) rfl (by omega) (by decide) dX1_suits_35 ?_
    refine rn_co (y := f (43 + 3 * r + 1)) (hR.pur (by omega)) ?_
    refine lv_icmp_gt (tgt := 43) X.1 X.2.1 dX1_suits_36 (by decide) (fun (c_36 : f (43 + 3 * r + 1) < rv_cost (f (7 + 6 * v)) (f (7 + 6 * v + 2))) => ?_) (fun (c_36 : ¬ f (43 + 3 * r + 1) < rv_cost (f (7 + 6 * v)) (f (7 + 6 * v + 2))) => ?_)
    · refine lv_iconst (v := nI 0) X.1 X.2.1 dX1_suits_43 rfl ?_
      refine lv_istore (lv' := [(4, .int (nI 0)), (0, .ref b), (1, .int (nI v)), (2, .int (nI r)), (3, .int ei)]) X.1 X.2.1 dX1_suits_44 hl (by decide) rfl (fun ls hl => ?_)
      refine lv_iload X.1 X.2.1 dX1_suits_46 (lv_at hl 0 rfl) ?_
      refine rn_if_eq (tgt := 85) X.1 X.2.1 (by omega) dX1_suits_48 (by decide) (fun c_48 => ?_) (fun c_48 => ?_)
      · refine lv_iconst (v := nI 0) X.1 X.2.1 dX1_suits_85 rfl ?_
        exact rv_rz X.1 X.2.1 hr hlk rfl dX1_suits_86 (by first | exact (rb_is0 (by unfold rv_suitN; rw [c_15]; rfl)) | exact (rb_is0 (by unfold rv_suitN; rw [decide_eq_false (Int32.not_le.mpr c_36)]; simp)) | exact (rb_is1 (by unfold rv_suitN; rw [c_15, decide_eq_true (Int32.not_lt.mp c_36), decide_eq_true c_59]; rfl)) | exact (rb_is1 (by unfold rv_suitN; rw [c_15, decide_eq_true (Int32.not_lt.mp c_36), decide_eq_true (Eq.symm c_78)]; simp)) | exact (rb_is0 (by unfold rv_suitN; rw [c_15, decide_eq_false c_59, decide_eq_false (fun z => c_78 (Eq.symm z))]; simp)))
      · exact absurd c_48 (by decide)
    · refine lv_iconst (v := nI 1) X.1 X.2.1 dX1_suits_39 rfl ?_
      refine lv_goto (tgt := 44) X.1 X.2.1 dX1_suits_40 (by decide) ?_
      refine lv_istore (lv' := [(4, .int (nI 1)), (0, .ref b), (1, .int (nI v)), (2, .int (nI r)), (3, .int ei)]) X.1 X.2.1 dX1_suits_44 hl (by decide) rfl (fun ls hl => ?_)
      refine lv_iload X.1 X.2.1 dX1_suits_46 (lv_at hl 0 rfl) ?_
      refine rn_if_eq (tgt := 85) X.1 X.2.1 (by omega) dX1_suits_48 (by decide) (fun c_48 => ?_) (fun c_48 => ?_)
      · exact absurd c_48 (by decide)
      · refine lv_aload_n X.1 X.2.1 dX1_suits_51 rfl (lv_at hl 1 rfl) ?_
        refine xb_get (C := RX1) (T := TX1) (v := .ref (b + 4)) X in_X1 (ci := 1) rfl hP (j := 0) (by decide) (xe_s0 ..) 4 (by decide) q149 rfl rfl dX1_suits_52 ?_
        refine lv_iload_n X.1 X.2.1 dX1_suits_55 rfl (lv_at hl 3 rfl) ?_
        refine xb_iald X hP (j := 4) (by decide) (n := 6) (f := S 4) rfl (by omega) (by decide) dX1_suits_56 ?_
        refine rn_co (y := f (43 + 3 * r + 2)) (hR.wan (by omega)) ?_
        refine lv_bipush (v := nI 6) X.1 X.2.1 dX1_suits_57 rfl ?_
        refine lv_icmp_eq (tgt := 81) X.1 X.2.1 dX1_suits_59 (by decide) (fun (c_59 : f (43 + 3 * r + 2) = 6) => ?_) (fun (c_59 : ¬ f (43 + 3 * r + 2) = 6) => ?_)
        · refine lv_iconst (v := nI 1) X.1 X.2.1 dX1_suits_81 rfl ?_
          refine lv_goto (tgt := 86) X.1 X.2.1 dX1_suits_82 (by decide) ?_
          exact rv_rz X.1 X.2.1 hr hlk rfl dX1_suits_86 (by first | exact (rb_is0 (by unfold rv_suitN; rw [c_15]; rfl)) | exact (rb_is0 (by unfold rv_suitN; rw [decide_eq_false (Int32.not_le.mpr c_36)]; simp)) | exact (rb_is1 (by unfold rv_suitN; rw [c_15, decide_eq_true (Int32.not_lt.mp c_36), decide_eq_true c_59]; rfl)) | exact (rb_is1 (by unfold rv_suitN; rw [c_15, decide_eq_true (Int32.not_lt.mp c_36), decide_eq_true (Eq.symm c_78)]; simp)) | exact (rb_is0 (by unfold rv_suitN; rw [c_15, decide_eq_false c_59, decide_eq_false (fun z => c_78 (Eq.symm z))]; simp)))
        · refine lv_aload_n X.1 X.2.1 dX1_suits_62 rfl (lv_at hl 1 rfl) ?_
          refine xb_get (C := RX1) (T := TX1) (v := .ref (b + 1)) X in_X1 (ci := 1) rfl hP (j := 0) (by decide) (xe_s0 ..) 0 (by decide) q137 rfl rfl dX1_suits_63 ?_
          refine lv_iload_n X.1 X.2.1 dX1_suits_66 rfl (lv_at hl 2 rfl) ?_
          obtain ⟨a67, kd67, hVa67, hTa67, hk67, hf67, hv67⟩ := hV.2 v (by omega)
          refine xb_aald X hP (j := 1) (by decide) (t := 3) (C := RX6) (f := V) rfl rfl (by omega) (by decide) dX1_suits_67 ?_
          refine x_vq hVa67 ?_
          refine lv_iload_n X.1 X.2.1 dX1_suits_68 rfl (lv_at hl 4 rfl) ?_
          refine vd_X1_shows ei X hN hk67 hv67 (rest := []) ⟨Nat.le_of_ble_eq_true rfl, Nat.le_of_ble_eq_true rfl⟩ hl.1 (Nat.le_of_ble_eq_true rfl) dX1_suits_69 ⟨Nat.le_of_ble_eq_true rfl, Nat.le_of_ble_eq_true rfl⟩ ?_
          refine rn_co (y := rv_weather (f (7 + 6 * v)) (f (7 + 6 * v + 3)) ei) (by rw [hf67]) ?_
          refine lv_aload_n X.1 X.2.1 dX1_suits_72 rfl (lv_at hl 1 rfl) ?_
          refine xb_get (C := RX1) (T := TX1) (v := .ref (b + 4)) X in_X1 (ci := 1) rfl hP (j := 0) (by decide) (xe_s0 ..) 4 (by decide) q149 rfl rfl dX1_suits_73 ?_
          refine lv_iload_n X.1 X.2.1 dX1_suits_76 rfl (lv_at hl 3 rfl) ?_
          refine xb_iald X hP (j := 4) (by decide) (n := 6) (f := S 4) rfl (by omega) (by decide) dX1_suits_77 ?_
          refine rn_co (y := f (43 + 3 * r + 2)) (hR.wan (by omega)) ?_
          refine lv_icmp_ne (tgt := 85) X.1 X.2.1 dX1_suits_78 (by decide) (fun (c_78 : ¬ rv_weather (f (7 + 6 * v)) (f (7 + 6 * v + 3)) ei = f (43 + 3 * r + 2)) => ?_) (fun (c_78 : rv_weather (f (7 + 6 * v)) (f (7 + 6 * v + 3)) ei = f (43 + 3 * r + 2)) => ?_)
          · refine lv_iconst (v := nI 0) X.1 X.2.1 dX1_suits_85 rfl ?_
            exact rv_rz X.1 X.2.1 hr hlk rfl dX1_suits_86 (by first | exact (rb_is0 (by unfold rv_suitN; rw [c_15]; rfl)) | exact (rb_is0 (by unfold rv_suitN; rw [decide_eq_false (Int32.not_le.mpr c_36)]; simp)) | exact (rb_is1 (by unfold rv_suitN; rw [c_15, decide_eq_true (Int32.not_lt.mp c_36), decide_eq_true c_59]; rfl)) | exact (rb_is1 (by unfold rv_suitN; rw [c_15, decide_eq_true (Int32.not_lt.mp c_36), decide_eq_true (Eq.symm c_78)]; simp)) | exact (rb_is0 (by unfold rv_suitN; rw [c_15, decide_eq_false c_59, decide_eq_false (fun z => c_78 (Eq.symm z))]; simp)))
          · refine lv_iconst (v := nI 1) X.1 X.2.1 dX1_suits_81 rfl ?_
            refine lv_goto (tgt := 86) X.1 X.2.1 dX1_suits_82 (by decide) ?_
            exact rv_rz X.1 X.2.1 hr hlk rfl dX1_suits_86 (by first | exact (rb_is0 (by unfold rv_suitN; rw [c_15]; rfl)) | exact (rb_is0 (by unfold rv_suitN; rw [decide_eq_false (Int32.not_le.mpr c_36)]; simp)) | exact (rb_is1 (by unfold rv_suitN; rw [c_15, decide_eq_true (Int32.not_lt.mp c_36), decide_eq_true c_59]; rfl)) | exact (rb_is1 (by unfold rv_suitN; rw [c_15, decide_eq_true (Int32.not_lt.mp c_36), decide_eq_true (Eq.symm c_78)]; simp)) | exact (rb_is0 (by unfold rv_suitN; rw [c_15, decide_eq_false c_59, decide_eq_false (fun z => c_78 (Eq.symm z))]; simp)))
