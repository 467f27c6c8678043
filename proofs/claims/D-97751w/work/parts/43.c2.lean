set_option maxRecDepth 100000
/-! the component: what is asked, 2 -/
theorem xkv_X0_114 : xKV RX0 yX0_full cX0_full 1 (some .int) 114 0 := ⟨q320, q322, qs2, q61, q323, by decide +kernel⟩
theorem xkv_X0_110 : xKV RX0 yX0_bad cX0_bad 1 (some .int) 110 0 := ⟨q312, q314, qs0, q61, q315, by decide +kernel⟩
theorem xkv_X0_132 : xKV RX0 yX0_isView cX0_isView 2 (some .boolean) 132 1 := ⟨q417, q419, qs3, q61, q420, by decide +kernel⟩
theorem xks_X0_244 : xKS RX0 yX0_isEvening cX0_isEvening 1 (some .boolean) 244 1 := ⟨q737, q738, q61, q739, by decide +kernel⟩
theorem xkv_X0_157 : xKV RX0 yX0_isRenter cX0_isRenter 2 (some .boolean) 157 1 := ⟨q604, q606, qs12, q61, q607, by decide +kernel⟩
theorem xkv_X0_247 : xKV RX0 yX1_suits cX1_suits 5 (some .boolean) 247 3 := ⟨q744, q745, q746, q62, q747, by decide +kernel⟩
theorem xkv_X0_221 : xKV RX0 yX0_badAsk cX0_badAsk 1 (some .int) 221 0 := ⟨q676, q678, qs14, q61, q679, by decide +kernel⟩
theorem xkv_X0_173 : xKV RX0 yX1_viewOf cX1_viewOf 4 (some .int) 173 1 := ⟨q608, q609, q610, q62, q611, by decide +kernel⟩
theorem xkv_X0_331 : xKV RX0 yX0_out cX0_out 3 (some .int) 331 0 := ⟨q881, q883, qs21, q61, q884, by decide +kernel⟩
theorem xkv_X0_336 : xKV RX0 yX0_countOf cX0_countOf 2 (some .int) 336 1 := ⟨q877, q879, qs20, q61, q880, by decide +kernel⟩
theorem xkv_X0_279 : xKV RX0 yX0_airOf cX0_airOf 4 (some .int) 279 2 := ⟨q798, q800, qs18, q61, q801, by decide +kernel⟩
theorem rv_inI_out {v : Int32} {n : Nat} {hi : Int64} (hh : hi.toInt = n) (h : v.toInt < 0 ∨ 0 + ((n + 1 : Nat) : Int) - 1 < v.toInt) : rv_inI v 0 hi = false := by
  rw [rv_inI, rv_inL_i, hh]
  unfold rv_in
  rw [Bool.and_eq_false_iff, decide_eq_false_iff_not, decide_eq_false_iff_not]
  have e : ((n + 1 : Nat) : Int) = (n : Int) + 1 := by omega
  have z : (0 : Int64).toInt = 0 := rfl
  rw [z]
  omega
theorem oR.ty {ty : Nat} {ξ σ : mdT} (h : oR ty ξ σ) : ξ 0 0 = nI ty := h.2.2.1
theorem oR.tyσ {ty : Nat} {ξ σ : mdT} (h : oR ty ξ σ) : σ 15 5 = nI ty := h.2.1
theorem oR.ref {ty k : Nat} {ξ σ : mdT} (h : oR ty ξ σ) (hk : k < 3) : ξ 89 k = σ 3 k := h.2.2.2.2 k hk
theorem oR.clear {ty : Nat} {ξ σ : mdT} (h : oR ty ξ σ) : oR 0 (mdS ξ 0 0 (nI 0)) (mdS σ 15 5 0) :=
  ⟨by omega, rfl, rfl, fun k hk => absurd hk (by omega), fun k hk => h.ref hk⟩
theorem oR.type {ty : Nat} {ξ σ : mdT} {c : Int32} (h : oR ty ξ σ) (ht : ty < 150) : oR (ty + 1) (mdS (mdS ξ 88 ty c) 0 0 (nI (ty + 1))) (mdS (mdS σ 12 ty c) 15 5 (nI (ty + 1))) := by
  refine ⟨by omega, rfl, rfl, fun k hk => ?_, fun k hk => h.ref hk⟩
  show (upd (ξ 88) ty c) k = (upd (σ 12) ty c) k
  unfold upd
  by_cases e : k = ty
  · rw [if_pos e, if_pos e]
  · rw [if_neg e, if_neg e]; exact h.2.2.2.1 k (by omega)
theorem rv_byte {c : Int32} (h : rv_inI c 0 127 = true) : vp_nar .byte ((Int32.toInt8 c).toInt32) = c := by
  obtain ⟨j, hj, rfl⟩ := rv_inIx (v := c) 127 rfl (by omega) h
  have : ∀ j : Fin 128, vp_nar .byte ((Int32.toInt8 (nI j.val)).toInt32) = nI j.val := by decide +kernel
  exact this ⟨j, by omega⟩
theorem rv_voj (f : Nat → Int32) (r : Int32) : ∀ n : Nat, rv_vo f r n = -1 ∨ ∃ j : Nat, j < n ∧ rv_vo f r n = nI j
  | 0 => Or.inl rfl
  | n + 1 => by
    unfold rv_vo
    by_cases h : f n = r
    · rw [if_pos h]; exact Or.inr ⟨n, by omega, rfl⟩
    · rw [if_neg h]
      rcases rv_voj f r n with h | ⟨j, h1, h2⟩
      · exact Or.inl h
      · exact Or.inr ⟨j, by omega, h2⟩
theorem sh_forget {c many rent rd un hs ev : Nat} {σ ξ : mdT} (h : shR c many rent rd un hs ev (σ 0) (fun i => ξ (1 + i))) : shR c many rent 0 un hs ev (mdS σ 0 5 0 0) (fun i => mdS ξ 1 2 (nI 0) (1 + i)) := by
  refine ⟨⟨h.m6, h.r6, by omega, h.u8⟩, ⟨h.f0, h.f1, rfl, h.f6⟩, ⟨h.nm, h.nr, rfl, h.nu⟩, fun v hv => ?_, fun r hr => ⟨?_, ?_⟩, fun k hk => absurd hk (by omega), ?_, fun k hk => ?_⟩
  · rw [mdS_ne (by omega)]; exact h.thg hv
  · rw [mdS_ne (by omega)]; exact h.wal hr
  · rw [mdS_ne (by omega)]; exact h.wan hr
  · exact h.now.cg (fun r hr => mdS_row _ _ _ (by omega)) (fun j hj => by unfold rv_snap; simp (disch := omega) only [mdS_ne]) h.m6 h.r6
  · obtain ⟨x, y, q⟩ := h.was hk
    exact ⟨x, y, q.cg (fun r hr => mdS_row _ _ _ (by omega)) (fun j hj => mdS_ne (by omega)) h.m6 h.r6⟩
theorem x_X0_clear (l : Launch) (dC : Nat → ClassId) (dI : Nat → Nat → Nat) (dA : Nat → ClassId) (n c : Nat) (σ : mdT) (ab be : Int64) : Met l yX0_clear (ws_ yX0_clear cX0_clear 2 (some .int)) { frames := 1, cells := 0, slots := 0, locals := 60 } (xPc dC dI dA (RX dC dI dA c n σ ab be) [.ref n]) (xQi (S := Unit) (fun r_ _ => r_ = (sp_clear σ).1) (fun _ => (RX dC dI dA c n (sp_clear σ).2 ab be)) (bkA n 96)) 0 0 (bkA n 96) := by
  refine x_in (by decide) rfl (Nat.le_of_ble_eq_true rfl) (lv := [(0, .ref n)]) rfl ?_
  intro p e s m below meth c_ X hN hnm hr hlk hP ls hl
  obtain ⟨T, ξ, V, V2, im, many, rent, rd, un, hs, ev, ty, hP, hR, ho, hO⟩ := hP
  have ho0 := ho
  have hR0 := hR
  have hV := hO.1
  have hT := hO.tb
  have hm := hR.m6
  have hr6 := hR.r6
  have hd6 := hR.d6
  have hu8 := hR.u8
  have hs12 := hR.h12
  have hS : va_S (bkA n 96) s.heap s.heap [] := va_S.rf
  refine lv_aload_n X.1 X.2.1 dX0_clear_0 rfl (lv_at hl 0 rfl) ?_
  refine xb_get (C := RX0) (T := TX0) (v := .int (ξ 0 0)) X in_X0 (ci := 0) rfl hP (j := 0) (by decide) (xe_x0 ..) 4 (by decide) q255 rfl rfl dX0_clear_1 ?_
  refine rn_co (y := nI ty) ho.ty ?_
  refine lv_istore_n (lv' := [(1, .int (nI ty)), (0, .ref n)]) X.1 X.2.1 dX0_clear_4 rfl hl (by decide) rfl (fun ls hl => ?_)
  refine lv_aload_n X.1 X.2.1 dX0_clear_5 rfl (lv_at hl 1 rfl) ?_
  refine lv_iconst (v := nI 0) X.1 X.2.1 dX0_clear_6 rfl ?_
  refine xb_put (C := RX0) (T := TX0) (E' := xE dA n (mdS ξ 0 0 (nI 0)) V V2 im ab be) X in_X0 tyX0 tyX0_ok nmX0 (ci := 0) rfl hP (fun _ h => h) hS (j := 0) (by decide) (xe_x0 ..) 4 (by decide) q255 rfl rfl rfl rfl rfl (Nat.le_of_ble_eq_true rfl) (fun i_ _ => xE_S dA n ξ V V2 im ab be 0 0 (nI 0) i_) dX0_clear_7 (fun H locs hP hS => ?_)
  have hR := xR_S hR (j := 0) (k := 0) (v := nI 0) (by decide)
  refine lv_iload_n X.1 X.2.1 dX0_clear_10 rfl (lv_at hl 0 rfl) ?_
  exact x_pi (by rw [sp_clear, ho0.tyσ]) X hr hlk hS dX0_clear_11 (RX.o hP hR ho.clear (hO.at hS) (fun i hi => by first | rfl | simp (disch := omega) only [mdS_row, mdI_out, upRn] | (simp (disch := omega) only [mdS_row, mdI_out, upRn, *])) rfl rfl rfl)
theorem x_X0_type (l : Launch) (dC : Nat → ClassId) (dI : Nat → Nat → Nat) (dA : Nat → ClassId) (n c : Nat) (σ : mdT) (ab be : Int64) (cc_ : Int32) : Met l yX0_type (ws_ yX0_type cX0_type 2 (some .int)) { frames := 3, cells := 0, slots := 0, locals := 180 } (xPc dC dI dA (RX dC dI dA c n σ ab be) [.ref n, .int cc_]) (xQi (S := Unit) (fun r_ _ => r_ = (sp_type σ cc_).1) (fun _ => (RX dC dI dA c n (sp_type σ cc_).2 ab be)) (bkA n 96)) 0 0 (bkA n 96) := by
  refine x_in (by decide) rfl (Nat.le_of_ble_eq_true rfl) (lv := [(0, .ref n), (1, .int cc_)]) rfl ?_
  intro p e s m below meth c_ X hN hnm hr hlk hP ls hl
  obtain ⟨T, ξ, V, V2, im, many, rent, rd, un, hs, ev, ty, hP, hR, ho, hO⟩ := hP
  have ho0 := ho
  have hR0 := hR
  have hV := hO.1
  have hT := hO.tb
  have hm := hR.m6
  have hr6 := hR.r6
  have hd6 := hR.d6
  have hu8 := hR.u8
  have hs12 := hR.h12
  have hS : va_S (bkA n 96) s.heap s.heap [] := va_S.rf
  refine lv_iload_n X.1 X.2.1 dX0_type_0 rfl (lv_at hl 1 rfl) ?_
  refine lv_i2l X.1 X.2.1 dX0_type_1 rfl ?_
  refine lv_lconst (v := 0) X.1 X.2.1 dX0_type_2 rfl ?_
  refine lv_ldc2 (v := 127) X.1 X.2.1 X.2.2.2.1 (X.2.2.2.2.1 _ q426) dX0_type_3 ?_
  refine x_cSe (x_runSp X (As := [.long (Int32.toInt64 cc_), .long 0, .long 127]) (rest := []) (x_X0_in l (Int32.toInt64 cc_) 0 127) xks_X0_89 rfl rfl ⟨Nat.le_of_ble_eq_true rfl, Nat.le_of_ble_eq_true rfl⟩ hl.1 (Nat.le_of_ble_eq_true rfl) dX0_type_6 ⟨Nat.le_of_ble_eq_true rfl, Nat.le_of_ble_eq_true rfl⟩) ?_
  refine rn_zf (tgt := 17) X.1 X.2.1 dX0_type_9 (by decide) (fun c_9 => ?_) (fun c_9 => ?_)
  · refine lv_aload_n X.1 X.2.1 dX0_type_17 rfl (lv_at hl 0 rfl) ?_
    have ht6 := ho.1
    refine xb_get (C := RX0) (T := TX0) (v := .int (ξ 0 0)) X in_X0 (ci := 0) rfl hP (j := 0) (by decide) (xe_x0 ..) 4 (by decide) q255 rfl rfl dX0_type_18 ?_
    refine rn_co (y := nI ty) ho.ty ?_
    refine lv_sipush (v := nI 150) X.1 X.2.1 dX0_type_21 rfl ?_
    refine rn_icmp_ne (tgt := 32) X.1 X.2.1 (by omega) (by omega) dX0_type_24 (by decide) (fun c_24 => ?_) (fun c_24 => ?_)
    · refine lv_aload_n X.1 X.2.1 dX0_type_32 rfl (lv_at hl 0 rfl) ?_
      refine xb_get (C := RX0) (T := TX0) (v := .ref (n + 88)) X in_X0 (ci := 0) rfl hP (j := 0) (by decide) (xe_x0 ..) 3 (by decide) q253 rfl rfl dX0_type_33 ?_
      refine lv_aload_n X.1 X.2.1 dX0_type_36 rfl (lv_at hl 0 rfl) ?_
      refine xb_get (C := RX0) (T := TX0) (v := .int (ξ 0 0)) X in_X0 (ci := 0) rfl hP (j := 0) (by decide) (xe_x0 ..) 4 (by decide) q255 rfl rfl dX0_type_37 ?_
      refine rn_co (y := nI ty) ho.ty ?_
      refine lv_iload_n X.1 X.2.1 dX0_type_40 rfl (lv_at hl 1 rfl) ?_
      refine lv_i2b X.1 X.2.1 dX0_type_41 rfl ?_
      refine xb_bast (E' := xE dA n (mdS ξ 88 ty (vp_nar .byte ((Int32.toInt8 cc_).toInt32))) V V2 im ab be) X hP (fun _ h => h) hS (j := 88) (by decide) (n := 150) (f := ξ 88) rfl (by omega) (by decide) (fun i_ _ => xE_S dA n ξ V V2 im ab be 88 ty (vp_nar .byte ((Int32.toInt8 cc_).toInt32)) i_) dX0_type_42 (fun H locs hP hS => ?_)
      have hR := xR_S hR (j := 88) (k := ty) (v := vp_nar .byte ((Int32.toInt8 cc_).toInt32)) (by decide)
      refine lv_aload_n X.1 X.2.1 dX0_type_43 rfl (lv_at hl 0 rfl) ?_
      refine lv_dup X.1 X.2.1 dX0_type_44 rfl ?_
      refine xb_get (C := RX0) (T := TX0) (v := .int ((mdS ξ 88 ty (vp_nar .byte ((Int32.toInt8 cc_).toInt32))) 0 0)) X in_X0 (ci := 0) rfl hP (j := 0) (by decide) (xe_x0 ..) 4 (by decide) q255 rfl rfl dX0_type_45 ?_
      refine rn_co (y := nI ty) ho.ty ?_
      refine lv_iconst (v := nI 1) X.1 X.2.1 dX0_type_48 rfl ?_
      refine rn_iadd X.1 X.2.1 dX0_type_49 ?_
      refine xb_put (C := RX0) (T := TX0) (E' := xE dA n (mdS (mdS ξ 88 ty (vp_nar .byte ((Int32.toInt8 cc_).toInt32))) 0 0 (nI (ty + 1))) V V2 im ab be) X in_X0 tyX0 tyX0_ok nmX0 (ci := 0) rfl hP (fun _ h => h) hS (j := 0) (by decide) (xe_x0 ..) 4 (by decide) q255 rfl rfl rfl rfl rfl (Nat.le_of_ble_eq_true rfl) (fun i_ _ => xE_S dA n (mdS ξ 88 ty (vp_nar .byte ((Int32.toInt8 cc_).toInt32))) V V2 im ab be 0 0 (nI (ty + 1)) i_) dX0_type_50 (fun H locs hP hS => ?_)
      have hR := xR_S hR (j := 0) (k := 0) (v := nI (ty + 1)) (by decide)
      refine lv_aload_n X.1 X.2.1 dX0_type_53 rfl (lv_at hl 0 rfl) ?_
      refine xb_get (C := RX0) (T := TX0) (v := .int ((mdS (mdS ξ 88 ty (vp_nar .byte ((Int32.toInt8 cc_).toInt32))) 0 0 (nI (ty + 1))) 0 0)) X in_X0 (ci := 0) rfl hP (j := 0) (by decide) (xe_x0 ..) 4 (by decide) q255 rfl rfl dX0_type_54 ?_
      refine rn_co (y := nI (ty + 1)) rfl ?_
      exact x_pi (by rw [sp_type, if_pos c_9, if_neg (by rw [ho0.tyσ]; exact fun z => c_24 ((nI_eq (by omega) (by omega)).mp (z.trans (show (150 : Int32) = nI 150 from rfl)))), ho0.tyσ, rv_cln (by omega), show nI ty + 1 = nI (ty + 1) from (by rw [← nI_add]; rfl)]) X hr hlk hS dX0_type_57 (RX.o (by rw [rv_byte c_9] at hP; exact hP) (hR.cg (fun i hi => by first | rfl | simp (disch := omega) only [mdS_row, mdI_out, upRn] | (simp (disch := omega) only [mdS_row, mdI_out, upRn, *])) (fun _ _ => rfl)) (ho.type (c := cc_) (by omega)) (hO.at hS) (fun i hi => by first | rfl | simp (disch := omega) only [mdS_row, mdI_out, upRn] | (simp (disch := omega) only [mdS_row, mdI_out, upRn, *])) rfl rfl rfl)
    · refine lv_aload_n X.1 X.2.1 dX0_type_27 rfl (lv_at hl 0 rfl) ?_
      refine x_cWi (x_runV X hN hP (As := []) (rest := []) (x_X0_full l dC dI dA n ξ V V2 im ab be) xkv_X0_114 (x_recv (ci := 0) X.2.2.2.2.2 hP (j := 0) (by decide) (xe_x0 ..) rfl) rfl rfl ⟨Nat.le_of_ble_eq_true rfl, Nat.le_of_ble_eq_true rfl⟩ hl.1 (Nat.le_of_ble_eq_true rfl) dX0_type_28 ⟨Nat.le_of_ble_eq_true rfl, Nat.le_of_ble_eq_true rfl⟩) hS (fun _ h => h) (fun _ h => h) (fun r28 _ H locs hr1 hP1 hz1 hk1 hS => ?_)
      subst hr1
      have hP := hP1
      have hR := hR.cg (S' := fun i_ => (mdS ξ 89 2 (ξ 89 2 + nI 1)) (1 + i_)) (fun i hi => by first | rfl | simp (disch := omega) only [mdS_row, mdI_out, upRn] | (simp (disch := omega) only [mdS_row, mdI_out, upRn, *])) (fun _ _ => rfl)
      have ho := oR.b (k := 2) ho (by decide)
      exact x_pi (by first | (rw [sp_type, if_pos c_9, if_pos (by rw [ho0.tyσ, c_24]; rfl)]; done) | (rw [sp_type, if_pos c_9, if_pos (by rw [ho0.tyσ, c_24]; rfl)]; rfl)) X hr hlk hS dX0_type_31 (RX.o hP hR ho (hO.at hS) (fun i hi => by first | rfl | simp (disch := omega) only [mdS_row, mdI_out, upRn] | (simp (disch := omega) only [mdS_row, mdI_out, upRn, *])) rfl rfl rfl)
  · refine lv_aload_n X.1 X.2.1 dX0_type_12 rfl (lv_at hl 0 rfl) ?_
    refine x_cWi (x_runV X hN hP (As := []) (rest := []) (x_X0_bad l dC dI dA n ξ V V2 im ab be) xkv_X0_110 (x_recv (ci := 0) X.2.2.2.2.2 hP (j := 0) (by decide) (xe_x0 ..) rfl) rfl rfl ⟨Nat.le_of_ble_eq_true rfl, Nat.le_of_ble_eq_true rfl⟩ hl.1 (Nat.le_of_ble_eq_true rfl) dX0_type_13 ⟨Nat.le_of_ble_eq_true rfl, Nat.le_of_ble_eq_true rfl⟩) hS (fun _ h => h) (fun _ h => h) (fun r13 _ H locs hr1 hP1 hz1 hk1 hS => ?_)
    subst hr1
    have hP := hP1
    have hR := hR.cg (S' := fun i_ => (mdS ξ 89 0 (ξ 89 0 + nI 1)) (1 + i_)) (fun i hi => by first | rfl | simp (disch := omega) only [mdS_row, mdI_out, upRn] | (simp (disch := omega) only [mdS_row, mdI_out, upRn, *])) (fun _ _ => rfl)
    have ho := oR.b (k := 0) ho (by decide)
    exact x_pi (by first | (rw [sp_type, if_neg (rv_nf c_9)]; done) | (rw [sp_type, if_neg (rv_nf c_9)]; rfl)) X hr hlk hS dX0_type_16 (RX.o hP hR ho (hO.at hS) (fun i hi => by first | rfl | simp (disch := omega) only [mdS_row, mdI_out, upRn] | (simp (disch := omega) only [mdS_row, mdI_out, upRn, *])) rfl rfl rfl)
theorem x_X0_status (l : Launch) (dC : Nat → ClassId) (dI : Nat → Nat → Nat) (dA : Nat → ClassId) (n c : Nat) (σ : mdT) (ab be : Int64) (w : Int32) : Met l yX0_status (ws_ yX0_status cX0_status 2 (some .int)) { frames := 2, cells := 0, slots := 0, locals := 120 } (xPc dC dI dA (RX dC dI dA c n σ ab be) [.ref n, .int w]) (xQi (S := Unit) (fun r_ _ => r_ = (sp_status σ w).1) (fun _ => (RX dC dI dA c n (sp_status σ w).2 ab be)) (bkA n 96)) 0 0 (bkA n 96) := by
  refine x_in (by decide) rfl (Nat.le_of_ble_eq_true rfl) (lv := [(0, .ref n), (1, .int w)]) rfl ?_
  intro p e s m below meth c_ X hN hnm hr hlk hP ls hl
  obtain ⟨T, ξ, V, V2, im, many, rent, rd, un, hs, ev, ty, hP, hR, ho, hO⟩ := hP
  have ho0 := ho
  have hR0 := hR
  have hV := hO.1
  have hT := hO.tb
  have hm := hR.m6
  have hr6 := hR.r6
  have hd6 := hR.d6
  have hu8 := hR.u8
  have hs12 := hR.h12
  have hS : va_S (bkA n 96) s.heap s.heap [] := va_S.rf
  refine lv_iload_n X.1 X.2.1 dX0_status_0 rfl (lv_at hl 1 rfl) ?_
  refine lv_i2l X.1 X.2.1 dX0_status_1 rfl ?_
  refine lv_lconst (v := 0) X.1 X.2.1 dX0_status_2 rfl ?_
  refine lv_ldc2 (v := 2) X.1 X.2.1 X.2.2.2.1 (X.2.2.2.2.1 _ q774) dX0_status_3 ?_
  refine x_cSe (x_runSp X (As := [.long (Int32.toInt64 w), .long 0, .long 2]) (rest := []) (x_X0_in l (Int32.toInt64 w) 0 2) xks_X0_89 rfl rfl ⟨Nat.le_of_ble_eq_true rfl, Nat.le_of_ble_eq_true rfl⟩ hl.1 (Nat.le_of_ble_eq_true rfl) dX0_status_6 ⟨Nat.le_of_ble_eq_true rfl, Nat.le_of_ble_eq_true rfl⟩) ?_
  refine rn_zt (tgt := 21) X.1 X.2.1 dX0_status_9 (by decide) (fun c_9 => ?_) (fun c_9 => ?_)
  · refine lv_aload_n X.1 X.2.1 dX0_status_21 rfl (lv_at hl 0 rfl) ?_
    refine lv_iconst (v := nI 0) X.1 X.2.1 dX0_status_22 rfl ?_
    refine lv_iconst (v := (-1)) X.1 X.2.1 dX0_status_23 rfl ?_
    refine x_cWi (x_runV X hN hP (As := [.int (nI 0), .int (-1)]) (rest := []) (x_X0_refuses l dC dI dA n ξ V V2 im ab be 0 (-1) (by omega)) xkv_X0_81 (x_recv (ci := 0) X.2.2.2.2.2 hP (j := 0) (by decide) (xe_x0 ..) rfl) rfl rfl ⟨Nat.le_of_ble_eq_true rfl, Nat.le_of_ble_eq_true rfl⟩ hl.1 (Nat.le_of_ble_eq_true rfl) dX0_status_24 ⟨Nat.le_of_ble_eq_true rfl, Nat.le_of_ble_eq_true rfl⟩) hS (fun _ h => h) (fun _ h => h) (fun r24 _ H locs hr1 hP1 hz1 hk1 hS => ?_)
    subst hr1
    have hP := hP1
    have hR := hR.cg (S' := fun i_ => (mdS ξ 89 0 (ξ 89 0 + nI 1)) (1 + i_)) (fun i hi => by first | rfl | simp (disch := omega) only [mdS_row, mdI_out, upRn] | (simp (disch := omega) only [mdS_row, mdI_out, upRn, *])) (fun _ _ => rfl)
    have ho := oR.b (k := 0) ho (by decide)
    exact x_pi (by first | (rw [sp_status, if_neg (rv_nf c_9)]; done) | (rw [sp_status, if_neg (rv_nf c_9)]; rfl) | (rw [sp_status, if_pos c_9, hw, rv_cln (by omega), ← ho0.ref (by omega)]; done) | (rw [sp_status, if_pos c_9, hw, rv_cln (by omega), ← ho0.ref (by omega)]; rfl)) X hr hlk hS dX0_status_27 (RX.o hP hR ho (hO.at hS) (fun i hi => by first | rfl | simp (disch := omega) only [mdS_row, mdI_out, upRn] | (simp (disch := omega) only [mdS_row, mdI_out, upRn, *])) rfl rfl rfl)
  · obtain ⟨j, hj, hw⟩ := rv_inIx (v := w) 2 rfl (by omega) c_9
    refine lv_aload_n X.1 X.2.1 dX0_status_12 rfl (lv_at hl 0 rfl) ?_
    refine xb_get (C := RX0) (T := TX0) (v := .ref (n + 89)) X in_X0 (ci := 0) rfl hP (j := 0) (by decide) (xe_x0 ..) 5 (by decide) q256 rfl rfl dX0_status_13 ?_
    refine lv_iload_n X.1 X.2.1 dX0_status_16 rfl (lv_at hl 1 rfl) ?_
    refine rn_co (y := nI j) hw ?_
    refine xb_iald X hP (j := 89) (by decide) (n := 3) (f := ξ 89) rfl (by omega) (by decide) dX0_status_17 ?_
    refine lv_goto (tgt := 27) X.1 X.2.1 dX0_status_18 (by decide) ?_
    exact x_pi (by first | (rw [sp_status, if_neg (rv_nf c_9)]; done) | (rw [sp_status, if_neg (rv_nf c_9)]; rfl) | (rw [sp_status, if_pos c_9, hw, rv_cln (by omega), ← ho0.ref (by omega)]; done) | (rw [sp_status, if_pos c_9, hw, rv_cln (by omega), ← ho0.ref (by omega)]; rfl)) X hr hlk hS dX0_status_27 (RX.o hP hR ho (hO.at hS) (fun i hi => by first | rfl | simp (disch := omega) only [mdS_row, mdI_out, upRn] | (simp (disch := omega) only [mdS_row, mdI_out, upRn, *])) rfl rfl rfl)
theorem x_X0_shows (l : Launch) (dC : Nat → ClassId) (dI : Nat → Nat → Nat) (dA : Nat → ClassId) (n c : Nat) (σ : mdT) (ab be : Int64) (v : Int32) (ei : Int32) : Met l yX0_shows (ws_ yX0_shows cX0_shows 3 (some .int)) { frames := 4, cells := 0, slots := 0, locals := 240 } (xPc dC dI dA (RX dC dI dA c n σ ab be) [.ref n, .int v, .int ei]) (xQi (S := Unit) (fun r_ _ => r_ = (sp_shows σ v ei).1) (fun _ => (RX dC dI dA c n (sp_shows σ v ei).2 ab be)) (bkA n 96)) 0 0 (bkA n 96) := by
  refine x_in (by decide) rfl (Nat.le_of_ble_eq_true rfl) (lv := [(0, .ref n), (1, .int v), (2, .int ei)]) rfl ?_
  intro p e s m below meth c_ X hN hnm hr hlk hP ls hl
  obtain ⟨T, ξ, V, V2, im, many, rent, rd, un, hs, ev, ty, hP, hR, ho, hO⟩ := hP
  have ho0 := ho
  have hR0 := hR
  have hV := hO.1
  have hT := hO.tb
  have hm := hR.m6
  have hr6 := hR.r6
  have hd6 := hR.d6
  have hu8 := hR.u8
  have hs12 := hR.h12
  have hS : va_S (bkA n 96) s.heap s.heap [] := va_S.rf
  refine lv_aload_n X.1 X.2.1 dX0_shows_0 rfl (lv_at hl 0 rfl) ?_
  refine lv_iload_n X.1 X.2.1 dX0_shows_1 rfl (lv_at hl 1 rfl) ?_
  refine x_cSe (x_runV X hN hP (As := [.int v]) (rest := []) (x_X0_isView l dC dI dA n ξ V V2 im ab be v c many rent rd un hs ev (σ 0) hR) xkv_X0_132 (x_recv (ci := 0) X.2.2.2.2.2 hP (j := 0) (by decide) (xe_x0 ..) rfl) rfl rfl ⟨Nat.le_of_ble_eq_true rfl, Nat.le_of_ble_eq_true rfl⟩ hl.1 (Nat.le_of_ble_eq_true rfl) dX0_shows_2 ⟨Nat.le_of_ble_eq_true rfl, Nat.le_of_ble_eq_true rfl⟩) ?_
  refine rn_zt (tgt := 31) X.1 X.2.1 dX0_shows_5 (by decide) (fun c_5 => ?_) (fun c_5 => ?_)
  · refine lv_aload_n X.1 X.2.1 dX0_shows_31 rfl (lv_at hl 0 rfl) ?_
    refine x_cWi (x_runV X hN hP (As := []) (rest := []) (x_X0_bad l dC dI dA n ξ V V2 im ab be) xkv_X0_110 (x_recv (ci := 0) X.2.2.2.2.2 hP (j := 0) (by decide) (xe_x0 ..) rfl) rfl rfl ⟨Nat.le_of_ble_eq_true rfl, Nat.le_of_ble_eq_true rfl⟩ hl.1 (Nat.le_of_ble_eq_true rfl) dX0_shows_32 ⟨Nat.le_of_ble_eq_true rfl, Nat.le_of_ble_eq_true rfl⟩) hS (fun _ h => h) (fun _ h => h) (fun r32 _ H locs hr1 hP1 hz1 hk1 hS => ?_)
    subst hr1
    have hP := hP1
    have hR := hR.cg (S' := fun i_ => (mdS ξ 89 0 (ξ 89 0 + nI 1)) (1 + i_)) (fun i hi => by first | rfl | simp (disch := omega) only [mdS_row, mdI_out, upRn] | (simp (disch := omega) only [mdS_row, mdI_out, upRn, *])) (fun _ _ => rfl)
    have ho := oR.b (k := 0) ho (by decide)
    exact x_pi (by first | (rw [sp_shows, if_neg (rv_nf c_5)]; done) | (rw [sp_shows, if_neg (rv_nf c_5)]; rfl) | (rw [sp_shows, if_pos c_5, if_neg (rv_nf c_12)]; done) | (rw [sp_shows, if_pos c_5, if_neg (rv_nf c_12)]; rfl) | (rw [sp_shows, if_pos c_5, if_pos c_12, hv, rv_cln (by omega)]; done) | (rw [sp_shows, if_pos c_5, if_pos c_12, hv, rv_cln (by omega)]; rfl)) X hr hlk hS dX0_shows_35 (RX.o hP hR ho (hO.at hS) (fun i hi => by first | rfl | simp (disch := omega) only [mdS_row, mdI_out, upRn] | (simp (disch := omega) only [mdS_row, mdI_out, upRn, *])) rfl rfl rfl)
  · obtain ⟨j, hj, hv⟩ := rv_isx hR.f0 hm c_5
    refine lv_iload_n X.1 X.2.1 dX0_shows_8 rfl (lv_at hl 2 rfl) ?_
    refine x_cSe (x_runSp X (As := [.int ei]) (rest := []) (x_X0_isEvening l ei) xks_X0_244 rfl rfl ⟨Nat.le_of_ble_eq_true rfl, Nat.le_of_ble_eq_true rfl⟩ hl.1 (Nat.le_of_ble_eq_true rfl) dX0_shows_9 ⟨Nat.le_of_ble_eq_true rfl, Nat.le_of_ble_eq_true rfl⟩) ?_
    refine rn_zt (tgt := 31) X.1 X.2.1 dX0_shows_12 (by decide) (fun c_12 => ?_) (fun c_12 => ?_)
    · refine lv_aload_n X.1 X.2.1 dX0_shows_31 rfl (lv_at hl 0 rfl) ?_
      refine x_cWi (x_runV X hN hP (As := []) (rest := []) (x_X0_bad l dC dI dA n ξ V V2 im ab be) xkv_X0_110 (x_recv (ci := 0) X.2.2.2.2.2 hP (j := 0) (by decide) (xe_x0 ..) rfl) rfl rfl ⟨Nat.le_of_ble_eq_true rfl, Nat.le_of_ble_eq_true rfl⟩ hl.1 (Nat.le_of_ble_eq_true rfl) dX0_shows_32 ⟨Nat.le_of_ble_eq_true rfl, Nat.le_of_ble_eq_true rfl⟩) hS (fun _ h => h) (fun _ h => h) (fun r32 _ H locs hr1 hP1 hz1 hk1 hS => ?_)
      subst hr1
      have hP := hP1
      have hR := hR.cg (S' := fun i_ => (mdS ξ 89 0 (ξ 89 0 + nI 1)) (1 + i_)) (fun i hi => by first | rfl | simp (disch := omega) only [mdS_row, mdI_out, upRn] | (simp (disch := omega) only [mdS_row, mdI_out, upRn, *])) (fun _ _ => rfl)
      have ho := oR.b (k := 0) ho (by decide)
      exact x_pi (by first | (rw [sp_shows, if_neg (rv_nf c_5)]; done) | (rw [sp_shows, if_neg (rv_nf c_5)]; rfl) | (rw [sp_shows, if_pos c_5, if_neg (rv_nf c_12)]; done) | (rw [sp_shows, if_pos c_5, if_neg (rv_nf c_12)]; rfl) | (rw [sp_shows, if_pos c_5, if_pos c_12, hv, rv_cln (by omega)]; done) | (rw [sp_shows, if_pos c_5, if_pos c_12, hv, rv_cln (by omega)]; rfl)) X hr hlk hS dX0_shows_35 (RX.o hP hR ho (hO.at hS) (fun i hi => by first | rfl | simp (disch := omega) only [mdS_row, mdI_out, upRn] | (simp (disch := omega) only [mdS_row, mdI_out, upRn, *])) rfl rfl rfl)
    · refine lv_aload_n X.1 X.2.1 dX0_shows_15 rfl (lv_at hl 0 rfl) ?_
      refine xb_get (C := RX0) (T := TX0) (v := .ref (n + 1)) X in_X0 (ci := 0) rfl hP (j := 0) (by decide) (xe_x0 ..) 0 (by decide) q248 rfl rfl dX0_shows_16 ?_
      refine xb_getN (host := "RentedViews") (C := RX1) (T := TX1) (v := .ref (n + 2)) X in_X1 (ci := 1) rfl hP (j := 1) (by decide) (xe_x1 ..) 0 (by decide) (x_nest hN q139 rfl) rfl rfl dX0_shows_19 ?_
      refine lv_iload_n X.1 X.2.1 dX0_shows_22 rfl (lv_at hl 1 rfl) ?_
      refine rn_co (y := nI j) hv ?_
      obtain ⟨a23, kd23, hVa23, hTa23, hk23, hf23, hv23⟩ := hV.2 j (by omega)
      refine xb_aald X hP (j := 2) (by decide) (t := 3) (C := RX6) (f := V) rfl rfl (by omega) (by decide) dX0_shows_23 ?_
      refine x_vq hVa23 ?_
      refine lv_iload_n X.1 X.2.1 dX0_shows_24 rfl (lv_at hl 2 rfl) ?_
      refine vd_X0_shows ei X hN hk23 (vw_at hv23 hS (hT _ hTa23)) (rest := []) ⟨Nat.le_of_ble_eq_true rfl, Nat.le_of_ble_eq_true rfl⟩ hl.1 (Nat.le_of_ble_eq_true rfl) dX0_shows_25 ⟨Nat.le_of_ble_eq_true rfl, Nat.le_of_ble_eq_true rfl⟩ ?_
      refine rn_co (y := rv_weather ((σ 0) (7 + 6 * j)) ((σ 0) (7 + 6 * j + 3)) ei) (by rw [hf23]) ?_
      refine lv_goto (tgt := 35) X.1 X.2.1 dX0_shows_28 (by decide) ?_
      exact x_pi (by first | (rw [sp_shows, if_neg (rv_nf c_5)]; done) | (rw [sp_shows, if_neg (rv_nf c_5)]; rfl) | (rw [sp_shows, if_pos c_5, if_neg (rv_nf c_12)]; done) | (rw [sp_shows, if_pos c_5, if_neg (rv_nf c_12)]; rfl) | (rw [sp_shows, if_pos c_5, if_pos c_12, hv, rv_cln (by omega)]; done) | (rw [sp_shows, if_pos c_5, if_pos c_12, hv, rv_cln (by omega)]; rfl)) X hr hlk hS dX0_shows_35 (RX.o hP hR ho (hO.at hS) (fun i hi => by first | rfl | simp (disch := omega) only [mdS_row, mdI_out, upRn] | (simp (disch := omega) only [mdS_row, mdI_out, upRn, *])) rfl rfl rfl)
theorem x_X0_suits (l : Launch) (dC : Nat → ClassId) (dI : Nat → Nat → Nat) (dA : Nat → ClassId) (n c : Nat) (σ : mdT) (ab be : Int64) (v : Int32) (r : Int32) (ei : Int32) : Met l yX0_suits (ws_ yX0_suits cX0_suits 4 (some .int)) { frames := 5, cells := 0, slots := 0, locals := 300 } (xPc dC dI dA (RX dC dI dA c n σ ab be) [.ref n, .int v, .int r, .int ei]) (xQi (S := Unit) (fun r_ _ => r_ = (sp_suits σ v r ei).1) (fun _ => (RX dC dI dA c n (sp_suits σ v r ei).2 ab be)) (bkA n 96)) 0 0 (bkA n 96) := by
  refine x_in (by decide) rfl (Nat.le_of_ble_eq_true rfl) (lv := [(0, .ref n), (1, .int v), (2, .int r), (3, .int ei)]) rfl ?_
  intro p e s m below meth c_ X hN hnm hr hlk hP ls hl
  obtain ⟨T, ξ, V, V2, im, many, rent, rd, un, hs, ev, ty, hP, hR, ho, hO⟩ := hP
  have ho0 := ho
  have hR0 := hR
  have hV := hO.1
  have hT := hO.tb
  have hm := hR.m6
  have hr6 := hR.r6
  have hd6 := hR.d6
  have hu8 := hR.u8
  have hs12 := hR.h12
  have hS : va_S (bkA n 96) s.heap s.heap [] := va_S.rf
  refine lv_aload_n X.1 X.2.1 dX0_suits_0 rfl (lv_at hl 0 rfl) ?_
  refine lv_iload_n X.1 X.2.1 dX0_suits_1 rfl (lv_at hl 1 rfl) ?_
  refine x_cSe (x_runV X hN hP (As := [.int v]) (rest := []) (x_X0_isView l dC dI dA n ξ V V2 im ab be v c many rent rd un hs ev (σ 0) hR) xkv_X0_132 (x_recv (ci := 0) X.2.2.2.2.2 hP (j := 0) (by decide) (xe_x0 ..) rfl) rfl rfl ⟨Nat.le_of_ble_eq_true rfl, Nat.le_of_ble_eq_true rfl⟩ hl.1 (Nat.le_of_ble_eq_true rfl) dX0_suits_2 ⟨Nat.le_of_ble_eq_true rfl, Nat.le_of_ble_eq_true rfl⟩) ?_
  refine rn_zt (tgt := 23) X.1 X.2.1 dX0_suits_5 (by decide) (fun c_5 => ?_) (fun c_5 => ?_)
  · refine lv_aload_n X.1 X.2.1 dX0_suits_23 rfl (lv_at hl 0 rfl) ?_
    refine x_cWi (x_runV X hN hP (As := []) (rest := []) (x_X0_bad l dC dI dA n ξ V V2 im ab be) xkv_X0_110 (x_recv (ci := 0) X.2.2.2.2.2 hP (j := 0) (by decide) (xe_x0 ..) rfl) rfl rfl ⟨Nat.le_of_ble_eq_true rfl, Nat.le_of_ble_eq_true rfl⟩ hl.1 (Nat.le_of_ble_eq_true rfl) dX0_suits_24 ⟨Nat.le_of_ble_eq_true rfl, Nat.le_of_ble_eq_true rfl⟩) hS (fun _ h => h) (fun _ h => h) (fun r24 _ H locs hr1 hP1 hz1 hk1 hS => ?_)
    subst hr1
    have hP := hP1
    have hR := hR.cg (S' := fun i_ => (mdS ξ 89 0 (ξ 89 0 + nI 1)) (1 + i_)) (fun i hi => by first | rfl | simp (disch := omega) only [mdS_row, mdI_out, upRn] | (simp (disch := omega) only [mdS_row, mdI_out, upRn, *])) (fun _ _ => rfl)
    have ho := oR.b (k := 0) ho (by decide)
    exact x_pi (by first | (rw [sp_suits, if_neg (rv_nf c_5)]; done) | (rw [sp_suits, if_neg (rv_nf c_5)]; rfl) | (rw [sp_suits, if_pos c_5, if_neg (rv_nf c_13)]; done) | (rw [sp_suits, if_pos c_5, if_neg (rv_nf c_13)]; rfl) | (rw [sp_suits, if_pos c_5, if_pos c_13, if_neg (rv_nf c_20)]; done) | (rw [sp_suits, if_pos c_5, if_pos c_13, if_neg (rv_nf c_20)]; rfl)) X hr hlk hS dX0_suits_27 (RX.o hP hR ho (hO.at hS) (fun i hi => by first | rfl | simp (disch := omega) only [mdS_row, mdI_out, upRn] | (simp (disch := omega) only [mdS_row, mdI_out, upRn, *])) rfl rfl rfl)
  · obtain ⟨j, hj, hv⟩ := rv_isx hR.f0 hm c_5
    refine lv_aload_n X.1 X.2.1 dX0_suits_8 rfl (lv_at hl 0 rfl) ?_
    refine lv_iload_n X.1 X.2.1 dX0_suits_9 rfl (lv_at hl 2 rfl) ?_
    refine x_cSe (x_runV X hN hP (As := [.int r]) (rest := []) (x_X0_isRenter l dC dI dA n ξ V V2 im ab be r c many rent rd un hs ev (σ 0) hR) xkv_X0_157 (x_recv (ci := 0) X.2.2.2.2.2 hP (j := 0) (by decide) (xe_x0 ..) rfl) rfl rfl ⟨Nat.le_of_ble_eq_true rfl, Nat.le_of_ble_eq_true rfl⟩ hl.1 (Nat.le_of_ble_eq_true rfl) dX0_suits_10 ⟨Nat.le_of_ble_eq_true rfl, Nat.le_of_ble_eq_true rfl⟩) ?_
    refine rn_zt (tgt := 23) X.1 X.2.1 dX0_suits_13 (by decide) (fun c_13 => ?_) (fun c_13 => ?_)
    · refine lv_aload_n X.1 X.2.1 dX0_suits_23 rfl (lv_at hl 0 rfl) ?_
      refine x_cWi (x_runV X hN hP (As := []) (rest := []) (x_X0_bad l dC dI dA n ξ V V2 im ab be) xkv_X0_110 (x_recv (ci := 0) X.2.2.2.2.2 hP (j := 0) (by decide) (xe_x0 ..) rfl) rfl rfl ⟨Nat.le_of_ble_eq_true rfl, Nat.le_of_ble_eq_true rfl⟩ hl.1 (Nat.le_of_ble_eq_true rfl) dX0_suits_24 ⟨Nat.le_of_ble_eq_true rfl, Nat.le_of_ble_eq_true rfl⟩) hS (fun _ h => h) (fun _ h => h) (fun r24 _ H locs hr1 hP1 hz1 hk1 hS => ?_)
      subst hr1
      have hP := hP1
      have hR := hR.cg (S' := fun i_ => (mdS ξ 89 0 (ξ 89 0 + nI 1)) (1 + i_)) (fun i hi => by first | rfl | simp (disch := omega) only [mdS_row, mdI_out, upRn] | (simp (disch := omega) only [mdS_row, mdI_out, upRn, *])) (fun _ _ => rfl)
      have ho := oR.b (k := 0) ho (by decide)
      exact x_pi (by first | (rw [sp_suits, if_neg (rv_nf c_5)]; done) | (rw [sp_suits, if_neg (rv_nf c_5)]; rfl) | (rw [sp_suits, if_pos c_5, if_neg (rv_nf c_13)]; done) | (rw [sp_suits, if_pos c_5, if_neg (rv_nf c_13)]; rfl) | (rw [sp_suits, if_pos c_5, if_pos c_13, if_neg (rv_nf c_20)]; done) | (rw [sp_suits, if_pos c_5, if_pos c_13, if_neg (rv_nf c_20)]; rfl)) X hr hlk hS dX0_suits_27 (RX.o hP hR ho (hO.at hS) (fun i hi => by first | rfl | simp (disch := omega) only [mdS_row, mdI_out, upRn] | (simp (disch := omega) only [mdS_row, mdI_out, upRn, *])) rfl rfl rfl)
    · obtain ⟨k, hkk, hk⟩ := rv_isx hR.f1 hr6 c_13
      refine lv_iload_n X.1 X.2.1 dX0_suits_16 rfl (lv_at hl 3 rfl) ?_
      refine x_cSe (x_runSp X (As := [.int ei]) (rest := []) (x_X0_isEvening l ei) xks_X0_244 rfl rfl ⟨Nat.le_of_ble_eq_true rfl, Nat.le_of_ble_eq_true rfl⟩ hl.1 (Nat.le_of_ble_eq_true rfl) dX0_suits_17 ⟨Nat.le_of_ble_eq_true rfl, Nat.le_of_ble_eq_true rfl⟩) ?_
      refine rn_zf (tgt := 28) X.1 X.2.1 dX0_suits_20 (by decide) (fun c_20 => ?_) (fun c_20 => ?_)
      · refine lv_aload_n X.1 X.2.1 dX0_suits_28 rfl (lv_at hl 0 rfl) ?_
        refine xb_get (C := RX0) (T := TX0) (v := .ref (n + 1)) X in_X0 (ci := 0) rfl hP (j := 0) (by decide) (xe_x0 ..) 0 (by decide) q248 rfl rfl dX0_suits_29 ?_
        refine lv_iload_n X.1 X.2.1 dX0_suits_32 rfl (lv_at hl 1 rfl) ?_
        refine rn_co (y := nI j) hv ?_
        refine lv_iload_n X.1 X.2.1 dX0_suits_33 rfl (lv_at hl 2 rfl) ?_
        refine rn_co (y := nI k) hk ?_
        refine lv_iload_n X.1 X.2.1 dX0_suits_34 rfl (lv_at hl 3 rfl) ?_
        refine x_cSe (x_runV X hN ⟨(x_shop hP), (hV.at hS hT)⟩ (As := [.int (nI j), .int (nI k), .int ei]) (rest := []) (x_X1_suits l dC dI dA (n + 1) (fun i_ => ξ (1 + i_)) V j k ei c many rent rd un hs ev (σ 0) hR T (by omega) (by omega)) xkv_X0_247 (x_recv (ci := 1) X.2.2.2.2.2 hP (j := 1) (by decide) (xe_x1 ..) rfl) rfl rfl ⟨Nat.le_of_ble_eq_true rfl, Nat.le_of_ble_eq_true rfl⟩ hl.1 (Nat.le_of_ble_eq_true rfl) dX0_suits_35 ⟨Nat.le_of_ble_eq_true rfl, Nat.le_of_ble_eq_true rfl⟩) ?_
        refine rn_zt (tgt := 45) X.1 X.2.1 dX0_suits_38 (by decide) (fun c_38 => ?_) (fun c_38 => ?_)
        · refine lv_iconst (v := nI 0) X.1 X.2.1 dX0_suits_45 rfl ?_
          exact x_pi (by first | (rw [sp_suits, if_pos c_5, if_pos c_13, if_pos c_20, hv, hk, rv_cln (by omega), rv_cln (by omega), c_38]; done) | (rw [sp_suits, if_pos c_5, if_pos c_13, if_pos c_20, hv, hk, rv_cln (by omega), rv_cln (by omega), c_38]; rfl)) X hr hlk hS dX0_suits_46 (RX.o hP hR ho (hO.at hS) (fun i hi => by first | rfl | simp (disch := omega) only [mdS_row, mdI_out, upRn] | (simp (disch := omega) only [mdS_row, mdI_out, upRn, *])) rfl rfl rfl)
        · refine lv_iconst (v := nI 1) X.1 X.2.1 dX0_suits_41 rfl ?_
          refine lv_goto (tgt := 46) X.1 X.2.1 dX0_suits_42 (by decide) ?_
          exact x_pi (by first | (rw [sp_suits, if_pos c_5, if_pos c_13, if_pos c_20, hv, hk, rv_cln (by omega), rv_cln (by omega), c_38]; done) | (rw [sp_suits, if_pos c_5, if_pos c_13, if_pos c_20, hv, hk, rv_cln (by omega), rv_cln (by omega), c_38]; rfl)) X hr hlk hS dX0_suits_46 (RX.o hP hR ho (hO.at hS) (fun i hi => by first | rfl | simp (disch := omega) only [mdS_row, mdI_out, upRn] | (simp (disch := omega) only [mdS_row, mdI_out, upRn, *])) rfl rfl rfl)
      · refine lv_aload_n X.1 X.2.1 dX0_suits_23 rfl (lv_at hl 0 rfl) ?_
        refine x_cWi (x_runV X hN hP (As := []) (rest := []) (x_X0_bad l dC dI dA n ξ V V2 im ab be) xkv_X0_110 (x_recv (ci := 0) X.2.2.2.2.2 hP (j := 0) (by decide) (xe_x0 ..) rfl) rfl rfl ⟨Nat.le_of_ble_eq_true rfl, Nat.le_of_ble_eq_true rfl⟩ hl.1 (Nat.le_of_ble_eq_true rfl) dX0_suits_24 ⟨Nat.le_of_ble_eq_true rfl, Nat.le_of_ble_eq_true rfl⟩) hS (fun _ h => h) (fun _ h => h) (fun r24 _ H locs hr1 hP1 hz1 hk1 hS => ?_)
        subst hr1
        have hP := hP1
        have hR := hR.cg (S' := fun i_ => (mdS ξ 89 0 (ξ 89 0 + nI 1)) (1 + i_)) (fun i hi => by first | rfl | simp (disch := omega) only [mdS_row, mdI_out, upRn] | (simp (disch := omega) only [mdS_row, mdI_out, upRn, *])) (fun _ _ => rfl)
        have ho := oR.b (k := 0) ho (by decide)
        exact x_pi (by first | (rw [sp_suits, if_neg (rv_nf c_5)]; done) | (rw [sp_suits, if_neg (rv_nf c_5)]; rfl) | (rw [sp_suits, if_pos c_5, if_neg (rv_nf c_13)]; done) | (rw [sp_suits, if_pos c_5, if_neg (rv_nf c_13)]; rfl) | (rw [sp_suits, if_pos c_5, if_pos c_13, if_neg (rv_nf c_20)]; done) | (rw [sp_suits, if_pos c_5, if_pos c_13, if_neg (rv_nf c_20)]; rfl)) X hr hlk hS dX0_suits_27 (RX.o hP hR ho (hO.at hS) (fun i hi => by first | rfl | simp (disch := omega) only [mdS_row, mdI_out, upRn] | (simp (disch := omega) only [mdS_row, mdI_out, upRn, *])) rfl rfl rfl)
theorem x_X0_about (l : Launch) (dC : Nat → ClassId) (dI : Nat → Nat → Nat) (dA : Nat → ClassId) (n c : Nat) (σ : mdT) (ab be : Int64) (r : Int32) (w : Int32) : Met l yX0_about (ws_ yX0_about cX0_about 4 (some .int)) { frames := 3, cells := 0, slots := 0, locals := 180 } (xPc dC dI dA (RX dC dI dA c n σ ab be) [.ref n, .int r, .int w]) (xQi (S := Unit) (fun r_ _ => r_ = (sp_about σ r w).1) (fun _ => (RX dC dI dA c n (sp_about σ r w).2 ab be)) (bkA n 96)) 0 0 (bkA n 96) := by
  refine x_in (by decide) rfl (Nat.le_of_ble_eq_true rfl) (lv := [(0, .ref n), (1, .int r), (2, .int w)]) rfl ?_
  intro p e s m below meth c_ X hN hnm hr hlk hP ls hl
  obtain ⟨T, ξ, V, V2, im, many, rent, rd, un, hs, ev, ty, hP, hR, ho, hO⟩ := hP
  have ho0 := ho
  have hR0 := hR
  have hV := hO.1
  have hT := hO.tb
  have hm := hR.m6
  have hr6 := hR.r6
  have hd6 := hR.d6
  have hu8 := hR.u8
  have hs12 := hR.h12
  have hS : va_S (bkA n 96) s.heap s.heap [] := va_S.rf
  refine lv_aload_n X.1 X.2.1 dX0_about_0 rfl (lv_at hl 0 rfl) ?_
  refine lv_iload_n X.1 X.2.1 dX0_about_1 rfl (lv_at hl 1 rfl) ?_
  refine x_cSe (x_runV X hN hP (As := [.int r]) (rest := []) (x_X0_isRenter l dC dI dA n ξ V V2 im ab be r c many rent rd un hs ev (σ 0) hR) xkv_X0_157 (x_recv (ci := 0) X.2.2.2.2.2 hP (j := 0) (by decide) (xe_x0 ..) rfl) rfl rfl ⟨Nat.le_of_ble_eq_true rfl, Nat.le_of_ble_eq_true rfl⟩ hl.1 (Nat.le_of_ble_eq_true rfl) dX0_about_2 ⟨Nat.le_of_ble_eq_true rfl, Nat.le_of_ble_eq_true rfl⟩) ?_
  refine rn_zt (tgt := 20) X.1 X.2.1 dX0_about_5 (by decide) (fun c_5 => ?_) (fun c_5 => ?_)
  · refine lv_aload_n X.1 X.2.1 dX0_about_20 rfl (lv_at hl 0 rfl) ?_
    refine x_cWi (x_runV X hN hP (As := []) (rest := []) (x_X0_badAsk l dC dI dA n ξ V V2 im ab be) xkv_X0_221 (x_recv (ci := 0) X.2.2.2.2.2 hP (j := 0) (by decide) (xe_x0 ..) rfl) rfl rfl ⟨Nat.le_of_ble_eq_true rfl, Nat.le_of_ble_eq_true rfl⟩ hl.1 (Nat.le_of_ble_eq_true rfl) dX0_about_21 ⟨Nat.le_of_ble_eq_true rfl, Nat.le_of_ble_eq_true rfl⟩) hS (fun _ h => h) (fun _ h => h) (fun r21 _ H locs hr1 hP1 hz1 hk1 hS => ?_)
    subst hr1
    have hP := hP1
    have hR := hR.cg (S' := fun i_ => (mdS ξ 89 0 (ξ 89 0 + nI 1)) (1 + i_)) (fun i hi => by first | rfl | simp (disch := omega) only [mdS_row, mdI_out, upRn] | (simp (disch := omega) only [mdS_row, mdI_out, upRn, *])) (fun _ _ => rfl)
    have ho := oR.b (k := 0) ho (by decide)
    exact x_pi (by first | (rw [sp_about, if_neg (rv_nf c_5)]; done) | (rw [sp_about, if_neg (rv_nf c_5)]; rfl) | (rw [sp_about, if_pos c_5, if_neg (rv_nf c_17)]; done) | (rw [sp_about, if_pos c_5, if_neg (rv_nf c_17)]; rfl)) X hr hlk hS dX0_about_24 (RX.o hP hR ho (hO.at hS) (fun i hi => by first | rfl | simp (disch := omega) only [mdS_row, mdI_out, upRn] | (simp (disch := omega) only [mdS_row, mdI_out, upRn, *])) rfl rfl rfl)
  · obtain ⟨j, hj, hv⟩ := rv_isx hR.f1 hr6 c_5
    refine lv_iload_n X.1 X.2.1 dX0_about_8 rfl (lv_at hl 2 rfl) ?_
    refine lv_i2l X.1 X.2.1 dX0_about_9 rfl ?_
    refine lv_lconst (v := 0) X.1 X.2.1 dX0_about_10 rfl ?_
    refine lv_ldc2 (v := 3) X.1 X.2.1 X.2.2.2.1 (X.2.2.2.2.1 _ q732) dX0_about_11 ?_
    refine x_cSe (x_runSp X (As := [.long (Int32.toInt64 w), .long 0, .long 3]) (rest := []) (x_X0_in l (Int32.toInt64 w) 0 3) xks_X0_89 rfl rfl ⟨Nat.le_of_ble_eq_true rfl, Nat.le_of_ble_eq_true rfl⟩ hl.1 (Nat.le_of_ble_eq_true rfl) dX0_about_14 ⟨Nat.le_of_ble_eq_true rfl, Nat.le_of_ble_eq_true rfl⟩) ?_
    refine rn_zf (tgt := 25) X.1 X.2.1 dX0_about_17 (by decide) (fun c_17 => ?_) (fun c_17 => ?_)
    · obtain ⟨k, hk, hw⟩ := rv_inIx (v := w) 3 rfl (by omega) c_17
      refine lv_iload_n X.1 X.2.1 dX0_about_25 rfl (lv_at hl 2 rfl) ?_
      refine rn_co (y := nI k) hw ?_
      refine lv_iconst (v := nI 2) X.1 X.2.1 dX0_about_26 rfl ?_
      refine rn_icmp_ne (tgt := 42) X.1 X.2.1 (by omega) (by omega) dX0_about_27 (by decide) (fun c_27 => ?_) (fun c_27 => ?_)
      · refine lv_aload_n X.1 X.2.1 dX0_about_42 rfl (lv_at hl 0 rfl) ?_
        refine xb_get (C := RX0) (T := TX0) (v := .ref (n + 1)) X in_X0 (ci := 0) rfl hP (j := 0) (by decide) (xe_x0 ..) 0 (by decide) q248 rfl rfl dX0_about_43 ?_
        refine lv_iload_n X.1 X.2.1 dX0_about_46 rfl (lv_at hl 1 rfl) ?_
        refine x_cSe (x_runV X hN (x_shop hP) (As := [.int r]) (rest := []) (x_X1_viewOf l dC dI dA (n + 1) (fun i_ => ξ (1 + i_)) V r c many rent rd un hs ev (σ 0) hR) xkv_X0_173 (x_recv (ci := 1) X.2.2.2.2.2 hP (j := 1) (by decide) (xe_x1 ..) rfl) rfl rfl ⟨Nat.le_of_ble_eq_true rfl, Nat.le_of_ble_eq_true rfl⟩ hl.1 (Nat.le_of_ble_eq_true rfl) dX0_about_47 ⟨Nat.le_of_ble_eq_true rfl, Nat.le_of_ble_eq_true rfl⟩) ?_
        refine lv_istore_n (lv' := [(3, .int (rv_vo (fun v => (σ 0) (7 + 6 * v + 4)) r many)), (0, .ref n), (1, .int r), (2, .int w)]) X.1 X.2.1 dX0_about_50 rfl hl (by decide) rfl (fun ls hl => ?_)
        refine lv_iload_n X.1 X.2.1 dX0_about_51 rfl (lv_at hl 3 rfl) ?_
        refine rn_co (y := nI k) hw ?_
        refine rn_if_ne (tgt := 67) X.1 X.2.1 (by omega) dX0_about_52 (by decide) (fun c_52 => ?_) (fun c_52 => ?_)
        · refine lv_iload_n X.1 X.2.1 dX0_about_67 rfl (lv_at hl 3 rfl) ?_
          refine rn_co (y := nI k) hw ?_
          refine lv_iconst (v := nI 1) X.1 X.2.1 dX0_about_68 rfl ?_
          refine rn_icmp_ne (tgt := 87) X.1 X.2.1 (by omega) (by omega) dX0_about_69 (by decide) (fun c_69 => ?_) (fun c_69 => ?_)
          · refine lv_iload_n X.1 X.2.1 dX0_about_87 rfl (lv_at hl 0 rfl) ?_
            exact x_pi (by rw [sp_about, if_pos c_5, if_pos c_17, hw]; rcases (show k = 0 ∨ k = 1 ∨ k = 2 ∨ k = 3 by omega) with rfl | rfl | rfl | rfl <;> first | omega | (rw [hv, rv_cln (by omega)]; rfl) | (rw [hR.f0, rv_cln (by omega)]; rfl)) X hr hlk hS dX0_about_88 (RX.o hP hR ho (hO.at hS) (fun i hi => by first | rfl | simp (disch := omega) only [mdS_row, mdI_out, upRn] | (simp (disch := omega) only [mdS_row, mdI_out, upRn, *])) rfl rfl rfl)
          · refine lv_aload_n X.1 X.2.1 dX0_about_72 rfl (lv_at hl 1 rfl) ?_
            refine xb_get (C := RX0) (T := TX0) (v := .ref (n + 1)) X in_X0 (ci := 0) rfl hP (j := 0) (by decide) (xe_x0 ..) 0 (by decide) q248 rfl rfl dX0_about_73 ?_
            refine xb_getN (host := "RentedViews") (C := RX1) (T := TX1) (v := .ref (n + 7)) X in_X1 (ci := 1) rfl hP (j := 1) (by decide) (xe_x1 ..) 8 (by decide) (x_nest hN q160 rfl) rfl rfl dX0_about_76 ?_
            refine xb_getN (host := "RentedViews") (C := RX2) (T := TX2) (v := .ref (n + 8)) X in_X2 (ci := 2) rfl hP (j := 7) (by decide) (xe_x7 ..) 0 (by decide) (x_nest hN q107 rfl) rfl rfl dX0_about_79 ?_
            refine lv_iload_n X.1 X.2.1 dX0_about_82 rfl (lv_at hl 2 rfl) ?_
            refine rn_co (y := nI j) hv ?_
            refine xb_iald X hP (j := 8) (by decide) (n := 6) (f := ξ 8) rfl (by omega) (by decide) dX0_about_83 ?_
            refine rn_co (y := (σ 0) (43 + 3 * j + 1)) (hR.pur (by omega)) ?_
            refine lv_goto (tgt := 88) X.1 X.2.1 dX0_about_84 (by decide) ?_
            exact x_pi (by rw [sp_about, if_pos c_5, if_pos c_17, hw]; rcases (show k = 0 ∨ k = 1 ∨ k = 2 ∨ k = 3 by omega) with rfl | rfl | rfl | rfl <;> first | omega | (rw [hv, rv_cln (by omega)]; rfl) | (rw [hR.f0, rv_cln (by omega)]; rfl)) X hr hlk hS dX0_about_88 (RX.o hP hR ho (hO.at hS) (fun i hi => by first | rfl | simp (disch := omega) only [mdS_row, mdI_out, upRn] | (simp (disch := omega) only [mdS_row, mdI_out, upRn, *])) rfl rfl rfl)
        · refine lv_aload_n X.1 X.2.1 dX0_about_55 rfl (lv_at hl 1 rfl) ?_
          refine xb_get (C := RX0) (T := TX0) (v := .ref (n + 1)) X in_X0 (ci := 0) rfl hP (j := 0) (by decide) (xe_x0 ..) 0 (by decide) q248 rfl rfl dX0_about_56 ?_
          refine xb_getN (host := "RentedViews") (C := RX1) (T := TX1) (v := .ref (n + 4)) X in_X1 (ci := 1) rfl hP (j := 1) (by decide) (xe_x1 ..) 3 (by decide) (x_nest hN q148 rfl) rfl rfl dX0_about_59 ?_
          refine lv_iload_n X.1 X.2.1 dX0_about_62 rfl (lv_at hl 2 rfl) ?_
          refine rn_co (y := nI j) hv ?_
          refine xb_iald X hP (j := 4) (by decide) (n := 6) (f := ξ 4) rfl (by omega) (by decide) dX0_about_63 ?_
          refine rn_co (y := (σ 0) (43 + 3 * j)) (hR.wal (by omega)) ?_
          refine lv_goto (tgt := 88) X.1 X.2.1 dX0_about_64 (by decide) ?_
          exact x_pi (by rw [sp_about, if_pos c_5, if_pos c_17, hw]; rcases (show k = 0 ∨ k = 1 ∨ k = 2 ∨ k = 3 by omega) with rfl | rfl | rfl | rfl <;> first | omega | (rw [hv, rv_cln (by omega)]; rfl) | (rw [hR.f0, rv_cln (by omega)]; rfl)) X hr hlk hS dX0_about_88 (RX.o hP hR ho (hO.at hS) (fun i hi => by first | rfl | simp (disch := omega) only [mdS_row, mdI_out, upRn] | (simp (disch := omega) only [mdS_row, mdI_out, upRn, *])) rfl rfl rfl)
      · refine lv_aload_n X.1 X.2.1 dX0_about_30 rfl (lv_at hl 0 rfl) ?_
        refine xb_get (C := RX0) (T := TX0) (v := .ref (n + 1)) X in_X0 (ci := 0) rfl hP (j := 0) (by decide) (xe_x0 ..) 0 (by decide) q248 rfl rfl dX0_about_31 ?_
        refine xb_getN (host := "RentedViews") (C := RX1) (T := TX1) (v := .ref (n + 5)) X in_X1 (ci := 1) rfl hP (j := 1) (by decide) (xe_x1 ..) 4 (by decide) (x_nest hN q150 rfl) rfl rfl dX0_about_34 ?_
        refine lv_iload_n X.1 X.2.1 dX0_about_37 rfl (lv_at hl 1 rfl) ?_
        refine rn_co (y := nI j) hv ?_
        refine xb_iald X hP (j := 5) (by decide) (n := 6) (f := ξ 5) rfl (by omega) (by decide) dX0_about_38 ?_
        refine rn_co (y := (σ 0) (43 + 3 * j + 2)) (hR.wan (by omega)) ?_
        refine lv_goto (tgt := 50) X.1 X.2.1 dX0_about_39 (by decide) ?_
        refine lv_istore_n (lv' := [(3, .int ((σ 0) (43 + 3 * j + 2))), (0, .ref n), (1, .int r), (2, .int w)]) X.1 X.2.1 dX0_about_50 rfl hl (by decide) rfl (fun ls hl => ?_)
        refine lv_iload_n X.1 X.2.1 dX0_about_51 rfl (lv_at hl 3 rfl) ?_
        refine rn_co (y := nI k) hw ?_
        refine rn_if_ne (tgt := 67) X.1 X.2.1 (by omega) dX0_about_52 (by decide) (fun c_52 => ?_) (fun c_52 => ?_)
        · refine lv_iload_n X.1 X.2.1 dX0_about_67 rfl (lv_at hl 3 rfl) ?_
          refine rn_co (y := nI k) hw ?_
          refine lv_iconst (v := nI 1) X.1 X.2.1 dX0_about_68 rfl ?_
          refine rn_icmp_ne (tgt := 87) X.1 X.2.1 (by omega) (by omega) dX0_about_69 (by decide) (fun c_69 => ?_) (fun c_69 => ?_)
          · refine lv_iload_n X.1 X.2.1 dX0_about_87 rfl (lv_at hl 0 rfl) ?_
            exact x_pi (by rw [sp_about, if_pos c_5, if_pos c_17, hw]; rcases (show k = 0 ∨ k = 1 ∨ k = 2 ∨ k = 3 by omega) with rfl | rfl | rfl | rfl <;> first | omega | (rw [hv, rv_cln (by omega)]; rfl) | (rw [hR.f0, rv_cln (by omega)]; rfl)) X hr hlk hS dX0_about_88 (RX.o hP hR ho (hO.at hS) (fun i hi => by first | rfl | simp (disch := omega) only [mdS_row, mdI_out, upRn] | (simp (disch := omega) only [mdS_row, mdI_out, upRn, *])) rfl rfl rfl)
          · refine lv_aload_n X.1 X.2.1 dX0_about_72 rfl (lv_at hl 1 rfl) ?_
            refine xb_get (C := RX0) (T := TX0) (v := .ref (n + 1)) X in_X0 (ci := 0) rfl hP (j := 0) (by decide) (xe_x0 ..) 0 (by decide) q248 rfl rfl dX0_about_73 ?_
            refine xb_getN (host := "RentedViews") (C := RX1) (T := TX1) (v := .ref (n + 7)) X in_X1 (ci := 1) rfl hP (j := 1) (by decide) (xe_x1 ..) 8 (by decide) (x_nest hN q160 rfl) rfl rfl dX0_about_76 ?_
            refine xb_getN (host := "RentedViews") (C := RX2) (T := TX2) (v := .ref (n + 8)) X in_X2 (ci := 2) rfl hP (j := 7) (by decide) (xe_x7 ..) 0 (by decide) (x_nest hN q107 rfl) rfl rfl dX0_about_79 ?_
            refine lv_iload_n X.1 X.2.1 dX0_about_82 rfl (lv_at hl 2 rfl) ?_
            refine rn_co (y := nI j) hv ?_
            refine xb_iald X hP (j := 8) (by decide) (n := 6) (f := ξ 8) rfl (by omega) (by decide) dX0_about_83 ?_
            refine rn_co (y := (σ 0) (43 + 3 * j + 1)) (hR.pur (by omega)) ?_
            refine lv_goto (tgt := 88) X.1 X.2.1 dX0_about_84 (by decide) ?_
            exact x_pi (by rw [sp_about, if_pos c_5, if_pos c_17, hw]; rcases (show k = 0 ∨ k = 1 ∨ k = 2 ∨ k = 3 by omega) with rfl | rfl | rfl | rfl <;> first | omega | (rw [hv, rv_cln (by omega)]; rfl) | (rw [hR.f0, rv_cln (by omega)]; rfl)) X hr hlk hS dX0_about_88 (RX.o hP hR ho (hO.at hS) (fun i hi => by first | rfl | simp (disch := omega) only [mdS_row, mdI_out, upRn] | (simp (disch := omega) only [mdS_row, mdI_out, upRn, *])) rfl rfl rfl)
        · refine lv_aload_n X.1 X.2.1 dX0_about_55 rfl (lv_at hl 1 rfl) ?_
          refine xb_get (C := RX0) (T := TX0) (v := .ref (n + 1)) X in_X0 (ci := 0) rfl hP (j := 0) (by decide) (xe_x0 ..) 0 (by decide) q248 rfl rfl dX0_about_56 ?_
          refine xb_getN (host := "RentedViews") (C := RX1) (T := TX1) (v := .ref (n + 4)) X in_X1 (ci := 1) rfl hP (j := 1) (by decide) (xe_x1 ..) 3 (by decide) (x_nest hN q148 rfl) rfl rfl dX0_about_59 ?_
          refine lv_iload_n X.1 X.2.1 dX0_about_62 rfl (lv_at hl 2 rfl) ?_
          refine rn_co (y := nI j) hv ?_
          refine xb_iald X hP (j := 4) (by decide) (n := 6) (f := ξ 4) rfl (by omega) (by decide) dX0_about_63 ?_
          refine rn_co (y := (σ 0) (43 + 3 * j)) (hR.wal (by omega)) ?_
          refine lv_goto (tgt := 88) X.1 X.2.1 dX0_about_64 (by decide) ?_
          exact x_pi (by rw [sp_about, if_pos c_5, if_pos c_17, hw]; rcases (show k = 0 ∨ k = 1 ∨ k = 2 ∨ k = 3 by omega) with rfl | rfl | rfl | rfl <;> first | omega | (rw [hv, rv_cln (by omega)]; rfl) | (rw [hR.f0, rv_cln (by omega)]; rfl)) X hr hlk hS dX0_about_88 (RX.o hP hR ho (hO.at hS) (fun i hi => by first | rfl | simp (disch := omega) only [mdS_row, mdI_out, upRn] | (simp (disch := omega) only [mdS_row, mdI_out, upRn, *])) rfl rfl rfl)
    · refine lv_aload_n X.1 X.2.1 dX0_about_20 rfl (lv_at hl 0 rfl) ?_
      refine x_cWi (x_runV X hN hP (As := []) (rest := []) (x_X0_badAsk l dC dI dA n ξ V V2 im ab be) xkv_X0_221 (x_recv (ci := 0) X.2.2.2.2.2 hP (j := 0) (by decide) (xe_x0 ..) rfl) rfl rfl ⟨Nat.le_of_ble_eq_true rfl, Nat.le_of_ble_eq_true rfl⟩ hl.1 (Nat.le_of_ble_eq_true rfl) dX0_about_21 ⟨Nat.le_of_ble_eq_true rfl, Nat.le_of_ble_eq_true rfl⟩) hS (fun _ h => h) (fun _ h => h) (fun r21 _ H locs hr1 hP1 hz1 hk1 hS => ?_)
      subst hr1
      have hP := hP1
      have hR := hR.cg (S' := fun i_ => (mdS ξ 89 0 (ξ 89 0 + nI 1)) (1 + i_)) (fun i hi => by first | rfl | simp (disch := omega) only [mdS_row, mdI_out, upRn] | (simp (disch := omega) only [mdS_row, mdI_out, upRn, *])) (fun _ _ => rfl)
      have ho := oR.b (k := 0) ho (by decide)
      exact x_pi (by first | (rw [sp_about, if_neg (rv_nf c_5)]; done) | (rw [sp_about, if_neg (rv_nf c_5)]; rfl) | (rw [sp_about, if_pos c_5, if_neg (rv_nf c_17)]; done) | (rw [sp_about, if_pos c_5, if_neg (rv_nf c_17)]; rfl)) X hr hlk hS dX0_about_24 (RX.o hP hR ho (hO.at hS) (fun i hi => by first | rfl | simp (disch := omega) only [mdS_row, mdI_out, upRn] | (simp (disch := omega) only [mdS_row, mdI_out, upRn, *])) rfl rfl rfl)
theorem x_X0_of (l : Launch) (dC : Nat → ClassId) (dI : Nat → Nat → Nat) (dA : Nat → ClassId) (n c : Nat) (σ : mdT) (ab be : Int64) (v : Int32) (w : Int32) : Met l yX0_of (ws_ yX0_of cX0_of 4 (some .int)) { frames := 4, cells := 0, slots := 0, locals := 240 } (xPc dC dI dA (RX dC dI dA c n σ ab be) [.ref n, .int v, .int w]) (xQi (S := Unit) (fun r_ _ => r_ = (sp_of σ v w).1) (fun _ => (RX dC dI dA c n (sp_of σ v w).2 ab be)) (bkA n 96)) 0 0 (bkA n 96) := by
  refine x_in (by decide) rfl (Nat.le_of_ble_eq_true rfl) (lv := [(0, .ref n), (1, .int v), (2, .int w)]) rfl ?_
  intro p e s m below meth c_ X hN hnm hr hlk hP ls hl
  obtain ⟨T, ξ, V, V2, im, many, rent, rd, un, hs, ev, ty, hP, hR, ho, hO⟩ := hP
  have ho0 := ho
  have hR0 := hR
  have hV := hO.1
  have hT := hO.tb
  have hm := hR.m6
  have hr6 := hR.r6
  have hd6 := hR.d6
  have hu8 := hR.u8
  have hs12 := hR.h12
  have hS : va_S (bkA n 96) s.heap s.heap [] := va_S.rf
  refine lv_aload_n X.1 X.2.1 dX0_of_0 rfl (lv_at hl 0 rfl) ?_
  refine lv_iload_n X.1 X.2.1 dX0_of_1 rfl (lv_at hl 1 rfl) ?_
  refine x_cSe (x_runV X hN hP (As := [.int v]) (rest := []) (x_X0_isView l dC dI dA n ξ V V2 im ab be v c many rent rd un hs ev (σ 0) hR) xkv_X0_132 (x_recv (ci := 0) X.2.2.2.2.2 hP (j := 0) (by decide) (xe_x0 ..) rfl) rfl rfl ⟨Nat.le_of_ble_eq_true rfl, Nat.le_of_ble_eq_true rfl⟩ hl.1 (Nat.le_of_ble_eq_true rfl) dX0_of_2 ⟨Nat.le_of_ble_eq_true rfl, Nat.le_of_ble_eq_true rfl⟩) ?_
  refine rn_zf (tgt := 13) X.1 X.2.1 dX0_of_5 (by decide) (fun c_5 => ?_) (fun c_5 => ?_)
  · obtain ⟨j, hj, hv⟩ := rv_isx hR.f0 hm c_5
    refine lv_aload_n X.1 X.2.1 dX0_of_13 rfl (lv_at hl 0 rfl) ?_
    refine xb_get (C := RX0) (T := TX0) (v := .ref (n + 1)) X in_X0 (ci := 0) rfl hP (j := 0) (by decide) (xe_x0 ..) 0 (by decide) q248 rfl rfl dX0_of_14 ?_
    refine xb_getN (host := "RentedViews") (C := RX1) (T := TX1) (v := .ref (n + 2)) X in_X1 (ci := 1) rfl hP (j := 1) (by decide) (xe_x1 ..) 0 (by decide) (x_nest hN q139 rfl) rfl rfl dX0_of_17 ?_
    refine lv_iload_n X.1 X.2.1 dX0_of_20 rfl (lv_at hl 1 rfl) ?_
    refine rn_co (y := nI j) hv ?_
    obtain ⟨a21, kd21, hVa21, hTa21, hk21, hf21, hv21⟩ := hV.2 j (by omega)
    refine xb_aald X hP (j := 2) (by decide) (t := 3) (C := RX6) (f := V) rfl rfl (by omega) (by decide) dX0_of_21 ?_
    refine x_vq hVa21 ?_
    refine lv_astore_n (lv' := [(3, .ref a21), (0, .ref n), (1, .int v), (2, .int w)]) X.1 X.2.1 dX0_of_22 rfl hl (by decide) rfl (fun ls hl => ?_)
    refine lv_iload_n X.1 X.2.1 dX0_of_23 rfl (lv_at hl 3 rfl) ?_
    refine rn_switch (x := w) (lo := 0) (k := 8) (fun j_ hj_ c_24 => ?_) (fun c_24 => ?_)
    · match j_, hj_ with
      | 0, _ =>
        have c_24 : w = 0 := rn_swe rfl c_24
        refine lv_tableIn (tgt := 72) X.1 X.2.1 dX0_of_24 (by rw [c_24]; decide) (by rw [c_24]; decide) (off := 48) (by rw [c_24]; rfl) (by decide) ?_
        refine lv_aload_n X.1 X.2.1 dX0_of_72 rfl (lv_at hl 0 rfl) ?_
        refine vd_X0_kind X hN hk21 (vw_at hv21 hS (hT _ hTa21)) (rest := []) ⟨Nat.le_of_ble_eq_true rfl, Nat.le_of_ble_eq_true rfl⟩ hl.1 (Nat.le_of_ble_eq_true rfl) dX0_of_73 ⟨Nat.le_of_ble_eq_true rfl, Nat.le_of_ble_eq_true rfl⟩ ?_
        refine rn_co (y := (σ 0) (7 + 6 * j)) (by rw [hf21]) ?_
        exact x_pi (by rw [sp_of, if_pos c_5, c_24]; rw [hv, rv_cln (by omega)]; rfl) X hr hlk hS dX0_of_76 (RX.o hP hR ho (hO.at hS) (fun i hi => by first | rfl | simp (disch := omega) only [mdS_row, mdI_out, upRn] | (simp (disch := omega) only [mdS_row, mdI_out, upRn, *])) rfl rfl rfl)
      | 1, _ =>
        have c_24 : w = 1 := rn_swe rfl c_24
        refine lv_tableIn (tgt := 77) X.1 X.2.1 dX0_of_24 (by rw [c_24]; decide) (by rw [c_24]; decide) (off := 53) (by rw [c_24]; rfl) (by decide) ?_
        refine lv_aload_n X.1 X.2.1 dX0_of_77 rfl (lv_at hl 0 rfl) ?_
        obtain ⟨C78_, T78_, K78_⟩ := vwK_of hk21
        refine vw_getN (host := "RentedViews") X hN K78_ (vw_at hv21 hS (hT _ hTa21)) 0 (by decide) q337 rfl dX0_of_78 ?_
        exact x_pi (by rw [sp_of, if_pos c_5, c_24]; rw [hv, rv_cln (by omega)]; rfl) X hr hlk hS dX0_of_81 (RX.o hP hR ho (hO.at hS) (fun i hi => by first | rfl | simp (disch := omega) only [mdS_row, mdI_out, upRn] | (simp (disch := omega) only [mdS_row, mdI_out, upRn, *])) rfl rfl rfl)
      | 2, _ =>
        have c_24 : w = 2 := rn_swe rfl c_24
        refine lv_tableIn (tgt := 82) X.1 X.2.1 dX0_of_24 (by rw [c_24]; decide) (by rw [c_24]; decide) (off := 58) (by rw [c_24]; rfl) (by decide) ?_
        refine lv_aload_n X.1 X.2.1 dX0_of_82 rfl (lv_at hl 0 rfl) ?_
        obtain ⟨C83_, T83_, K83_⟩ := vwK_of hk21
        refine vw_getN (host := "RentedViews") X hN K83_ (vw_at hv21 hS (hT _ hTa21)) 1 (by decide) q339 rfl dX0_of_83 ?_
        exact x_pi (by rw [sp_of, if_pos c_5, c_24]; rw [hv, rv_cln (by omega)]; rfl) X hr hlk hS dX0_of_86 (RX.o hP hR ho (hO.at hS) (fun i hi => by first | rfl | simp (disch := omega) only [mdS_row, mdI_out, upRn] | (simp (disch := omega) only [mdS_row, mdI_out, upRn, *])) rfl rfl rfl)
      | 3, _ =>
        have c_24 : w = 3 := rn_swe rfl c_24
        refine lv_tableIn (tgt := 87) X.1 X.2.1 dX0_of_24 (by rw [c_24]; decide) (by rw [c_24]; decide) (off := 63) (by rw [c_24]; rfl) (by decide) ?_
        refine lv_aload_n X.1 X.2.1 dX0_of_87 rfl (lv_at hl 0 rfl) ?_
        obtain ⟨C88_, T88_, K88_⟩ := vwK_of hk21
        refine vw_getN (host := "RentedViews") X hN K88_ (vw_at hv21 hS (hT _ hTa21)) 2 (by decide) q341 rfl dX0_of_88 ?_
        exact x_pi (by rw [sp_of, if_pos c_5, c_24]; rw [hv, rv_cln (by omega)]; rfl) X hr hlk hS dX0_of_91 (RX.o hP hR ho (hO.at hS) (fun i hi => by first | rfl | simp (disch := omega) only [mdS_row, mdI_out, upRn] | (simp (disch := omega) only [mdS_row, mdI_out, upRn, *])) rfl rfl rfl)
      | 4, _ =>
        have c_24 : w = 4 := rn_swe rfl c_24
        refine lv_tableIn (tgt := 92) X.1 X.2.1 dX0_of_24 (by rw [c_24]; decide) (by rw [c_24]; decide) (off := 68) (by rw [c_24]; rfl) (by decide) ?_
        refine lv_aload_n X.1 X.2.1 dX0_of_92 rfl (lv_at hl 0 rfl) ?_
        refine lv_aload_n X.1 X.2.1 dX0_of_93 rfl (lv_at hl 1 rfl) ?_
        refine xb_get (C := RX0) (T := TX0) (v := .ref (n + 1)) X in_X0 (ci := 0) rfl hP (j := 0) (by decide) (xe_x0 ..) 0 (by decide) q248 rfl rfl dX0_of_94 ?_
        refine xb_getN (host := "RentedViews") (C := RX1) (T := TX1) (v := .ref (n + 7)) X in_X1 (ci := 1) rfl hP (j := 1) (by decide) (xe_x1 ..) 8 (by decide) (x_nest hN q160 rfl) rfl rfl dX0_of_97 ?_
        refine xb_getN (host := "RentedViews") (C := RX2) (T := TX2) (v := .int (ξ 7 1)) X in_X2 (ci := 2) rfl hP (j := 7) (by decide) (xe_x7 ..) 3 (by decide) (x_nest hN q116 rfl) rfl rfl dX0_of_100 ?_
        refine rn_co (y := (σ 0) 2) (hR.eve.trans hR.f2.symm) ?_
        refine vd_X0_shows ((σ 0) 2) X hN hk21 (vw_at hv21 hS (hT _ hTa21)) (rest := []) ⟨Nat.le_of_ble_eq_true rfl, Nat.le_of_ble_eq_true rfl⟩ hl.1 (Nat.le_of_ble_eq_true rfl) dX0_of_103 ⟨Nat.le_of_ble_eq_true rfl, Nat.le_of_ble_eq_true rfl⟩ ?_
        refine rn_co (y := rv_weather ((σ 0) (7 + 6 * j)) ((σ 0) (7 + 6 * j + 3)) ((σ 0) 2)) (by rw [hf21]) ?_
        exact x_pi (by rw [sp_of, if_pos c_5, c_24]; rw [hv, rv_cln (by omega)]; rfl) X hr hlk hS dX0_of_106 (RX.o hP hR ho (hO.at hS) (fun i hi => by first | rfl | simp (disch := omega) only [mdS_row, mdI_out, upRn] | (simp (disch := omega) only [mdS_row, mdI_out, upRn, *])) rfl rfl rfl)
      | 5, _ =>
        have c_24 : w = 5 := rn_swe rfl c_24
        refine lv_tableIn (tgt := 107) X.1 X.2.1 dX0_of_24 (by rw [c_24]; decide) (by rw [c_24]; decide) (off := 83) (by rw [c_24]; rfl) (by decide) ?_
        refine lv_aload_n X.1 X.2.1 dX0_of_107 rfl (lv_at hl 0 rfl) ?_
        refine vd_X0_lets X hN hk21 (vw_at hv21 hS (hT _ hTa21)) (rest := []) ⟨Nat.le_of_ble_eq_true rfl, Nat.le_of_ble_eq_true rfl⟩ hl.1 (Nat.le_of_ble_eq_true rfl) dX0_of_108 ⟨Nat.le_of_ble_eq_true rfl, Nat.le_of_ble_eq_true rfl⟩ ?_
        refine rn_co (y := rv_cost ((σ 0) (7 + 6 * j)) ((σ 0) (7 + 6 * j + 2))) (by rw [hf21]) ?_
        exact x_pi (by rw [sp_of, if_pos c_5, c_24]; rw [hv, rv_cln (by omega)]; rfl) X hr hlk hS dX0_of_111 (RX.o hP hR ho (hO.at hS) (fun i hi => by first | rfl | simp (disch := omega) only [mdS_row, mdI_out, upRn] | (simp (disch := omega) only [mdS_row, mdI_out, upRn, *])) rfl rfl rfl)
      | 6, _ =>
        have c_24 : w = 6 := rn_swe rfl c_24
        refine lv_tableIn (tgt := 112) X.1 X.2.1 dX0_of_24 (by rw [c_24]; decide) (by rw [c_24]; decide) (off := 88) (by rw [c_24]; rfl) (by decide) ?_
        refine lv_aload_n X.1 X.2.1 dX0_of_112 rfl (lv_at hl 1 rfl) ?_
        refine xb_get (C := RX0) (T := TX0) (v := .ref (n + 1)) X in_X0 (ci := 0) rfl hP (j := 0) (by decide) (xe_x0 ..) 0 (by decide) q248 rfl rfl dX0_of_113 ?_
        refine xb_getN (host := "RentedViews") (C := RX1) (T := TX1) (v := .ref (n + 7)) X in_X1 (ci := 1) rfl hP (j := 1) (by decide) (xe_x1 ..) 8 (by decide) (x_nest hN q160 rfl) rfl rfl dX0_of_116 ?_
        refine xb_getN (host := "RentedViews") (C := RX2) (T := TX2) (v := .ref (n + 9)) X in_X2 (ci := 2) rfl hP (j := 7) (by decide) (xe_x7 ..) 1 (by decide) (x_nest hN q110 rfl) rfl rfl dX0_of_119 ?_
        refine lv_iload_n X.1 X.2.1 dX0_of_122 rfl (lv_at hl 2 rfl) ?_
        refine rn_co (y := nI j) hv ?_
        refine xb_iald X hP (j := 9) (by decide) (n := 6) (f := ξ 9) rfl (by omega) (by decide) dX0_of_123 ?_
        refine rn_co (y := (σ 0) (7 + 6 * j + 4)) (hR.lt (by omega)) ?_
        exact x_pi (by rw [sp_of, if_pos c_5, c_24]; rw [hv, rv_cln (by omega)]; rfl) X hr hlk hS dX0_of_124 (RX.o hP hR ho (hO.at hS) (fun i hi => by first | rfl | simp (disch := omega) only [mdS_row, mdI_out, upRn] | (simp (disch := omega) only [mdS_row, mdI_out, upRn, *])) rfl rfl rfl)
      | 7, _ =>
        have c_24 : w = 7 := rn_swe rfl c_24
        refine lv_tableIn (tgt := 125) X.1 X.2.1 dX0_of_24 (by rw [c_24]; decide) (by rw [c_24]; decide) (off := 101) (by rw [c_24]; rfl) (by decide) ?_
        refine lv_aload_n X.1 X.2.1 dX0_of_125 rfl (lv_at hl 1 rfl) ?_
        refine xb_get (C := RX0) (T := TX0) (v := .ref (n + 1)) X in_X0 (ci := 0) rfl hP (j := 0) (by decide) (xe_x0 ..) 0 (by decide) q248 rfl rfl dX0_of_126 ?_
        refine xb_getN (host := "RentedViews") (C := RX1) (T := TX1) (v := .ref (n + 3)) X in_X1 (ci := 1) rfl hP (j := 1) (by decide) (xe_x1 ..) 1 (by decide) (x_nest hN q142 rfl) rfl rfl dX0_of_129 ?_
        refine lv_iload_n X.1 X.2.1 dX0_of_132 rfl (lv_at hl 2 rfl) ?_
        refine rn_co (y := nI j) hv ?_
        refine xb_iald X hP (j := 3) (by decide) (n := 6) (f := ξ 3) rfl (by omega) (by decide) dX0_of_133 ?_
        refine rn_co (y := (σ 0) (7 + 6 * j + 5)) (hR.thg (by omega)) ?_
        exact x_pi (by rw [sp_of, if_pos c_5, c_24]; rw [hv, rv_cln (by omega)]; rfl) X hr hlk hS dX0_of_134 (RX.o hP hR ho (hO.at hS) (fun i hi => by first | rfl | simp (disch := omega) only [mdS_row, mdI_out, upRn] | (simp (disch := omega) only [mdS_row, mdI_out, upRn, *])) rfl rfl rfl)
      | (_ + 8), hj_ => exact absurd hj_ (by omega)
    · refine lv_tableOut (tgt := 135) X.1 X.2.1 dX0_of_24 (by omega) (by decide) ?_
      refine lv_aload_n X.1 X.2.1 dX0_of_135 rfl (lv_at hl 1 rfl) ?_
      refine x_cWi (x_runV X hN hP (As := []) (rest := []) (x_X0_badAsk l dC dI dA n ξ V V2 im ab be) xkv_X0_221 (x_recv (ci := 0) X.2.2.2.2.2 hP (j := 0) (by decide) (xe_x0 ..) rfl) rfl rfl ⟨Nat.le_of_ble_eq_true rfl, Nat.le_of_ble_eq_true rfl⟩ hl.1 (Nat.le_of_ble_eq_true rfl) dX0_of_136 ⟨Nat.le_of_ble_eq_true rfl, Nat.le_of_ble_eq_true rfl⟩) hS (fun _ h => h) (fun _ h => h) (fun r136 _ H locs hr1 hP1 hz1 hk1 hS => ?_)
      subst hr1
      have hP := hP1
      have hR := hR.cg (S' := fun i_ => (mdS ξ 89 0 (ξ 89 0 + nI 1)) (1 + i_)) (fun i hi => by first | rfl | simp (disch := omega) only [mdS_row, mdI_out, upRn] | (simp (disch := omega) only [mdS_row, mdI_out, upRn, *])) (fun _ _ => rfl)
      have ho := oR.b (k := 0) ho (by decide)
      exact x_pi (by rw [sp_of, if_pos c_5, if_neg (rv_nf (rv_inI_out (n := 7) rfl c_24))]; rfl) X hr hlk hS dX0_of_139 (RX.o hP hR ho (hO.at hS) (fun i hi => by first | rfl | simp (disch := omega) only [mdS_row, mdI_out, upRn] | (simp (disch := omega) only [mdS_row, mdI_out, upRn, *])) rfl rfl rfl)
  · refine lv_aload_n X.1 X.2.1 dX0_of_8 rfl (lv_at hl 0 rfl) ?_
    refine x_cWi (x_runV X hN hP (As := []) (rest := []) (x_X0_badAsk l dC dI dA n ξ V V2 im ab be) xkv_X0_221 (x_recv (ci := 0) X.2.2.2.2.2 hP (j := 0) (by decide) (xe_x0 ..) rfl) rfl rfl ⟨Nat.le_of_ble_eq_true rfl, Nat.le_of_ble_eq_true rfl⟩ hl.1 (Nat.le_of_ble_eq_true rfl) dX0_of_9 ⟨Nat.le_of_ble_eq_true rfl, Nat.le_of_ble_eq_true rfl⟩) hS (fun _ h => h) (fun _ h => h) (fun r9 _ H locs hr1 hP1 hz1 hk1 hS => ?_)
    subst hr1
    have hP := hP1
    have hR := hR.cg (S' := fun i_ => (mdS ξ 89 0 (ξ 89 0 + nI 1)) (1 + i_)) (fun i hi => by first | rfl | simp (disch := omega) only [mdS_row, mdI_out, upRn] | (simp (disch := omega) only [mdS_row, mdI_out, upRn, *])) (fun _ _ => rfl)
    have ho := oR.b (k := 0) ho (by decide)
    exact x_pi (by first | (rw [sp_of, if_neg (rv_nf c_5)]; done) | (rw [sp_of, if_neg (rv_nf c_5)]; rfl)) X hr hlk hS dX0_of_12 (RX.o hP hR ho (hO.at hS) (fun i hi => by first | rfl | simp (disch := omega) only [mdS_row, mdI_out, upRn] | (simp (disch := omega) only [mdS_row, mdI_out, upRn, *])) rfl rfl rfl)
theorem x_X0_countOf (l : Launch) (dC : Nat → ClassId) (dI : Nat → Nat → Nat) (dA : Nat → ClassId) (n : Nat) (ξ : mdT) (V : Nat → Option Nat) (V2 : Nat → Option Nat) (im : Nat → Option Nat) (ab : Int64) (be : Int64) (w : Nat) (c : Nat) (many : Nat) (rent : Nat) (rd : Nat) (un : Nat) (hs : Nat) (ev : Nat) (f : Nat → Int32) (hR : shR c many rent rd un hs ev f (fun i_ => ξ (1 + i_))) (σ : mdT) (hf0 : σ 0 = f) (hty : ξ 0 0 = σ 15 5) (hw8 : w ≤ 8) : Met l yX0_countOf (ws_ yX0_countOf cX0_countOf 2 (some .int)) { frames := 2, cells := 0, slots := 0, locals := 120 } (xPc dC dI dA (bkP dC dI n 96 (xE dA n ξ V V2 im ab be)) [.ref n, .int (nI w)]) (vp_Si (fun r_ => r_ = (sp_counted σ (nI w)))) 0 0 (fun _ => False) := by
  refine x_in (by decide) rfl (Nat.le_of_ble_eq_true rfl) (lv := [(0, .ref n), (1, .int (nI w))]) rfl ?_
  intro p e s m below meth c_ X hN hnm hr hlk hP ls hl
  have hm := hR.m6
  have hr6 := hR.r6
  have hd6 := hR.d6
  have hu8 := hR.u8
  have hs12 := hR.h12
  have hwi : (nI w).toInt = (w : Int) := nI_toInt (by omega)
  refine lv_iload_n X.1 X.2.1 dX0_countOf_0 rfl (lv_at hl 1 rfl) ?_
  refine rn_switch (x := (nI w)) (lo := 0) (k := 8) (fun j_ hj_ c_1 => ?_) (fun c_1 => ?_)
  · match j_, hj_ with
    | 0, _ =>
      have c_1 : (nI w) = 0 := rn_swe rfl c_1
      refine lv_tableIn (tgt := 48) X.1 X.2.1 dX0_countOf_1 (by rw [c_1]; decide) (by rw [c_1]; decide) (off := 47) (by rw [c_1]; rfl) (by decide) ?_
      refine lv_aload_n X.1 X.2.1 dX0_countOf_48 rfl (lv_at hl 0 rfl) ?_
      refine xb_get (C := RX0) (T := TX0) (v := .ref (n + 1)) X in_X0 (ci := 0) rfl hP (j := 0) (by decide) (xe_x0 ..) 0 (by decide) q248 rfl rfl dX0_countOf_49 ?_
      refine xb_getN (host := "RentedViews") (C := RX1) (T := TX1) (v := .int (ξ 1 0)) X in_X1 (ci := 1) rfl hP (j := 1) (by decide) (xe_x1 ..) 2 (by decide) (x_nest hN q145 rfl) rfl rfl dX0_countOf_52 ?_
      refine rn_co (y := f 0) (hR.nm.trans hR.f0.symm) ?_
      exact rv_ri X.1 X.2.1 hr hlk dX0_countOf_55 (by rw [show nI w = _ from c_1, ← hf0]; rfl)
    | 1, _ =>
      have c_1 : (nI w) = 1 := rn_swe rfl c_1
      refine lv_tableIn (tgt := 56) X.1 X.2.1 dX0_countOf_1 (by rw [c_1]; decide) (by rw [c_1]; decide) (off := 55) (by rw [c_1]; rfl) (by decide) ?_
      refine lv_aload_n X.1 X.2.1 dX0_countOf_56 rfl (lv_at hl 0 rfl) ?_
      refine xb_get (C := RX0) (T := TX0) (v := .ref (n + 1)) X in_X0 (ci := 0) rfl hP (j := 0) (by decide) (xe_x0 ..) 0 (by decide) q248 rfl rfl dX0_countOf_57 ?_
      refine xb_getN (host := "RentedViews") (C := RX1) (T := TX1) (v := .int (ξ 1 1)) X in_X1 (ci := 1) rfl hP (j := 1) (by decide) (xe_x1 ..) 5 (by decide) (x_nest hN q154 rfl) rfl rfl dX0_countOf_60 ?_
      refine rn_co (y := f 1) (hR.nr.trans hR.f1.symm) ?_
      exact rv_ri X.1 X.2.1 hr hlk dX0_countOf_63 (by rw [show nI w = _ from c_1, ← hf0]; rfl)
    | 2, _ =>
      have c_1 : (nI w) = 2 := rn_swe rfl c_1
      refine lv_tableIn (tgt := 64) X.1 X.2.1 dX0_countOf_1 (by rw [c_1]; decide) (by rw [c_1]; decide) (off := 63) (by rw [c_1]; rfl) (by decide) ?_
      refine lv_aload_n X.1 X.2.1 dX0_countOf_64 rfl (lv_at hl 0 rfl) ?_
      refine xb_get (C := RX0) (T := TX0) (v := .ref (n + 1)) X in_X0 (ci := 0) rfl hP (j := 0) (by decide) (xe_x0 ..) 0 (by decide) q248 rfl rfl dX0_countOf_65 ?_
      refine xb_getN (host := "RentedViews") (C := RX1) (T := TX1) (v := .ref (n + 7)) X in_X1 (ci := 1) rfl hP (j := 1) (by decide) (xe_x1 ..) 8 (by decide) (x_nest hN q160 rfl) rfl rfl dX0_countOf_68 ?_
      refine xb_getN (host := "RentedViews") (C := RX2) (T := TX2) (v := .int (ξ 7 1)) X in_X2 (ci := 2) rfl hP (j := 7) (by decide) (xe_x7 ..) 3 (by decide) (x_nest hN q116 rfl) rfl rfl dX0_countOf_71 ?_
      refine rn_co (y := f 2) (hR.eve.trans hR.f2.symm) ?_
      exact rv_ri X.1 X.2.1 hr hlk dX0_countOf_74 (by rw [show nI w = _ from c_1, ← hf0]; rfl)
    | 3, _ =>
      have c_1 : (nI w) = 3 := rn_swe rfl c_1
      refine lv_tableIn (tgt := 75) X.1 X.2.1 dX0_countOf_1 (by rw [c_1]; decide) (by rw [c_1]; decide) (off := 74) (by rw [c_1]; rfl) (by decide) ?_
      refine lv_aload_n X.1 X.2.1 dX0_countOf_75 rfl (lv_at hl 0 rfl) ?_
      refine xb_get (C := RX0) (T := TX0) (v := .ref (n + 1)) X in_X0 (ci := 0) rfl hP (j := 0) (by decide) (xe_x0 ..) 0 (by decide) q248 rfl rfl dX0_countOf_76 ?_
      refine xb_getN (host := "RentedViews") (C := RX1) (T := TX1) (v := .ref (n + 7)) X in_X1 (ci := 1) rfl hP (j := 1) (by decide) (xe_x1 ..) 8 (by decide) (x_nest hN q160 rfl) rfl rfl dX0_countOf_79 ?_
      refine xb_getN (host := "RentedViews") (C := RX2) (T := TX2) (v := .int (ξ 7 0)) X in_X2 (ci := 2) rfl hP (j := 7) (by decide) (xe_x7 ..) 2 (by decide) (x_nest hN q113 rfl) rfl rfl dX0_countOf_82 ?_
      refine rn_co (y := f 3) hR.tak ?_
      exact rv_ri X.1 X.2.1 hr hlk dX0_countOf_85 (by rw [show nI w = _ from c_1, ← hf0]; rfl)
    | 4, _ =>
      have c_1 : (nI w) = 4 := rn_swe rfl c_1
      refine lv_tableIn (tgt := 86) X.1 X.2.1 dX0_countOf_1 (by rw [c_1]; decide) (by rw [c_1]; decide) (off := 85) (by rw [c_1]; rfl) (by decide) ?_
      refine lv_aload_n X.1 X.2.1 dX0_countOf_86 rfl (lv_at hl 0 rfl) ?_
      refine x_cSe (x_runV X hN hP (As := []) (rest := []) (x_X0_out l dC dI dA n ξ V V2 im ab be c many rent rd un hs ev f hR) xkv_X0_331 (x_recv (ci := 0) X.2.2.2.2.2 hP (j := 0) (by decide) (xe_x0 ..) rfl) rfl rfl ⟨Nat.le_of_ble_eq_true rfl, Nat.le_of_ble_eq_true rfl⟩ hl.1 (Nat.le_of_ble_eq_true rfl) dX0_countOf_87 ⟨Nat.le_of_ble_eq_true rfl, Nat.le_of_ble_eq_true rfl⟩) ?_
      exact rv_ri X.1 X.2.1 hr hlk dX0_countOf_90 (by rw [show nI w = _ from c_1, ← hf0]; show _ = rv_out _ (rv_cl (σ 0 0)); rw [hf0, hR.f0, rv_cln (by omega)])
    | 5, _ =>
      have c_1 : (nI w) = 5 := rn_swe rfl c_1
      refine lv_tableIn (tgt := 91) X.1 X.2.1 dX0_countOf_1 (by rw [c_1]; decide) (by rw [c_1]; decide) (off := 90) (by rw [c_1]; rfl) (by decide) ?_
      refine lv_aload_n X.1 X.2.1 dX0_countOf_91 rfl (lv_at hl 0 rfl) ?_
      refine xb_get (C := RX0) (T := TX0) (v := .ref (n + 1)) X in_X0 (ci := 0) rfl hP (j := 0) (by decide) (xe_x0 ..) 0 (by decide) q248 rfl rfl dX0_countOf_92 ?_
      refine xb_getN (host := "RentedViews") (C := RX1) (T := TX1) (v := .ref (n + 7)) X in_X1 (ci := 1) rfl hP (j := 1) (by decide) (xe_x1 ..) 8 (by decide) (x_nest hN q160 rfl) rfl rfl dX0_countOf_95 ?_
      refine xb_getN (host := "RentedViews") (C := RX2) (T := TX2) (v := .int (ξ 7 2)) X in_X2 (ci := 2) rfl hP (j := 7) (by decide) (xe_x7 ..) 5 (by decide) (x_nest hN q121 rfl) rfl rfl dX0_countOf_98 ?_
      refine rn_co (y := f 4) (hR.tol.trans hR.f4.symm) ?_
      exact rv_ri X.1 X.2.1 hr hlk dX0_countOf_101 (by rw [show nI w = _ from c_1, ← hf0]; rfl)
    | 6, _ =>
      have c_1 : (nI w) = 6 := rn_swe rfl c_1
      refine lv_tableIn (tgt := 102) X.1 X.2.1 dX0_countOf_1 (by rw [c_1]; decide) (by rw [c_1]; decide) (off := 101) (by rw [c_1]; rfl) (by decide) ?_
      refine lv_aload_n X.1 X.2.1 dX0_countOf_102 rfl (lv_at hl 0 rfl) ?_
      refine xb_get (C := RX0) (T := TX0) (v := .ref (n + 1)) X in_X0 (ci := 0) rfl hP (j := 0) (by decide) (xe_x0 ..) 0 (by decide) q248 rfl rfl dX0_countOf_103 ?_
      refine xb_getN (host := "RentedViews") (C := RX1) (T := TX1) (v := .int (ξ 1 2)) X in_X1 (ci := 1) rfl hP (j := 1) (by decide) (xe_x1 ..) 7 (by decide) (x_nest hN q158 rfl) rfl rfl dX0_countOf_106 ?_
      refine rn_co (y := f 5) (hR.nd.trans hR.f5.symm) ?_
      exact rv_ri X.1 X.2.1 hr hlk dX0_countOf_109 (by rw [show nI w = _ from c_1, ← hf0]; rfl)
    | 7, _ =>
      have c_1 : (nI w) = 7 := rn_swe rfl c_1
      refine lv_tableIn (tgt := 110) X.1 X.2.1 dX0_countOf_1 (by rw [c_1]; decide) (by rw [c_1]; decide) (off := 109) (by rw [c_1]; rfl) (by decide) ?_
      refine lv_aload_n X.1 X.2.1 dX0_countOf_110 rfl (lv_at hl 0 rfl) ?_
      refine xb_get (C := RX0) (T := TX0) (v := .ref (n + 1)) X in_X0 (ci := 0) rfl hP (j := 0) (by decide) (xe_x0 ..) 0 (by decide) q248 rfl rfl dX0_countOf_111 ?_
      refine xb_getN (host := "RentedViews") (C := RX1) (T := TX1) (v := .int (ξ 1 3)) X in_X1 (ci := 1) rfl hP (j := 1) (by decide) (xe_x1 ..) 10 (by decide) (x_nest hN q164 rfl) rfl rfl dX0_countOf_114 ?_
      refine rn_co (y := f 6) (hR.nu.trans hR.f6.symm) ?_
      exact rv_ri X.1 X.2.1 hr hlk dX0_countOf_117 (by rw [show nI w = _ from c_1, ← hf0]; rfl)
    | (_ + 8), hj_ => exact absurd hj_ (by omega)
  · refine lv_tableOut (tgt := 118) X.1 X.2.1 dX0_countOf_1 (by omega) (by decide) ?_
    refine lv_aload_n X.1 X.2.1 dX0_countOf_118 rfl (lv_at hl 0 rfl) ?_
    refine xb_get (C := RX0) (T := TX0) (v := .int (ξ 0 0)) X in_X0 (ci := 0) rfl hP (j := 0) (by decide) (xe_x0 ..) 4 (by decide) q255 rfl rfl dX0_countOf_119 ?_
    exact rv_ri X.1 X.2.1 hr hlk dX0_countOf_122 (by obtain rfl : w = 8 := (by rw [hwi] at c_1; omega); exact hty)
theorem x_X0_count (l : Launch) (dC : Nat → ClassId) (dI : Nat → Nat → Nat) (dA : Nat → ClassId) (n c : Nat) (σ : mdT) (ab be : Int64) (w : Int32) : Met l yX0_count (ws_ yX0_count cX0_count 2 (some .int)) { frames := 3, cells := 0, slots := 0, locals := 180 } (xPc dC dI dA (RX dC dI dA c n σ ab be) [.ref n, .int w]) (xQi (S := Unit) (fun r_ _ => r_ = (sp_count σ w).1) (fun _ => (RX dC dI dA c n (sp_count σ w).2 ab be)) (bkA n 96)) 0 0 (bkA n 96) := by
  refine x_in (by decide) rfl (Nat.le_of_ble_eq_true rfl) (lv := [(0, .ref n), (1, .int w)]) rfl ?_
  intro p e s m below meth c_ X hN hnm hr hlk hP ls hl
  obtain ⟨T, ξ, V, V2, im, many, rent, rd, un, hs, ev, ty, hP, hR, ho, hO⟩ := hP
  have ho0 := ho
  have hR0 := hR
  have hV := hO.1
  have hT := hO.tb
  have hm := hR.m6
  have hr6 := hR.r6
  have hd6 := hR.d6
  have hu8 := hR.u8
  have hs12 := hR.h12
  have hS : va_S (bkA n 96) s.heap s.heap [] := va_S.rf
  refine lv_iload_n X.1 X.2.1 dX0_count_0 rfl (lv_at hl 1 rfl) ?_
  refine lv_i2l X.1 X.2.1 dX0_count_1 rfl ?_
  refine lv_lconst (v := 0) X.1 X.2.1 dX0_count_2 rfl ?_
  refine lv_ldc2 (v := 8) X.1 X.2.1 X.2.2.2.1 (X.2.2.2.2.1 _ q876) dX0_count_3 ?_
  refine x_cSe (x_runSp X (As := [.long (Int32.toInt64 w), .long 0, .long 8]) (rest := []) (x_X0_in l (Int32.toInt64 w) 0 8) xks_X0_89 rfl rfl ⟨Nat.le_of_ble_eq_true rfl, Nat.le_of_ble_eq_true rfl⟩ hl.1 (Nat.le_of_ble_eq_true rfl) dX0_count_6 ⟨Nat.le_of_ble_eq_true rfl, Nat.le_of_ble_eq_true rfl⟩) ?_
  refine rn_zt (tgt := 20) X.1 X.2.1 dX0_count_9 (by decide) (fun c_9 => ?_) (fun c_9 => ?_)
  · refine lv_aload_n X.1 X.2.1 dX0_count_20 rfl (lv_at hl 0 rfl) ?_
    refine x_cWi (x_runV X hN hP (As := []) (rest := []) (x_X0_bad l dC dI dA n ξ V V2 im ab be) xkv_X0_110 (x_recv (ci := 0) X.2.2.2.2.2 hP (j := 0) (by decide) (xe_x0 ..) rfl) rfl rfl ⟨Nat.le_of_ble_eq_true rfl, Nat.le_of_ble_eq_true rfl⟩ hl.1 (Nat.le_of_ble_eq_true rfl) dX0_count_21 ⟨Nat.le_of_ble_eq_true rfl, Nat.le_of_ble_eq_true rfl⟩) hS (fun _ h => h) (fun _ h => h) (fun r21 _ H locs hr1 hP1 hz1 hk1 hS => ?_)
    subst hr1
    have hP := hP1
    have hR := hR.cg (S' := fun i_ => (mdS ξ 89 0 (ξ 89 0 + nI 1)) (1 + i_)) (fun i hi => by first | rfl | simp (disch := omega) only [mdS_row, mdI_out, upRn] | (simp (disch := omega) only [mdS_row, mdI_out, upRn, *])) (fun _ _ => rfl)
    have ho := oR.b (k := 0) ho (by decide)
    exact x_pi (by first | (rw [sp_count, if_neg (rv_nf c_9)]; done) | (rw [sp_count, if_neg (rv_nf c_9)]; rfl) | (rw [sp_count, if_pos c_9, hw]; done) | (rw [sp_count, if_pos c_9, hw]; rfl)) X hr hlk hS dX0_count_24 (RX.o hP hR ho (hO.at hS) (fun i hi => by first | rfl | simp (disch := omega) only [mdS_row, mdI_out, upRn] | (simp (disch := omega) only [mdS_row, mdI_out, upRn, *])) rfl rfl rfl)
  · obtain ⟨j, hj, hw⟩ := rv_inIx (v := w) 8 rfl (by omega) c_9
    refine lv_aload_n X.1 X.2.1 dX0_count_12 rfl (lv_at hl 0 rfl) ?_
    refine lv_iload_n X.1 X.2.1 dX0_count_13 rfl (lv_at hl 1 rfl) ?_
    refine rn_co (y := nI j) hw ?_
    refine x_cSe (x_runV X hN hP (As := [.int (nI j)]) (rest := []) (x_X0_countOf l dC dI dA n ξ V V2 im ab be j c many rent rd un hs ev (σ 0) hR σ rfl (ho.ty.trans ho.tyσ.symm) (by omega)) xkv_X0_336 (x_recv (ci := 0) X.2.2.2.2.2 hP (j := 0) (by decide) (xe_x0 ..) rfl) rfl rfl ⟨Nat.le_of_ble_eq_true rfl, Nat.le_of_ble_eq_true rfl⟩ hl.1 (Nat.le_of_ble_eq_true rfl) dX0_count_14 ⟨Nat.le_of_ble_eq_true rfl, Nat.le_of_ble_eq_true rfl⟩) ?_
    refine lv_goto (tgt := 24) X.1 X.2.1 dX0_count_17 (by decide) ?_
    exact x_pi (by first | (rw [sp_count, if_neg (rv_nf c_9)]; done) | (rw [sp_count, if_neg (rv_nf c_9)]; rfl) | (rw [sp_count, if_pos c_9, hw]; done) | (rw [sp_count, if_pos c_9, hw]; rfl)) X hr hlk hS dX0_count_24 (RX.o hP hR ho (hO.at hS) (fun i hi => by first | rfl | simp (disch := omega) only [mdS_row, mdI_out, upRn] | (simp (disch := omega) only [mdS_row, mdI_out, upRn, *])) rfl rfl rfl)
theorem x_X0_part (l : Launch) (dC : Nat → ClassId) (dI : Nat → Nat → Nat) (dA : Nat → ClassId) (n c : Nat) (σ : mdT) (ab be : Int64) (w : Int32) : Met l yX0_part (ws_ yX0_part cX0_part 2 (some .long)) { frames := 3, cells := 0, slots := 0, locals := 180 } (xPc dC dI dA (RX dC dI dA c n σ ab be) [.ref n, .int w]) (xQl (S := Unit) (fun r_ _ => r_ = (sp_part σ ab be w).1) (fun _ => (RX dC dI dA c n (sp_part σ ab be w).2 ab be)) (bkA n 96)) 0 0 (bkA n 96) := by
  refine x_in (by decide) rfl (Nat.le_of_ble_eq_true rfl) (lv := [(0, .ref n), (1, .int w)]) rfl ?_
  intro p e s m below meth c_ X hN hnm hr hlk hP ls hl
  obtain ⟨T, ξ, V, V2, im, many, rent, rd, un, hs, ev, ty, hP, hR, ho, hO⟩ := hP
  have ho0 := ho
  have hR0 := hR
  have hV := hO.1
  have hT := hO.tb
  have hm := hR.m6
  have hr6 := hR.r6
  have hd6 := hR.d6
  have hu8 := hR.u8
  have hs12 := hR.h12
  have hS : va_S (bkA n 96) s.heap s.heap [] := va_S.rf
  refine lv_iload_n X.1 X.2.1 dX0_part_0 rfl (lv_at hl 1 rfl) ?_
  refine lv_if_ne (tgt := 11) X.1 X.2.1 dX0_part_1 (by decide) (fun (c_1 : ¬ w = 0) => ?_) (fun (c_1 : w = 0) => ?_)
  · refine lv_iload_n X.1 X.2.1 dX0_part_11 rfl (lv_at hl 1 rfl) ?_
    refine lv_iconst (v := nI 1) X.1 X.2.1 dX0_part_12 rfl ?_
    refine lv_icmp_ne (tgt := 23) X.1 X.2.1 dX0_part_13 (by decide) (fun (c_13 : ¬ w = 1) => ?_) (fun (c_13 : w = 1) => ?_)
    · refine lv_aload_n X.1 X.2.1 dX0_part_23 rfl (lv_at hl 0 rfl) ?_
      refine x_cWi (x_runV X hN hP (As := []) (rest := []) (x_X0_bad l dC dI dA n ξ V V2 im ab be) xkv_X0_110 (x_recv (ci := 0) X.2.2.2.2.2 hP (j := 0) (by decide) (xe_x0 ..) rfl) rfl rfl ⟨Nat.le_of_ble_eq_true rfl, Nat.le_of_ble_eq_true rfl⟩ hl.1 (Nat.le_of_ble_eq_true rfl) dX0_part_24 ⟨Nat.le_of_ble_eq_true rfl, Nat.le_of_ble_eq_true rfl⟩) hS (fun _ h => h) (fun _ h => h) (fun r24 _ H locs hr1 hP1 hz1 hk1 hS => ?_)
      subst hr1
      have hP := hP1
      have hR := hR.cg (S' := fun i_ => (mdS ξ 89 0 (ξ 89 0 + nI 1)) (1 + i_)) (fun i hi => by first | rfl | simp (disch := omega) only [mdS_row, mdI_out, upRn] | (simp (disch := omega) only [mdS_row, mdI_out, upRn, *])) (fun _ _ => rfl)
      have ho := oR.b (k := 0) ho (by decide)
      refine lv_i2l X.1 X.2.1 dX0_part_27 rfl ?_
      exact x_pl (by unfold sp_part; first | (rw [if_pos c_1]) | (rw [if_neg c_1, if_pos c_13]) | (rw [if_neg c_1, if_neg c_13]; rfl)) X hr hlk hS dX0_part_28 (RX.o hP hR ho (hO.at hS) (fun i hi => by first | rfl | simp (disch := omega) only [mdS_row, mdI_out, upRn] | (simp (disch := omega) only [mdS_row, mdI_out, upRn, *])) rfl rfl rfl)
    · refine lv_aload_n X.1 X.2.1 dX0_part_16 rfl (lv_at hl 0 rfl) ?_
      refine xb_get (C := RX0) (T := TX0) (v := .long be) X in_X0 (ci := 0) rfl hP (j := 0) (by decide) (xe_x0 ..) 7 (by decide) q258 rfl rfl dX0_part_17 ?_
      refine lv_goto (tgt := 28) X.1 X.2.1 dX0_part_20 (by decide) ?_
      exact x_pl (by unfold sp_part; first | (rw [if_pos c_1]) | (rw [if_neg c_1, if_pos c_13]) | (rw [if_neg c_1, if_neg c_13]; rfl)) X hr hlk hS dX0_part_28 (RX.o hP hR ho (hO.at hS) (fun i hi => by first | rfl | simp (disch := omega) only [mdS_row, mdI_out, upRn] | (simp (disch := omega) only [mdS_row, mdI_out, upRn, *])) rfl rfl rfl)
  · refine lv_aload_n X.1 X.2.1 dX0_part_4 rfl (lv_at hl 0 rfl) ?_
    refine xb_get (C := RX0) (T := TX0) (v := .long ab) X in_X0 (ci := 0) rfl hP (j := 0) (by decide) (xe_x0 ..) 6 (by decide) q257 rfl rfl dX0_part_5 ?_
    refine lv_goto (tgt := 28) X.1 X.2.1 dX0_part_8 (by decide) ?_
    exact x_pl (by unfold sp_part; first | (rw [if_pos c_1]) | (rw [if_neg c_1, if_pos c_13]) | (rw [if_neg c_1, if_neg c_13]; rfl)) X hr hlk hS dX0_part_28 (RX.o hP hR ho (hO.at hS) (fun i hi => by first | rfl | simp (disch := omega) only [mdS_row, mdI_out, upRn] | (simp (disch := omega) only [mdS_row, mdI_out, upRn, *])) rfl rfl rfl)
theorem x_X0_forget (l : Launch) (dC : Nat → ClassId) (dI : Nat → Nat → Nat) (dA : Nat → ClassId) (n c : Nat) (σ : mdT) (ab be : Int64) : Met l yX0_forget (ws_ yX0_forget cX0_forget 2 (some .int)) { frames := 1, cells := 0, slots := 0, locals := 60 } (xPc dC dI dA (RX dC dI dA c n σ ab be) [.ref n]) (xQi (S := Unit) (fun r_ _ => r_ = (sp_forget σ).1) (fun _ => (RX dC dI dA c n (sp_forget σ).2 ab be)) (bkA n 96)) 0 0 (bkA n 96) := by
  refine x_in (by decide) rfl (Nat.le_of_ble_eq_true rfl) (lv := [(0, .ref n)]) rfl ?_
  intro p e s m below meth c_ X hN hnm hr hlk hP ls hl
  obtain ⟨T, ξ, V, V2, im, many, rent, rd, un, hs, ev, ty, hP, hR, ho, hO⟩ := hP
  have ho0 := ho
  have hR0 := hR
  have hV := hO.1
  have hT := hO.tb
  have hm := hR.m6
  have hr6 := hR.r6
  have hd6 := hR.d6
  have hu8 := hR.u8
  have hs12 := hR.h12
  have hS : va_S (bkA n 96) s.heap s.heap [] := va_S.rf
  refine lv_aload_n X.1 X.2.1 dX0_forget_0 rfl (lv_at hl 0 rfl) ?_
  refine xb_get (C := RX0) (T := TX0) (v := .ref (n + 1)) X in_X0 (ci := 0) rfl hP (j := 0) (by decide) (xe_x0 ..) 0 (by decide) q248 rfl rfl dX0_forget_1 ?_
  refine xb_getN (host := "RentedViews") (C := RX1) (T := TX1) (v := .int (ξ 1 2)) X in_X1 (ci := 1) rfl hP (j := 1) (by decide) (xe_x1 ..) 7 (by decide) (x_nest hN q158 rfl) rfl rfl dX0_forget_4 ?_
  refine rn_co (y := nI rd) hR.nd ?_
  refine lv_istore_n (lv' := [(1, .int (nI rd)), (0, .ref n)]) X.1 X.2.1 dX0_forget_7 rfl hl (by decide) rfl (fun ls hl => ?_)
  refine lv_aload_n X.1 X.2.1 dX0_forget_8 rfl (lv_at hl 1 rfl) ?_
  refine xb_get (C := RX0) (T := TX0) (v := .ref (n + 1)) X in_X0 (ci := 0) rfl hP (j := 0) (by decide) (xe_x0 ..) 0 (by decide) q248 rfl rfl dX0_forget_9 ?_
  refine lv_iconst (v := nI 0) X.1 X.2.1 dX0_forget_12 rfl ?_
  refine xb_putN (host := "RentedViews") (C := RX1) (T := TX1) (E' := xE dA n (mdS ξ 1 2 (nI 0)) V V2 im ab be) X in_X1 tyX1 tyX1_ok nmX1 (ci := 1) rfl hP (fun _ h => h) hS (j := 1) (by decide) (xe_x1 ..) 7 (by decide) (x_nest hN q158 rfl) rfl rfl rfl rfl rfl (Nat.le_of_ble_eq_true rfl) (fun i_ _ => xE_S dA n ξ V V2 im ab be 1 2 (nI 0) i_) dX0_forget_13 (fun H locs hP hS => ?_)
  refine lv_iload_n X.1 X.2.1 dX0_forget_16 rfl (lv_at hl 0 rfl) ?_
  exact x_pi (by rw [sp_forget, hR.f5]) X hr hlk hS dX0_forget_17 (RX.mk (many := many) (σ' := mdS σ 0 5 0) hP (sh_forget hR) ho (hO.at hS) (fun i hi => by first | rfl | simp (disch := omega) only [mdS_row, mdI_out, upRn] | (simp (disch := omega) only [mdS_row, mdI_out, upRn, *])) (Nat.le_refl _) (fun v hv j hj => mdS_ne (by omega)) rfl rfl)
theorem x_X0_airOf (l : Launch) (dC : Nat → ClassId) (dI : Nat → Nat → Nat) (dA : Nat → ClassId) (n : Nat) (ξ : mdT) (V : Nat → Option Nat) (V2 : Nat → Option Nat) (im : Nat → Option Nat) (ab : Int64) (be : Int64) (a1 : Int32) (b1 : Int32) (c : Nat) (many : Nat) (rent : Nat) (rd : Nat) (un : Nat) (hs : Nat) (ev : Nat) (f : Nat → Int32) (hR : shR c many rent rd un hs ev f (fun i_ => ξ (1 + i_))) (T : Nat → Prop) (ha : a1 = -1 ∨ ∃ j : Nat, j < many ∧ a1 = nI j) (hb : b1 = -1 ∨ ∃ j : Nat, j < many ∧ b1 = nI j) : Met l yX0_airOf (ws_ yX0_airOf cX0_airOf 4 (some .int)) { frames := 4, cells := 0, slots := 0, locals := 240 } (xPc dC dI dA (fun H => (bkP dC dI n 96 (xE dA n ξ V V2 im ab be) H) ∧ (shV dC dI T many f V H)) [.ref n, .int a1, .int b1]) (vp_Si (fun r_ => r_ = (if a1 = -1 then -1 else if b1 = -1 then -1 else rv_rem6 (rv_weather (f (7 + 6 * rv_cl a1)) (f (7 + 6 * rv_cl a1 + 3)) (f 2) + rv_weather (f (7 + 6 * rv_cl b1)) (f (7 + 6 * rv_cl b1 + 3)) (f 2))))) 0 0 (fun _ => False) := by
  refine x_in (by decide) rfl (Nat.le_of_ble_eq_true rfl) (lv := [(0, .ref n), (1, .int a1), (2, .int b1)]) rfl ?_
  intro p e s m below meth c_ X hN hnm hr hlk hP ls hl
  obtain ⟨hP, hV⟩ := hP
  have hm := hR.m6
  have hr6 := hR.r6
  have hd6 := hR.d6
  have hu8 := hR.u8
  have hs12 := hR.h12
  refine lv_aload_n X.1 X.2.1 dX0_airOf_0 rfl (lv_at hl 0 rfl) ?_
  refine xb_get (C := RX0) (T := TX0) (v := .ref (n + 1)) X in_X0 (ci := 0) rfl hP (j := 0) (by decide) (xe_x0 ..) 0 (by decide) q248 rfl rfl dX0_airOf_1 ?_
  refine xb_getN (host := "RentedViews") (C := RX1) (T := TX1) (v := .ref (n + 7)) X in_X1 (ci := 1) rfl hP (j := 1) (by decide) (xe_x1 ..) 8 (by decide) (x_nest hN q160 rfl) rfl rfl dX0_airOf_4 ?_
  refine xb_getN (host := "RentedViews") (C := RX2) (T := TX2) (v := .int (ξ 7 1)) X in_X2 (ci := 2) rfl hP (j := 7) (by decide) (xe_x7 ..) 3 (by decide) (x_nest hN q116 rfl) rfl rfl dX0_airOf_7 ?_
  refine rn_co (y := f 2) (hR.eve.trans hR.f2.symm) ?_
  refine lv_istore_n (lv' := [(3, .int (f 2)), (0, .ref n), (1, .int a1), (2, .int b1)]) X.1 X.2.1 dX0_airOf_10 rfl hl (by decide) rfl (fun ls hl => ?_)
  refine lv_iload_n X.1 X.2.1 dX0_airOf_11 rfl (lv_at hl 2 rfl) ?_
  refine lv_iconst (v := (-1)) X.1 X.2.1 dX0_airOf_12 rfl ?_
  refine lv_icmp_eq (tgt := 21) X.1 X.2.1 dX0_airOf_13 (by decide) (fun (c_13 : a1 = (-1)) => ?_) (fun (c_13 : ¬ a1 = (-1)) => ?_)
  · refine lv_iconst (v := (-1)) X.1 X.2.1 dX0_airOf_21 rfl ?_
    refine lv_goto (tgt := 55) X.1 X.2.1 dX0_airOf_22 (by decide) ?_
    exact rv_ri X.1 X.2.1 hr hlk dX0_airOf_55 (by first | rw [if_pos c_13] | rw [if_neg c_13, if_pos c_18] | (rw [if_neg c_13, if_neg c_18, ha1, hb1, rv_cln (by omega), rv_cln (by omega)]; rfl))
  · refine lv_iload_n X.1 X.2.1 dX0_airOf_16 rfl (lv_at hl 3 rfl) ?_
    refine lv_iconst (v := (-1)) X.1 X.2.1 dX0_airOf_17 rfl ?_
    refine lv_icmp_ne (tgt := 25) X.1 X.2.1 dX0_airOf_18 (by decide) (fun (c_18 : ¬ b1 = (-1)) => ?_) (fun (c_18 : b1 = (-1)) => ?_)
    · obtain ⟨ja, hja, ha1⟩ := ha.resolve_left c_13
      obtain ⟨jb, hjb, hb1⟩ := hb.resolve_left c_18
      refine lv_aload_n X.1 X.2.1 dX0_airOf_25 rfl (lv_at hl 1 rfl) ?_
      refine xb_get (C := RX0) (T := TX0) (v := .ref (n + 1)) X in_X0 (ci := 0) rfl hP (j := 0) (by decide) (xe_x0 ..) 0 (by decide) q248 rfl rfl dX0_airOf_26 ?_
      refine xb_getN (host := "RentedViews") (C := RX1) (T := TX1) (v := .ref (n + 2)) X in_X1 (ci := 1) rfl hP (j := 1) (by decide) (xe_x1 ..) 0 (by decide) (x_nest hN q139 rfl) rfl rfl dX0_airOf_29 ?_
      refine lv_iload_n X.1 X.2.1 dX0_airOf_32 rfl (lv_at hl 2 rfl) ?_
      refine rn_co (y := nI ja) ha1 ?_
      obtain ⟨a33, kd33, hVa33, hTa33, hk33, hf33, hv33⟩ := hV.2 ja (by omega)
      refine xb_aald X hP (j := 2) (by decide) (t := 3) (C := RX6) (f := V) rfl rfl (by omega) (by decide) dX0_airOf_33 ?_
      refine x_vq hVa33 ?_
      refine lv_iload_n X.1 X.2.1 dX0_airOf_34 rfl (lv_at hl 0 rfl) ?_
      refine vd_X0_shows (f 2) X hN hk33 hv33 (rest := []) ⟨Nat.le_of_ble_eq_true rfl, Nat.le_of_ble_eq_true rfl⟩ hl.1 (Nat.le_of_ble_eq_true rfl) dX0_airOf_35 ⟨Nat.le_of_ble_eq_true rfl, Nat.le_of_ble_eq_true rfl⟩ ?_
      refine rn_co (y := rv_weather (f (7 + 6 * ja)) (f (7 + 6 * ja + 3)) (f 2)) (by rw [hf33]) ?_
      refine lv_aload_n X.1 X.2.1 dX0_airOf_38 rfl (lv_at hl 1 rfl) ?_
      refine xb_get (C := RX0) (T := TX0) (v := .ref (n + 1)) X in_X0 (ci := 0) rfl hP (j := 0) (by decide) (xe_x0 ..) 0 (by decide) q248 rfl rfl dX0_airOf_39 ?_
      refine xb_getN (host := "RentedViews") (C := RX1) (T := TX1) (v := .ref (n + 2)) X in_X1 (ci := 1) rfl hP (j := 1) (by decide) (xe_x1 ..) 0 (by decide) (x_nest hN q139 rfl) rfl rfl dX0_airOf_42 ?_
      refine lv_iload_n X.1 X.2.1 dX0_airOf_45 rfl (lv_at hl 3 rfl) ?_
      refine rn_co (y := nI jb) hb1 ?_
      obtain ⟨a46, kd46, hVa46, hTa46, hk46, hf46, hv46⟩ := hV.2 jb (by omega)
      refine xb_aald X hP (j := 2) (by decide) (t := 3) (C := RX6) (f := V) rfl rfl (by omega) (by decide) dX0_airOf_46 ?_
      refine x_vq hVa46 ?_
      refine lv_iload_n X.1 X.2.1 dX0_airOf_47 rfl (lv_at hl 0 rfl) ?_
      refine vd_X0_shows (f 2) X hN hk46 hv46 (rest := [.int (rv_weather (f (7 + 6 * ja)) (f (7 + 6 * ja + 3)) (f 2))]) ⟨Nat.le_of_ble_eq_true rfl, Nat.le_of_ble_eq_true rfl⟩ hl.1 (Nat.le_of_ble_eq_true rfl) dX0_airOf_48 ⟨Nat.le_of_ble_eq_true rfl, Nat.le_of_ble_eq_true rfl⟩ ?_
      refine rn_co (y := rv_weather (f (7 + 6 * jb)) (f (7 + 6 * jb + 3)) (f 2)) (by rw [hf46]) ?_
      refine lv_iadd X.1 X.2.1 dX0_airOf_51 ?_
      refine lv_bipush (v := nI 6) X.1 X.2.1 dX0_airOf_52 rfl ?_
      refine lv_irem X.1 X.2.1 dX0_airOf_54 (by decide) ?_
      exact rv_ri X.1 X.2.1 hr hlk dX0_airOf_55 (by first | rw [if_pos c_13] | rw [if_neg c_13, if_pos c_18] | (rw [if_neg c_13, if_neg c_18, ha1, hb1, rv_cln (by omega), rv_cln (by omega)]; rfl))
    · refine lv_iconst (v := (-1)) X.1 X.2.1 dX0_airOf_21 rfl ?_
      refine lv_goto (tgt := 55) X.1 X.2.1 dX0_airOf_22 (by decide) ?_
      exact rv_ri X.1 X.2.1 hr hlk dX0_airOf_55 (by first | rw [if_pos c_13] | rw [if_neg c_13, if_pos c_18] | (rw [if_neg c_13, if_neg c_18, ha1, hb1, rv_cln (by omega), rv_cln (by omega)]; rfl))
theorem x_X0_air (l : Launch) (dC : Nat → ClassId) (dI : Nat → Nat → Nat) (dA : Nat → ClassId) (n c : Nat) (σ : mdT) (ab be : Int64) (r : Int32) : Met l yX0_air (ws_ yX0_air cX0_air 2 (some .int)) { frames := 5, cells := 0, slots := 0, locals := 300 } (xPc dC dI dA (RX dC dI dA c n σ ab be) [.ref n, .int r]) (xQi (S := Unit) (fun r_ _ => r_ = (sp_air σ r).1) (fun _ => (RX dC dI dA c n (sp_air σ r).2 ab be)) (bkA n 96)) 0 0 (bkA n 96) := by
  refine x_in (by decide) rfl (Nat.le_of_ble_eq_true rfl) (lv := [(0, .ref n), (1, .int r)]) rfl ?_
  intro p e s m below meth c_ X hN hnm hr hlk hP ls hl
  obtain ⟨T, ξ, V, V2, im, many, rent, rd, un, hs, ev, ty, hP, hR, ho, hO⟩ := hP
  have ho0 := ho
  have hR0 := hR
  have hV := hO.1
  have hT := hO.tb
  have hm := hR.m6
  have hr6 := hR.r6
  have hd6 := hR.d6
  have hu8 := hR.u8
  have hs12 := hR.h12
  have hS : va_S (bkA n 96) s.heap s.heap [] := va_S.rf
  refine lv_aload_n X.1 X.2.1 dX0_air_0 rfl (lv_at hl 0 rfl) ?_
  refine lv_iload_n X.1 X.2.1 dX0_air_1 rfl (lv_at hl 1 rfl) ?_
  refine x_cSe (x_runV X hN hP (As := [.int r]) (rest := []) (x_X0_isRenter l dC dI dA n ξ V V2 im ab be r c many rent rd un hs ev (σ 0) hR) xkv_X0_157 (x_recv (ci := 0) X.2.2.2.2.2 hP (j := 0) (by decide) (xe_x0 ..) rfl) rfl rfl ⟨Nat.le_of_ble_eq_true rfl, Nat.le_of_ble_eq_true rfl⟩ hl.1 (Nat.le_of_ble_eq_true rfl) dX0_air_2 ⟨Nat.le_of_ble_eq_true rfl, Nat.le_of_ble_eq_true rfl⟩) ?_
  refine rn_zt (tgt := 18) X.1 X.2.1 dX0_air_5 (by decide) (fun c_5 => ?_) (fun c_5 => ?_)
  · refine lv_aload_n X.1 X.2.1 dX0_air_18 rfl (lv_at hl 0 rfl) ?_
    refine x_cWi (x_runV X hN hP (As := []) (rest := []) (x_X0_bad l dC dI dA n ξ V V2 im ab be) xkv_X0_110 (x_recv (ci := 0) X.2.2.2.2.2 hP (j := 0) (by decide) (xe_x0 ..) rfl) rfl rfl ⟨Nat.le_of_ble_eq_true rfl, Nat.le_of_ble_eq_true rfl⟩ hl.1 (Nat.le_of_ble_eq_true rfl) dX0_air_19 ⟨Nat.le_of_ble_eq_true rfl, Nat.le_of_ble_eq_true rfl⟩) hS (fun _ h => h) (fun _ h => h) (fun r19 _ H locs hr1 hP1 hz1 hk1 hS => ?_)
    subst hr1
    have hP := hP1
    have hR := hR.cg (S' := fun i_ => (mdS ξ 89 0 (ξ 89 0 + nI 1)) (1 + i_)) (fun i hi => by first | rfl | simp (disch := omega) only [mdS_row, mdI_out, upRn] | (simp (disch := omega) only [mdS_row, mdI_out, upRn, *])) (fun _ _ => rfl)
    have ho := oR.b (k := 0) ho (by decide)
    exact x_pi (by have e : (rv_isR σ r && rv_isR σ (r ^^^ 1)) = false := (by first | exact (Bool.and_eq_false_iff.mpr (Or.inl c_5)) | exact (Bool.and_eq_false_iff.mpr (Or.inr c_15))); rw [sp_air, if_neg (rv_nf e)]; rfl) X hr hlk hS dX0_air_22 (RX.o hP hR ho (hO.at hS) (fun i hi => by first | rfl | simp (disch := omega) only [mdS_row, mdI_out, upRn] | (simp (disch := omega) only [mdS_row, mdI_out, upRn, *])) rfl rfl rfl)
  · refine lv_aload_n X.1 X.2.1 dX0_air_8 rfl (lv_at hl 0 rfl) ?_
    refine lv_iload_n X.1 X.2.1 dX0_air_9 rfl (lv_at hl 1 rfl) ?_
    refine lv_iconst (v := nI 1) X.1 X.2.1 dX0_air_10 rfl ?_
    refine lv_ixor X.1 X.2.1 dX0_air_11 ?_
    refine x_cSe (x_runV X hN hP (As := [.int (r ^^^ 1)]) (rest := []) (x_X0_isRenter l dC dI dA n ξ V V2 im ab be (r ^^^ 1) c many rent rd un hs ev (σ 0) hR) xkv_X0_157 (x_recv (ci := 0) X.2.2.2.2.2 hP (j := 0) (by decide) (xe_x0 ..) rfl) rfl rfl ⟨Nat.le_of_ble_eq_true rfl, Nat.le_of_ble_eq_true rfl⟩ hl.1 (Nat.le_of_ble_eq_true rfl) dX0_air_12 ⟨Nat.le_of_ble_eq_true rfl, Nat.le_of_ble_eq_true rfl⟩) ?_
    refine rn_zf (tgt := 23) X.1 X.2.1 dX0_air_15 (by decide) (fun c_15 => ?_) (fun c_15 => ?_)
    · refine lv_aload_n X.1 X.2.1 dX0_air_23 rfl (lv_at hl 0 rfl) ?_
      refine lv_aload_n X.1 X.2.1 dX0_air_24 rfl (lv_at hl 0 rfl) ?_
      refine xb_get (C := RX0) (T := TX0) (v := .ref (n + 1)) X in_X0 (ci := 0) rfl hP (j := 0) (by decide) (xe_x0 ..) 0 (by decide) q248 rfl rfl dX0_air_25 ?_
      refine lv_iload_n X.1 X.2.1 dX0_air_28 rfl (lv_at hl 1 rfl) ?_
      refine x_cSe (x_runV X hN (x_shop hP) (As := [.int r]) (rest := [.ref n]) (x_X1_viewOf l dC dI dA (n + 1) (fun i_ => ξ (1 + i_)) V r c many rent rd un hs ev (σ 0) hR) xkv_X0_173 (x_recv (ci := 1) X.2.2.2.2.2 hP (j := 1) (by decide) (xe_x1 ..) rfl) rfl rfl ⟨Nat.le_of_ble_eq_true rfl, Nat.le_of_ble_eq_true rfl⟩ hl.1 (Nat.le_of_ble_eq_true rfl) dX0_air_29 ⟨Nat.le_of_ble_eq_true rfl, Nat.le_of_ble_eq_true rfl⟩) ?_
      refine lv_aload_n X.1 X.2.1 dX0_air_32 rfl (lv_at hl 0 rfl) ?_
      refine xb_get (C := RX0) (T := TX0) (v := .ref (n + 1)) X in_X0 (ci := 0) rfl hP (j := 0) (by decide) (xe_x0 ..) 0 (by decide) q248 rfl rfl dX0_air_33 ?_
      refine lv_iload_n X.1 X.2.1 dX0_air_36 rfl (lv_at hl 1 rfl) ?_
      refine lv_iconst (v := nI 1) X.1 X.2.1 dX0_air_37 rfl ?_
      refine lv_ixor X.1 X.2.1 dX0_air_38 ?_
      refine x_cSe (x_runV X hN (x_shop hP) (As := [.int (r ^^^ 1)]) (rest := [.int (rv_vo (fun v => (σ 0) (7 + 6 * v + 4)) r many), .ref n]) (x_X1_viewOf l dC dI dA (n + 1) (fun i_ => ξ (1 + i_)) V (r ^^^ 1) c many rent rd un hs ev (σ 0) hR) xkv_X0_173 (x_recv (ci := 1) X.2.2.2.2.2 hP (j := 1) (by decide) (xe_x1 ..) rfl) rfl rfl ⟨Nat.le_of_ble_eq_true rfl, Nat.le_of_ble_eq_true rfl⟩ hl.1 (Nat.le_of_ble_eq_true rfl) dX0_air_39 ⟨Nat.le_of_ble_eq_true rfl, Nat.le_of_ble_eq_true rfl⟩) ?_
      refine x_cSe (x_runV X hN ⟨hP, (hV.at hS hT)⟩ (As := [.int (rv_vo (fun v => (σ 0) (7 + 6 * v + 4)) r many), .int (rv_vo (fun v => (σ 0) (7 + 6 * v + 4)) (r ^^^ 1) many)]) (rest := []) (x_X0_airOf l dC dI dA n ξ V V2 im ab be (rv_vo (fun v => (σ 0) (7 + 6 * v + 4)) r many) (rv_vo (fun v => (σ 0) (7 + 6 * v + 4)) (r ^^^ 1) many) c many rent rd un hs ev (σ 0) hR T (rv_voj _ _ _) (rv_voj _ _ _)) xkv_X0_279 (x_recv (ci := 0) X.2.2.2.2.2 hP (j := 0) (by decide) (xe_x0 ..) rfl) rfl rfl ⟨Nat.le_of_ble_eq_true rfl, Nat.le_of_ble_eq_true rfl⟩ hl.1 (Nat.le_of_ble_eq_true rfl) dX0_air_42 ⟨Nat.le_of_ble_eq_true rfl, Nat.le_of_ble_eq_true rfl⟩) ?_
      exact x_pi (by rw [sp_air, if_pos (Bool.and_eq_true_iff.mpr ⟨c_5, c_15⟩)]; simp only [rv_voN, rv_showN, hR0.f0, rv_cln (show many < 2 ^ 31 by omega)]) X hr hlk hS dX0_air_45 (RX.o hP hR ho (hO.at hS) (fun i hi => by first | rfl | simp (disch := omega) only [mdS_row, mdI_out, upRn] | (simp (disch := omega) only [mdS_row, mdI_out, upRn, *])) rfl rfl rfl)
    · refine lv_aload_n X.1 X.2.1 dX0_air_18 rfl (lv_at hl 0 rfl) ?_
      refine x_cWi (x_runV X hN hP (As := []) (rest := []) (x_X0_bad l dC dI dA n ξ V V2 im ab be) xkv_X0_110 (x_recv (ci := 0) X.2.2.2.2.2 hP (j := 0) (by decide) (xe_x0 ..) rfl) rfl rfl ⟨Nat.le_of_ble_eq_true rfl, Nat.le_of_ble_eq_true rfl⟩ hl.1 (Nat.le_of_ble_eq_true rfl) dX0_air_19 ⟨Nat.le_of_ble_eq_true rfl, Nat.le_of_ble_eq_true rfl⟩) hS (fun _ h => h) (fun _ h => h) (fun r19 _ H locs hr1 hP1 hz1 hk1 hS => ?_)
      subst hr1
      have hP := hP1
      have hR := hR.cg (S' := fun i_ => (mdS ξ 89 0 (ξ 89 0 + nI 1)) (1 + i_)) (fun i hi => by first | rfl | simp (disch := omega) only [mdS_row, mdI_out, upRn] | (simp (disch := omega) only [mdS_row, mdI_out, upRn, *])) (fun _ _ => rfl)
      have ho := oR.b (k := 0) ho (by decide)
      exact x_pi (by have e : (rv_isR σ r && rv_isR σ (r ^^^ 1)) = false := (by first | exact (Bool.and_eq_false_iff.mpr (Or.inl c_5)) | exact (Bool.and_eq_false_iff.mpr (Or.inr c_15))); rw [sp_air, if_neg (rv_nf e)]; rfl) X hr hlk hS dX0_air_22 (RX.o hP hR ho (hO.at hS) (fun i hi => by first | rfl | simp (disch := omega) only [mdS_row, mdI_out, upRn] | (simp (disch := omega) only [mdS_row, mdI_out, upRn, *])) rfl rfl rfl)
theorem rv_m1 {i : Nat} {k : Int32} (hk : k = nI i - 1) (h : ¬ k < 0) (hi : i ≤ 100) : ∃ q : Nat, i = q + 1 ∧ k = nI q := by
  rcases Nat.eq_zero_or_pos i with h0 | h0
  · subst h0; subst hk; exact absurd (by decide : (nI 0 - 1 : Int32) < 0) h
  · refine ⟨i - 1, by omega, ?_⟩
    rw [hk]; exact pk_sub (a := i) (b := 1) h0
theorem rv_lws (f : Nat → Int32) (v : Int32) (n : Nat) : rv_lw f v (n + 1) = if f (61 + 3 * n) = v then rv_lw f v n ||| ((1 : Int32) <<< (f (61 + 3 * n + 1) &&& 31)) else rv_lw f v n := rfl
theorem rv_lfs (f : Nat → Int32) (v : Int32) (n : Nat) : rv_lf f v (n + 1) = if f (61 + 3 * n) = v then (if rv_lf f v n = -1 then f (61 + 3 * n + 2) else rv_lf f v n) else rv_lf f v n := rfl
theorem rv_m0 {i : Nat} {k : Int32} (hk : k = nI i - 1) (h : k < 0) (hi : i ≤ 100) : i = 0 := by
  rcases Nat.eq_zero_or_pos i with h0 | h0
  · exact h0
  · rw [hk, show nI i - 1 = nI (i - 1) from pk_sub (a := i) (b := 1) h0] at h
    exact absurd h (nI_pos (by omega))
theorem x_X0_left (l : Launch) (dC : Nat → ClassId) (dI : Nat → Nat → Nat) (dA : Nat → ClassId) (n c : Nat) (σ : mdT) (ab be : Int64) (v : Int32) (t : Int32) (w : Int32) : Met l yX0_left (ws_ yX0_left cX0_left 8 (some .int)) { frames := 3, cells := 0, slots := 0, locals := 180 } (xPc dC dI dA (RX dC dI dA c n σ ab be) [.ref n, .int v, .int t, .int w]) (xQi (S := Unit) (fun r_ _ => r_ = (sp_left σ v t w).1) (fun _ => (RX dC dI dA c n (sp_left σ v t w).2 ab be)) (bkA n 96)) 0 0 (bkA n 96) := by
  refine x_in (by decide) rfl (Nat.le_of_ble_eq_true rfl) (lv := [(0, .ref n), (1, .int v), (2, .int t), (3, .int w)]) rfl ?_
  intro p e s m below meth c_ X hN hnm hr hlk hP ls hl
  obtain ⟨T, ξ, V, V2, im, many, rent, rd, un, hs, ev, ty, hP, hR, ho, hO⟩ := hP
  have ho0 := ho
  have hR0 := hR
  have hV := hO.1
  have hT := hO.tb
  have hm := hR.m6
  have hr6 := hR.r6
  have hd6 := hR.d6
  have hu8 := hR.u8
  have hs12 := hR.h12
  have hS : va_S (bkA n 96) s.heap s.heap [] := va_S.rf
  have K75 : ∀ (k75_ : Nat) (x : Int32) (z : Int32) (k : Int32) (i : Nat) (c_5 : rv_in v 0 (σ 0 0 - nI 1).toInt = true) (j : Nat) (hj : j < many) (hv : v = nI j) (c_17 : rv_inI t 0 7 = true) (c_33 : ¬ ((σ 0 (7 + 6 * j + 5) >>> (t &&& 31)) &&& 1) = 0) (c_43 : rv_inI w 0 1 = true), i = k75_ → (i ≤ hs) → (k = nI i - 1) → (rv_lw (σ 0) v hs = x ||| rv_lw (σ 0) v i) → (rv_lf (σ 0) v hs = if rv_lf (σ 0) v i = -1 then z else rv_lf (σ 0) v i) → ∀ ls, lv_has ls 8 [(0, .ref n), (1, .int v), (2, .int t), (3, .int w), (4, .int x), (5, .int z), (6, .ref (n + 7)), (7, .int k)] → W p l e { frames := 3, cells := 0, slots := 0, locals := 180 } s m [.ref n, .int v, .int t, .int w].toArray below meth c_ s.heap [] 0 0 (MQ below (xQi (S := Unit) (fun r_ _ => r_ = (sp_left σ v t w).1) (fun _ => (RX dC dI dA c n (sp_left σ v t w).2 ab be)) (bkA n 96)) [.ref n, .int v, .int t, .int w].toArray s 0 0 (bkA n 96)) (F0 m 75 ls []) := by
    intro k75_
    induction k75_ using Nat.strongRecOn with
    | _ k75_ ih75 =>
      intro x z k i c_5 j hj hv c_17 c_33 c_43 hm75_ hi hk7 hst hfi ls hl
      refine lv_iload X.1 X.2.1 dX0_left_75 (lv_at hl 7 rfl) ?_
      refine lv_if_lt (tgt := 133) X.1 X.2.1 dX0_left_77 (by decide) (fun (c_77 : k < 0) => ?_) (fun (c_77 : ¬ k < 0) => ?_)
      · have hi0 := rv_m0 hk7 c_77 (by omega)
        subst hi0
        refine lv_iload_n X.1 X.2.1 dX0_left_133 rfl (lv_at hl 3 rfl) ?_
        refine lv_if_ne (tgt := 142) X.1 X.2.1 dX0_left_134 (by decide) (fun (c_134 : ¬ w = 0) => ?_) (fun (c_134 : w = 0) => ?_)
        · refine lv_iload X.1 X.2.1 dX0_left_142 (lv_at hl 5 rfl) ?_
          exact x_pi (by subst hv; rw [sp_left, if_pos c_5, if_pos c_17, rv_cln (by omega), if_neg c_33, if_pos c_43, hR.f4, rv_cln (by omega), hst, hfi]; show ((if w = 0 then x ||| 0 else if (-1 : Int32) = -1 then z else _), σ) = _; first | rw [if_pos c_134, Int32.or_zero] | rw [if_neg c_134, if_pos rfl]) X hr hlk hS dX0_left_144 (RX.o hP hR ho (hO.at hS) (fun i hi => by first | rfl | simp (disch := omega) only [mdS_row, mdI_out, upRn] | (simp (disch := omega) only [mdS_row, mdI_out, upRn, *])) rfl rfl rfl)
        · refine lv_iload X.1 X.2.1 dX0_left_137 (lv_at hl 4 rfl) ?_
          refine lv_goto (tgt := 144) X.1 X.2.1 dX0_left_139 (by decide) ?_
          exact x_pi (by subst hv; rw [sp_left, if_pos c_5, if_pos c_17, rv_cln (by omega), if_neg c_33, if_pos c_43, hR.f4, rv_cln (by omega), hst, hfi]; show ((if w = 0 then x ||| 0 else if (-1 : Int32) = -1 then z else _), σ) = _; first | rw [if_pos c_134, Int32.or_zero] | rw [if_neg c_134, if_pos rfl]) X hr hlk hS dX0_left_144 (RX.o hP hR ho (hO.at hS) (fun i hi => by first | rfl | simp (disch := omega) only [mdS_row, mdI_out, upRn] | (simp (disch := omega) only [mdS_row, mdI_out, upRn, *])) rfl rfl rfl)
      · obtain ⟨q, rfl, hkq⟩ := rv_m1 hk7 c_77 (by omega)
        refine lv_aload X.1 X.2.1 dX0_left_80 (lv_at hl 6 rfl) ?_
        refine xb_getN (host := "RentedViews") (C := RX2) (T := TX2) (v := .ref (n + 10)) X in_X2 (ci := 2) rfl hP (j := 7) (by decide) (xe_x7 ..) 4 (by decide) (x_nest hN q118 rfl) rfl rfl dX0_left_82 ?_
        refine lv_iconst (v := nI 3) X.1 X.2.1 dX0_left_85 rfl ?_
        refine lv_iload X.1 X.2.1 dX0_left_86 (lv_at hl 7 rfl) ?_
        refine rn_co (y := nI q) hkq ?_
        refine rn_imul X.1 X.2.1 dX0_left_88 ?_
        refine xb_iald X hP (j := 10) (by decide) (n := 36) (f := ξ 10) rfl (by omega) (by decide) dX0_left_89 ?_
        refine rn_co (y := (σ 0) (61 + (3 * q))) (hR.his (by omega)) ?_
        refine lv_iload_n X.1 X.2.1 dX0_left_90 rfl (lv_at hl 1 rfl) ?_
        refine lv_icmp_ne (tgt := 127) X.1 X.2.1 dX0_left_91 (by decide) (fun (c_91 : ¬ (σ 0) (61 + (3 * q)) = v) => ?_) (fun (c_91 : (σ 0) (61 + (3 * q)) = v) => ?_)
        · refine lv_iinc (v := k + (-1)) (lv' := [(7, .int (k + (-1))), (0, .ref n), (1, .int v), (2, .int t), (3, .int w), (4, .int x), (5, .int z), (6, .ref (n + 7))]) X.1 X.2.1 dX0_left_127 hl (k := 7) rfl rfl (by decide) rfl (fun ls hl => ?_)
          refine lv_goto (tgt := 75) X.1 X.2.1 dX0_left_130 (by decide) ?_
          exact ih75 _ (by omega) x z (k + (-1)) q c_5 j hj hv c_17 c_33 c_43 rfl (by omega) (by rw [hkq, Int32.sub_eq_add_neg]) (by rw [hst, rv_lws]; first | rw [if_neg c_91] | rw [if_pos c_91, Int32.or_comm (rv_lw _ _ _), ← Int32.or_assoc]) (by rw [hfi, rv_lfs]; first | rw [if_neg c_91] | (rw [if_pos c_91]; by_cases e : rv_lf (σ 0) v q = -1 <;> simp [e, hR.hn (show q < hs by omega)])) ls (lv_sub hl [1, 2, 3, 4, 5, 6, 7, 0] rfl)
        · refine lv_iload X.1 X.2.1 dX0_left_94 (lv_at hl 4 rfl) ?_
          refine lv_iconst (v := nI 1) X.1 X.2.1 dX0_left_96 rfl ?_
          refine lv_aload X.1 X.2.1 dX0_left_97 (lv_at hl 6 rfl) ?_
          refine xb_getN (host := "RentedViews") (C := RX2) (T := TX2) (v := .ref (n + 10)) X in_X2 (ci := 2) rfl hP (j := 7) (by decide) (xe_x7 ..) 4 (by decide) (x_nest hN q118 rfl) rfl rfl dX0_left_99 ?_
          refine lv_iconst (v := nI 3) X.1 X.2.1 dX0_left_102 rfl ?_
          refine lv_iload X.1 X.2.1 dX0_left_103 (lv_at hl 7 rfl) ?_
          refine rn_co (y := nI q) hkq ?_
          refine rn_imul X.1 X.2.1 dX0_left_105 ?_
          refine lv_iconst (v := nI 1) X.1 X.2.1 dX0_left_106 rfl ?_
          refine rn_iadd X.1 X.2.1 dX0_left_107 ?_
          refine xb_iald X hP (j := 10) (by decide) (n := 36) (f := ξ 10) rfl (by omega) (by decide) dX0_left_108 ?_
          refine rn_co (y := (σ 0) (61 + 3 * q + 1)) ((hR.his (by omega)).trans (congrArg (σ 0) (by omega))) ?_
          refine lv_ishl X.1 X.2.1 dX0_left_109 ?_
          refine lv_ior X.1 X.2.1 dX0_left_110 ?_
          refine lv_istore (lv' := [(4, .int (x ||| (1 <<< (((σ 0) (61 + 3 * q + 1)) &&& 31)))), (0, .ref n), (1, .int v), (2, .int t), (3, .int w), (5, .int z), (6, .ref (n + 7)), (7, .int k)]) X.1 X.2.1 dX0_left_111 hl (by decide) rfl (fun ls hl => ?_)
          refine lv_aload X.1 X.2.1 dX0_left_113 (lv_at hl 6 rfl) ?_
          refine xb_getN (host := "RentedViews") (C := RX2) (T := TX2) (v := .ref (n + 10)) X in_X2 (ci := 2) rfl hP (j := 7) (by decide) (xe_x7 ..) 4 (by decide) (x_nest hN q118 rfl) rfl rfl dX0_left_115 ?_
          refine lv_iconst (v := nI 3) X.1 X.2.1 dX0_left_118 rfl ?_
          refine lv_iload X.1 X.2.1 dX0_left_119 (lv_at hl 7 rfl) ?_
          refine rn_co (y := nI q) hkq ?_
          refine rn_imul X.1 X.2.1 dX0_left_121 ?_
          refine lv_iconst (v := nI 2) X.1 X.2.1 dX0_left_122 rfl ?_
          refine rn_iadd X.1 X.2.1 dX0_left_123 ?_
          refine xb_iald X hP (j := 10) (by decide) (n := 36) (f := ξ 10) rfl (by omega) (by decide) dX0_left_124 ?_
          refine rn_co (y := (σ 0) (61 + 3 * q + 2)) ((hR.his (by omega)).trans (congrArg (σ 0) (by omega))) ?_
          refine lv_istore (lv' := [(5, .int ((σ 0) (61 + 3 * q + 2))), (4, .int (x ||| (1 <<< (((σ 0) (61 + 3 * q + 1)) &&& 31)))), (0, .ref n), (1, .int v), (2, .int t), (3, .int w), (6, .ref (n + 7)), (7, .int k)]) X.1 X.2.1 dX0_left_125 hl (by decide) rfl (fun ls hl => ?_)
          refine lv_iinc (v := k + (-1)) (lv' := [(7, .int (k + (-1))), (5, .int ((σ 0) (61 + 3 * q + 2))), (4, .int (x ||| (1 <<< (((σ 0) (61 + 3 * q + 1)) &&& 31)))), (0, .ref n), (1, .int v), (2, .int t), (3, .int w), (6, .ref (n + 7))]) X.1 X.2.1 dX0_left_127 hl (k := 7) rfl rfl (by decide) rfl (fun ls hl => ?_)
          refine lv_goto (tgt := 75) X.1 X.2.1 dX0_left_130 (by decide) ?_
          exact ih75 _ (by omega) (x ||| (1 <<< (((σ 0) (61 + 3 * q + 1)) &&& 31))) ((σ 0) (61 + 3 * q + 2)) (k + (-1)) q c_5 j hj hv c_17 c_33 c_43 rfl (by omega) (by rw [hkq, Int32.sub_eq_add_neg]) (by rw [hst, rv_lws]; first | rw [if_neg c_91] | rw [if_pos c_91, Int32.or_comm (rv_lw _ _ _), ← Int32.or_assoc]) (by rw [hfi, rv_lfs]; first | rw [if_neg c_91] | (rw [if_pos c_91]; by_cases e : rv_lf (σ 0) v q = -1 <;> simp [e, hR.hn (show q < hs by omega)])) ls (lv_sub hl [3, 4, 5, 6, 2, 1, 7, 0] rfl)
  refine lv_aload_n X.1 X.2.1 dX0_left_0 rfl (lv_at hl 0 rfl) ?_
  refine lv_iload_n X.1 X.2.1 dX0_left_1 rfl (lv_at hl 1 rfl) ?_
  refine x_cSe (x_runV X hN hP (As := [.int v]) (rest := []) (x_X0_isView l dC dI dA n ξ V V2 im ab be v c many rent rd un hs ev (σ 0) hR) xkv_X0_132 (x_recv (ci := 0) X.2.2.2.2.2 hP (j := 0) (by decide) (xe_x0 ..) rfl) rfl rfl ⟨Nat.le_of_ble_eq_true rfl, Nat.le_of_ble_eq_true rfl⟩ hl.1 (Nat.le_of_ble_eq_true rfl) dX0_left_2 ⟨Nat.le_of_ble_eq_true rfl, Nat.le_of_ble_eq_true rfl⟩) ?_
  refine rn_zt (tgt := 46) X.1 X.2.1 dX0_left_5 (by decide) (fun c_5 => ?_) (fun c_5 => ?_)
  · refine lv_aload_n X.1 X.2.1 dX0_left_46 rfl (lv_at hl 0 rfl) ?_
    refine x_cWi (x_runV X hN hP (As := []) (rest := []) (x_X0_badAsk l dC dI dA n ξ V V2 im ab be) xkv_X0_221 (x_recv (ci := 0) X.2.2.2.2.2 hP (j := 0) (by decide) (xe_x0 ..) rfl) rfl rfl ⟨Nat.le_of_ble_eq_true rfl, Nat.le_of_ble_eq_true rfl⟩ hl.1 (Nat.le_of_ble_eq_true rfl) dX0_left_47 ⟨Nat.le_of_ble_eq_true rfl, Nat.le_of_ble_eq_true rfl⟩) hS (fun _ h => h) (fun _ h => h) (fun r47 _ H locs hr1 hP1 hz1 hk1 hS => ?_)
    subst hr1
    have hP := hP1
    have hR := hR.cg (S' := fun i_ => (mdS ξ 89 0 (ξ 89 0 + nI 1)) (1 + i_)) (fun i hi => by first | rfl | simp (disch := omega) only [mdS_row, mdI_out, upRn] | (simp (disch := omega) only [mdS_row, mdI_out, upRn, *])) (fun _ _ => rfl)
    have ho := oR.b (k := 0) ho (by decide)
    exact x_pi (by first | (rw [sp_left, if_neg (rv_nf c_5)]; done) | (rw [sp_left, if_neg (rv_nf c_5)]; rfl) | (rw [sp_left, if_pos c_5, if_neg (rv_nf c_17)]; done) | (rw [sp_left, if_pos c_5, if_neg (rv_nf c_17)]; rfl) | (rw [sp_left, if_pos c_5, if_pos c_17, hv, rv_cln (by omega), if_pos c_33]; done) | (rw [sp_left, if_pos c_5, if_pos c_17, hv, rv_cln (by omega), if_pos c_33]; rfl) | (rw [sp_left, if_pos c_5, if_pos c_17, hv, rv_cln (by omega), if_neg c_33, if_neg (rv_nf c_43)]; done) | (rw [sp_left, if_pos c_5, if_pos c_17, hv, rv_cln (by omega), if_neg c_33, if_neg (rv_nf c_43)]; rfl)) X hr hlk hS dX0_left_50 (RX.o hP hR ho (hO.at hS) (fun i hi => by first | rfl | simp (disch := omega) only [mdS_row, mdI_out, upRn] | (simp (disch := omega) only [mdS_row, mdI_out, upRn, *])) rfl rfl rfl)
  · obtain ⟨j, hj, hv⟩ := rv_isx hR.f0 hm c_5
    refine lv_iload_n X.1 X.2.1 dX0_left_8 rfl (lv_at hl 2 rfl) ?_
    refine lv_i2l X.1 X.2.1 dX0_left_9 rfl ?_
    refine lv_lconst (v := 0) X.1 X.2.1 dX0_left_10 rfl ?_
    refine lv_ldc2 (v := 7) X.1 X.2.1 X.2.2.2.1 (X.2.2.2.2.1 _ q810) dX0_left_11 ?_
    refine x_cSe (x_runSp X (As := [.long (Int32.toInt64 t), .long 0, .long 7]) (rest := []) (x_X0_in l (Int32.toInt64 t) 0 7) xks_X0_89 rfl rfl ⟨Nat.le_of_ble_eq_true rfl, Nat.le_of_ble_eq_true rfl⟩ hl.1 (Nat.le_of_ble_eq_true rfl) dX0_left_14 ⟨Nat.le_of_ble_eq_true rfl, Nat.le_of_ble_eq_true rfl⟩) ?_
    refine rn_zt (tgt := 46) X.1 X.2.1 dX0_left_17 (by decide) (fun c_17 => ?_) (fun c_17 => ?_)
    · refine lv_aload_n X.1 X.2.1 dX0_left_46 rfl (lv_at hl 0 rfl) ?_
      refine x_cWi (x_runV X hN hP (As := []) (rest := []) (x_X0_badAsk l dC dI dA n ξ V V2 im ab be) xkv_X0_221 (x_recv (ci := 0) X.2.2.2.2.2 hP (j := 0) (by decide) (xe_x0 ..) rfl) rfl rfl ⟨Nat.le_of_ble_eq_true rfl, Nat.le_of_ble_eq_true rfl⟩ hl.1 (Nat.le_of_ble_eq_true rfl) dX0_left_47 ⟨Nat.le_of_ble_eq_true rfl, Nat.le_of_ble_eq_true rfl⟩) hS (fun _ h => h) (fun _ h => h) (fun r47 _ H locs hr1 hP1 hz1 hk1 hS => ?_)
      subst hr1
      have hP := hP1
      have hR := hR.cg (S' := fun i_ => (mdS ξ 89 0 (ξ 89 0 + nI 1)) (1 + i_)) (fun i hi => by first | rfl | simp (disch := omega) only [mdS_row, mdI_out, upRn] | (simp (disch := omega) only [mdS_row, mdI_out, upRn, *])) (fun _ _ => rfl)
      have ho := oR.b (k := 0) ho (by decide)
      exact x_pi (by first | (rw [sp_left, if_neg (rv_nf c_5)]; done) | (rw [sp_left, if_neg (rv_nf c_5)]; rfl) | (rw [sp_left, if_pos c_5, if_neg (rv_nf c_17)]; done) | (rw [sp_left, if_pos c_5, if_neg (rv_nf c_17)]; rfl) | (rw [sp_left, if_pos c_5, if_pos c_17, hv, rv_cln (by omega), if_pos c_33]; done) | (rw [sp_left, if_pos c_5, if_pos c_17, hv, rv_cln (by omega), if_pos c_33]; rfl) | (rw [sp_left, if_pos c_5, if_pos c_17, hv, rv_cln (by omega), if_neg c_33, if_neg (rv_nf c_43)]; done) | (rw [sp_left, if_pos c_5, if_pos c_17, hv, rv_cln (by omega), if_neg c_33, if_neg (rv_nf c_43)]; rfl)) X hr hlk hS dX0_left_50 (RX.o hP hR ho (hO.at hS) (fun i hi => by first | rfl | simp (disch := omega) only [mdS_row, mdI_out, upRn] | (simp (disch := omega) only [mdS_row, mdI_out, upRn, *])) rfl rfl rfl)
    · refine lv_aload_n X.1 X.2.1 dX0_left_20 rfl (lv_at hl 0 rfl) ?_
      refine xb_get (C := RX0) (T := TX0) (v := .ref (n + 1)) X in_X0 (ci := 0) rfl hP (j := 0) (by decide) (xe_x0 ..) 0 (by decide) q248 rfl rfl dX0_left_21 ?_
      refine xb_getN (host := "RentedViews") (C := RX1) (T := TX1) (v := .ref (n + 3)) X in_X1 (ci := 1) rfl hP (j := 1) (by decide) (xe_x1 ..) 1 (by decide) (x_nest hN q142 rfl) rfl rfl dX0_left_24 ?_
      refine lv_iload_n X.1 X.2.1 dX0_left_27 rfl (lv_at hl 1 rfl) ?_
      refine rn_co (y := nI j) hv ?_
      refine xb_iald X hP (j := 3) (by decide) (n := 6) (f := ξ 3) rfl (by omega) (by decide) dX0_left_28 ?_
      refine rn_co (y := (σ 0) (7 + 6 * j + 5)) (hR.thg (by omega)) ?_
      refine lv_iload_n X.1 X.2.1 dX0_left_29 rfl (lv_at hl 2 rfl) ?_
      refine lv_ishr X.1 X.2.1 dX0_left_30 ?_
      refine lv_iconst (v := nI 1) X.1 X.2.1 dX0_left_31 rfl ?_
      refine lv_iand X.1 X.2.1 dX0_left_32 ?_
      refine lv_if_eq (tgt := 46) X.1 X.2.1 dX0_left_33 (by decide) (fun (c_33 : (((σ 0) (7 + 6 * j + 5)) >>> (t &&& 31)) &&& 1 = 0) => ?_) (fun (c_33 : ¬ (((σ 0) (7 + 6 * j + 5)) >>> (t &&& 31)) &&& 1 = 0) => ?_)
      · refine lv_aload_n X.1 X.2.1 dX0_left_46 rfl (lv_at hl 0 rfl) ?_
        refine x_cWi (x_runV X hN hP (As := []) (rest := []) (x_X0_badAsk l dC dI dA n ξ V V2 im ab be) xkv_X0_221 (x_recv (ci := 0) X.2.2.2.2.2 hP (j := 0) (by decide) (xe_x0 ..) rfl) rfl rfl ⟨Nat.le_of_ble_eq_true rfl, Nat.le_of_ble_eq_true rfl⟩ hl.1 (Nat.le_of_ble_eq_true rfl) dX0_left_47 ⟨Nat.le_of_ble_eq_true rfl, Nat.le_of_ble_eq_true rfl⟩) hS (fun _ h => h) (fun _ h => h) (fun r47 _ H locs hr1 hP1 hz1 hk1 hS => ?_)
        subst hr1
        have hP := hP1
        have hR := hR.cg (S' := fun i_ => (mdS ξ 89 0 (ξ 89 0 + nI 1)) (1 + i_)) (fun i hi => by first | rfl | simp (disch := omega) only [mdS_row, mdI_out, upRn] | (simp (disch := omega) only [mdS_row, mdI_out, upRn, *])) (fun _ _ => rfl)
        have ho := oR.b (k := 0) ho (by decide)
        exact x_pi (by first | (rw [sp_left, if_neg (rv_nf c_5)]; done) | (rw [sp_left, if_neg (rv_nf c_5)]; rfl) | (rw [sp_left, if_pos c_5, if_neg (rv_nf c_17)]; done) | (rw [sp_left, if_pos c_5, if_neg (rv_nf c_17)]; rfl) | (rw [sp_left, if_pos c_5, if_pos c_17, hv, rv_cln (by omega), if_pos c_33]; done) | (rw [sp_left, if_pos c_5, if_pos c_17, hv, rv_cln (by omega), if_pos c_33]; rfl) | (rw [sp_left, if_pos c_5, if_pos c_17, hv, rv_cln (by omega), if_neg c_33, if_neg (rv_nf c_43)]; done) | (rw [sp_left, if_pos c_5, if_pos c_17, hv, rv_cln (by omega), if_neg c_33, if_neg (rv_nf c_43)]; rfl)) X hr hlk hS dX0_left_50 (RX.o hP hR ho (hO.at hS) (fun i hi => by first | rfl | simp (disch := omega) only [mdS_row, mdI_out, upRn] | (simp (disch := omega) only [mdS_row, mdI_out, upRn, *])) rfl rfl rfl)
      · refine lv_iload_n X.1 X.2.1 dX0_left_36 rfl (lv_at hl 3 rfl) ?_
        refine lv_i2l X.1 X.2.1 dX0_left_37 rfl ?_
        refine lv_lconst (v := 0) X.1 X.2.1 dX0_left_38 rfl ?_
        refine lv_lconst (v := 1) X.1 X.2.1 dX0_left_39 rfl ?_
        refine x_cSe (x_runSp X (As := [.long (Int32.toInt64 w), .long 0, .long 1]) (rest := []) (x_X0_in l (Int32.toInt64 w) 0 1) xks_X0_89 rfl rfl ⟨Nat.le_of_ble_eq_true rfl, Nat.le_of_ble_eq_true rfl⟩ hl.1 (Nat.le_of_ble_eq_true rfl) dX0_left_40 ⟨Nat.le_of_ble_eq_true rfl, Nat.le_of_ble_eq_true rfl⟩) ?_
        refine rn_zf (tgt := 51) X.1 X.2.1 dX0_left_43 (by decide) (fun c_43 => ?_) (fun c_43 => ?_)
        · refine lv_iconst (v := nI 0) X.1 X.2.1 dX0_left_51 rfl ?_
          refine lv_istore (lv' := [(4, .int (nI 0)), (0, .ref n), (1, .int v), (2, .int t), (3, .int w)]) X.1 X.2.1 dX0_left_52 hl (by decide) rfl (fun ls hl => ?_)
          refine lv_iconst (v := (-1)) X.1 X.2.1 dX0_left_54 rfl ?_
          refine lv_istore (lv' := [(5, .int (-1)), (4, .int (nI 0)), (0, .ref n), (1, .int v), (2, .int t), (3, .int w)]) X.1 X.2.1 dX0_left_55 hl (by decide) rfl (fun ls hl => ?_)
          refine lv_aload_n X.1 X.2.1 dX0_left_57 rfl (lv_at hl 2 rfl) ?_
          refine xb_get (C := RX0) (T := TX0) (v := .ref (n + 1)) X in_X0 (ci := 0) rfl hP (j := 0) (by decide) (xe_x0 ..) 0 (by decide) q248 rfl rfl dX0_left_58 ?_
          refine xb_getN (host := "RentedViews") (C := RX1) (T := TX1) (v := .ref (n + 7)) X in_X1 (ci := 1) rfl hP (j := 1) (by decide) (xe_x1 ..) 8 (by decide) (x_nest hN q160 rfl) rfl rfl dX0_left_61 ?_
          refine lv_astore (lv' := [(6, .ref (n + 7)), (5, .int (-1)), (4, .int (nI 0)), (0, .ref n), (1, .int v), (2, .int t), (3, .int w)]) X.1 X.2.1 dX0_left_64 hl (by decide) rfl (fun ls hl => ?_)
          refine lv_aload X.1 X.2.1 dX0_left_66 (lv_at hl 0 rfl) ?_
          refine xb_getN (host := "RentedViews") (C := RX2) (T := TX2) (v := .int (ξ 7 2)) X in_X2 (ci := 2) rfl hP (j := 7) (by decide) (xe_x7 ..) 5 (by decide) (x_nest hN q121 rfl) rfl rfl dX0_left_68 ?_
          refine rn_co (y := nI hs) hR.tol ?_
          refine lv_iconst (v := nI 1) X.1 X.2.1 dX0_left_71 rfl ?_
          refine lv_isub X.1 X.2.1 dX0_left_72 ?_
          refine lv_istore (lv' := [(7, .int ((nI hs) - 1)), (6, .ref (n + 7)), (5, .int (-1)), (4, .int (nI 0)), (0, .ref n), (1, .int v), (2, .int t), (3, .int w)]) X.1 X.2.1 dX0_left_73 hl (by decide) rfl (fun ls hl => ?_)
          exact K75 _ (nI 0) (-1) ((nI hs) - 1) hs c_5 j hj hv c_17 c_33 c_43 rfl (Nat.le_refl _) rfl (by rw [nI_0, Int32.zero_or]) (by by_cases e : rv_lf (σ 0) v hs = -1 <;> simp [e]) ls (lv_sub hl [4, 5, 6, 7, 3, 2, 1, 0] rfl)
        · refine lv_aload_n X.1 X.2.1 dX0_left_46 rfl (lv_at hl 0 rfl) ?_
          refine x_cWi (x_runV X hN hP (As := []) (rest := []) (x_X0_badAsk l dC dI dA n ξ V V2 im ab be) xkv_X0_221 (x_recv (ci := 0) X.2.2.2.2.2 hP (j := 0) (by decide) (xe_x0 ..) rfl) rfl rfl ⟨Nat.le_of_ble_eq_true rfl, Nat.le_of_ble_eq_true rfl⟩ hl.1 (Nat.le_of_ble_eq_true rfl) dX0_left_47 ⟨Nat.le_of_ble_eq_true rfl, Nat.le_of_ble_eq_true rfl⟩) hS (fun _ h => h) (fun _ h => h) (fun r47 _ H locs hr1 hP1 hz1 hk1 hS => ?_)
          subst hr1
          have hP := hP1
          have hR := hR.cg (S' := fun i_ => (mdS ξ 89 0 (ξ 89 0 + nI 1)) (1 + i_)) (fun i hi => by first | rfl | simp (disch := omega) only [mdS_row, mdI_out, upRn] | (simp (disch := omega) only [mdS_row, mdI_out, upRn, *])) (fun _ _ => rfl)
          have ho := oR.b (k := 0) ho (by decide)
          exact x_pi (by first | (rw [sp_left, if_neg (rv_nf c_5)]; done) | (rw [sp_left, if_neg (rv_nf c_5)]; rfl) | (rw [sp_left, if_pos c_5, if_neg (rv_nf c_17)]; done) | (rw [sp_left, if_pos c_5, if_neg (rv_nf c_17)]; rfl) | (rw [sp_left, if_pos c_5, if_pos c_17, hv, rv_cln (by omega), if_pos c_33]; done) | (rw [sp_left, if_pos c_5, if_pos c_17, hv, rv_cln (by omega), if_pos c_33]; rfl) | (rw [sp_left, if_pos c_5, if_pos c_17, hv, rv_cln (by omega), if_neg c_33, if_neg (rv_nf c_43)]; done) | (rw [sp_left, if_pos c_5, if_pos c_17, hv, rv_cln (by omega), if_neg c_33, if_neg (rv_nf c_43)]; rfl)) X hr hlk hS dX0_left_50 (RX.o hP hR ho (hO.at hS) (fun i hi => by first | rfl | simp (disch := omega) only [mdS_row, mdI_out, upRn] | (simp (disch := omega) only [mdS_row, mdI_out, upRn, *])) rfl rfl rfl)
