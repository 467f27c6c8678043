set_option maxRecDepth 100000
/-! the component: a view hung -/
theorem xks_X0_117 : xKS RX0 yX0_made cX0_made 4 (some (.object "RentedViews$View")) 117 4 := ⟨q324, q325, q61, q326, by decide +kernel⟩
theorem xkv_X0_121 : xKV RX0 yX1_hangs cX1_hangs 2 none 121 1 := ⟨q396, q397, q398, q62, q399, by decide +kernel⟩
section NEWV
variable {dC : Nat → ClassId} {dI : Nat → Nat → Nat} {dA : Nat → ClassId} {T T' : Nat → Prop} {c n many rent rd un hs ev ty z kk : Nat} {V V2 im : Nat → Option Nat} {H H0 : Heap} {σ σ' ξ ξ' : mdT} {locs : List Loc} {ab be : Int64} {sz pr we : Int32} {kp isk : Nat → Int32}
theorem imR.mono2 (h : imR dC dI dA c T n im kp isk H) (h0 : imR dC dI dA c T n im kp isk H0) (hT : ∀ a, T a → T' a) (hN : ∀ a, T' a → ¬ T a → H0.size ≤ a) : imR dC dI dA c T' n im kp isk H := by
  refine ⟨fun i hi => ?_, h.2⟩
  rcases h.1 i hi with h1 | ⟨b, h1, h2, h3, h4, h5⟩
  · exact Or.inl h1
  · refine Or.inr ⟨b, h1, h2, h3, fun a ha hb => ?_, h5.mono hT⟩
    by_cases ht : T a
    · exact h4 a ht hb
    · rcases h0.1 i hi with g1 | ⟨b', g1, g2, g3, g4, g5⟩
      · rw [g1.1] at h1; cases h1
      · rw [g1] at h1
        cases h1
        exact absurd (hN a ha ht) (Nat.not_le.mpr (Nat.lt_of_lt_of_le hb.2 g5.lt))
/-- a view was made, the last cell of the heap -/
theorem RX.hang (hP : bkP dC dI n 96 (xE dA n ξ' (va_up V many (some z)) V2 im ab be) H) (hR : shR c (many + 1) rent rd un hs ev (σ' 0) (fun i => ξ' (1 + i))) (ho : oR ty ξ' σ') (hO : xO dC dI dA c T n many V V2 im (fun i => ξ (44 + i)) σ H0) (hS : va_S (fun q => bkA n 96 q ∨ z ≤ q) H0 H locs) (hz : H0.size = z) (hva : vwP dC dI z kk sz pr we H) (hkk : kk < 6) (hA : ∀ i, i < 43 → ξ' (44 + i) = ξ (44 + i)) (hf : σ' 0 (7 + 6 * many) = nI kk ∧ σ' 0 (7 + 6 * many + 1) = sz ∧ σ' 0 (7 + 6 * many + 2) = pr ∧ σ' 0 (7 + 6 * many + 3) = we) (h0 : ∀ v, v < many → ∀ j, j < 4 → σ' 0 (7 + 6 * v + j) = σ 0 (7 + 6 * v + j)) (h1 : σ' 1 = σ 1) (h2 : σ' 2 = σ 2) : RX dC dI dA c n σ' ab be H := by
  have hk := hO.atz hS hz
  have hT : ∀ a, T a → T a ∨ a = z := fun a h => Or.inl h
  refine ⟨fun a => T a ∨ a = z, ξ', _, V2, im, many + 1, rent, rd, un, hs, ev, ty, hP, hR, ho, ⟨fun v hv a ha => ?_, fun v hv => ?_⟩, (hk.2.1.cg hA).mono hT, ?_, fun a ha => ?_, hk.2.2.2.2⟩
  · by_cases e : v = many
    · rw [e, va_up_self] at ha
      cases ha
      exact ⟨Or.inr rfl, kk, sz, pr, we, hkk, hva⟩
    · rw [va_up_ne _ _ e] at ha
      obtain ⟨g1, g2⟩ := hk.1.1 v hv a ha
      exact ⟨Or.inl g1, g2⟩
  · by_cases e : v = many
    · refine ⟨z, kk, by rw [e, va_up_self], Or.inr rfl, hkk, by rw [e]; exact hf.1, ?_⟩
      rw [e, hf.2.1, hf.2.2.1, hf.2.2.2]
      exact hva
    · obtain ⟨a, kd, g1, g2, g3, g4, g5⟩ := hk.1.2 v (by omega)
      have e0 := h0 v (by omega) 0 (by omega)
      rw [Nat.add_zero] at e0
      exact ⟨a, kd, by rw [va_up_ne _ _ e]; exact g1, Or.inl g2, g3, by rw [e0]; exact g4, by rw [h0 v (by omega) 1 (by omega), h0 v (by omega) 2 (by omega), h0 v (by omega) 3 (by omega)]; exact g5⟩
  · rw [h1, h2]
    exact hk.2.2.1.mono2 hO.2.2.1 hT (fun a h g => h.elim (fun y => absurd y g) (fun y => by omega))
  · rcases ha with ha | ha
    · exact hk.2.2.2.1 a ha
    · subst ha
      exact ⟨hva.lt, fun y => by have := y.2; have := hO.2.2.2.2; omega⟩
end NEWV
theorem rv_vw {x : Int32} {lo hi : Int64} {b : Bool} (h : rv_inL x.toInt64 lo hi = b) : rv_in x lo.toInt hi.toInt = b := by rw [← rv_inL_i]; exact h
theorem rv_vw4 {kd sz pr we : Int32} (h1 : rv_inL kd.toInt64 0 5 = true) (h2 : rv_inL sz.toInt64 1 9 = true) (h3 : rv_inL pr.toInt64 0 99 = true) (h4 : rv_in we 0 5 = true) : (rv_in kd 0 5 && rv_in sz 1 9 && rv_in pr 0 99 && rv_in we 0 5) = true := by
  rw [show rv_in kd 0 5 = true from rv_vw h1, show rv_in sz 1 9 = true from rv_vw h2, show rv_in pr 0 99 = true from rv_vw h3, h4]; rfl
theorem rv_vwf {kd sz pr we : Int32} (h : rv_inL kd.toInt64 0 5 = false ∨ rv_inL sz.toInt64 1 9 = false ∨ rv_inL pr.toInt64 0 99 = false ∨ rv_in we 0 5 = false) : (rv_in kd 0 5 && rv_in sz 1 9 && rv_in pr 0 99 && rv_in we 0 5) = false := by
  rcases h with h | h | h | h
  · rw [show rv_in kd 0 5 = false from rv_vw h]; rfl
  · rw [show rv_in sz 1 9 = false from rv_vw h]; simp
  · rw [show rv_in pr 0 99 = false from rv_vw h]; simp
  · rw [h]; simp
theorem rv_lvf_4 (f : Nat → Int32) (m : Nat) (kd sz pr we : Int32) : upd (rv_lvf f m kd sz pr we) 6 0 (7 + 6 * m) = kd ∧ upd (rv_lvf f m kd sz pr we) 6 0 (7 + 6 * m + 1) = sz ∧ upd (rv_lvf f m kd sz pr we) 6 0 (7 + 6 * m + 2) = pr ∧ upd (rv_lvf f m kd sz pr we) 6 0 (7 + 6 * m + 3) = we := by
  unfold rv_lvf upd
  refine ⟨?_, ?_, ?_, ?_⟩
  · rw [if_neg (by omega), if_neg (by omega), if_neg (by omega), if_neg (by omega), if_neg (by omega), if_neg (by omega), if_neg (by omega), if_pos rfl]
  · rw [if_neg (by omega), if_neg (by omega), if_neg (by omega), if_neg (by omega), if_neg (by omega), if_neg (by omega), if_pos rfl]
  · rw [if_neg (by omega), if_neg (by omega), if_neg (by omega), if_neg (by omega), if_neg (by omega), if_pos rfl]
  · rw [if_neg (by omega), if_neg (by omega), if_neg (by omega), if_neg (by omega), if_pos rfl]
theorem x_X0_view (l : Launch) (dC : Nat → ClassId) (dI : Nat → Nat → Nat) (dA : Nat → ClassId) (n c : Nat) (σ : mdT) (ab be : Int64) (z : Nat) (kd : Int32) (sz : Int32) (pr : Int32) (we : Int32) : Met l yX0_view (ws_ yX0_view cX0_view 5 (some .int)) { frames := 6, cells := 1, slots := 3, locals := 360 } (xPc dC dI dA (fun H => RX dC dI dA c n σ ab be H ∧ H.size = z) [.ref n, .int kd, .int sz, .int pr, .int we]) (xQi (S := Unit) (fun r_ _ => r_ = (sp_view σ kd sz pr we).1) (fun _ => (RX dC dI dA c n (sp_view σ kd sz pr we).2 ab be)) (fun q => bkA n 96 q ∨ z ≤ q)) 1 3 (fun q => bkA n 96 q ∨ z ≤ q) := by
  refine x_in (by decide) rfl (Nat.le_of_ble_eq_true rfl) (lv := [(0, .ref n), (1, .int kd), (2, .int sz), (3, .int pr), (4, .int we)]) rfl ?_
  intro p e s m below meth c_ X hN hnm hr hlk hP ls hl
  obtain ⟨hP, hZ⟩ := hP
  obtain ⟨T, ξ, V, V2, im, many, rent, rd, un, hs, ev, ty, hP, hR, ho, hO⟩ := hP
  have ho0 := ho
  have hR0 := hR
  have hV := hO.1
  have hT := hO.tbz hZ
  have hm := hR.m6
  have hr6 := hR.r6
  have hd6 := hR.d6
  have hu8 := hR.u8
  have hs12 := hR.h12
  have hS : va_S (fun q => bkA n 96 q ∨ z ≤ q) s.heap s.heap [] := va_S.rf
  refine lv_iload_n X.1 X.2.1 dX0_view_0 rfl (lv_at hl 1 rfl) ?_
  refine lv_i2l X.1 X.2.1 dX0_view_1 rfl ?_
  refine lv_lconst (v := 0) X.1 X.2.1 dX0_view_2 rfl ?_
  refine lv_ldc2 (v := 5) X.1 X.2.1 X.2.2.2.1 (X.2.2.2.2.1 _ q303) dX0_view_3 ?_
  refine x_cSe (x_runSp X (As := [.long (Int32.toInt64 kd), .long 0, .long 5]) (rest := []) (x_X0_in l (Int32.toInt64 kd) 0 5) xks_X0_89 rfl rfl ⟨Nat.le_of_ble_eq_true rfl, Nat.le_of_ble_eq_true rfl⟩ hl.1 (Nat.le_of_ble_eq_true rfl) dX0_view_6 ⟨Nat.le_of_ble_eq_true rfl, Nat.le_of_ble_eq_true rfl⟩) ?_
  refine rn_zt (tgt := 44) X.1 X.2.1 dX0_view_9 (by decide) (fun c_9 => ?_) (fun c_9 => ?_)
  · refine lv_aload_n X.1 X.2.1 dX0_view_44 rfl (lv_at hl 0 rfl) ?_
    refine x_cWi (x_runV X hN hP (As := []) (rest := []) (x_X0_bad l dC dI dA n ξ V V2 im ab be) xkv_X0_110 (x_recv (ci := 0) X.2.2.2.2.2 hP (j := 0) (by decide) (xe_x0 ..) rfl) rfl rfl ⟨Nat.le_of_ble_eq_true rfl, Nat.le_of_ble_eq_true rfl⟩ hl.1 (Nat.le_of_ble_eq_true rfl) dX0_view_45 ⟨Nat.le_of_ble_eq_true rfl, Nat.le_of_ble_eq_true rfl⟩) hS (fun q h => Or.inl h) (fun q h => Or.inl h) (fun r45 _ H locs hr1 hP1 hz1 hk1 hS => ?_)
    subst hr1
    have hP := hP1
    have hR := hR.cg (S' := fun i_ => (mdS ξ 89 0 (ξ 89 0 + nI 1)) (1 + i_)) (fun i hi => by first | rfl | simp (disch := omega) only [mdS_row, mdI_out, upRn] | (simp (disch := omega) only [mdS_row, mdI_out, upRn, *])) (fun _ _ => rfl)
    have ho := oR.b (k := 0) ho (by decide)
    refine W.pad (cells2 := 1) (slots2 := 3) (Nat.le_of_ble_eq_true rfl) (Nat.le_of_ble_eq_true rfl) ?_
    exact x_pi (by rw [sp_view, if_neg (rv_nf (rv_vwf (by first | exact Or.inl c_9 | exact Or.inr (Or.inl c_21) | exact Or.inr (Or.inr (Or.inl c_33)) | exact Or.inr (Or.inr (Or.inr c_41)))))]; rfl) X hr hlk hS dX0_view_48 (RX.o hP hR ho (hO.atz hS hZ) (fun i hi => by first | rfl | simp (disch := omega) only [mdS_row, mdI_out, upRn] | (simp (disch := omega) only [mdS_row, mdI_out, upRn, *])) rfl rfl rfl)
  · obtain ⟨kk, hk5, hkd⟩ := rv_inIx (v := kd) 5 rfl (by omega) c_9
    refine lv_iload_n X.1 X.2.1 dX0_view_12 rfl (lv_at hl 2 rfl) ?_
    refine lv_i2l X.1 X.2.1 dX0_view_13 rfl ?_
    refine lv_lconst (v := 1) X.1 X.2.1 dX0_view_14 rfl ?_
    refine lv_ldc2 (v := 9) X.1 X.2.1 X.2.2.2.1 (X.2.2.2.2.1 _ q307) dX0_view_15 ?_
    refine x_cSe (x_runSp X (As := [.long (Int32.toInt64 sz), .long 1, .long 9]) (rest := []) (x_X0_in l (Int32.toInt64 sz) 1 9) xks_X0_89 rfl rfl ⟨Nat.le_of_ble_eq_true rfl, Nat.le_of_ble_eq_true rfl⟩ hl.1 (Nat.le_of_ble_eq_true rfl) dX0_view_18 ⟨Nat.le_of_ble_eq_true rfl, Nat.le_of_ble_eq_true rfl⟩) ?_
    refine rn_zt (tgt := 44) X.1 X.2.1 dX0_view_21 (by decide) (fun c_21 => ?_) (fun c_21 => ?_)
    · refine lv_aload_n X.1 X.2.1 dX0_view_44 rfl (lv_at hl 0 rfl) ?_
      refine x_cWi (x_runV X hN hP (As := []) (rest := []) (x_X0_bad l dC dI dA n ξ V V2 im ab be) xkv_X0_110 (x_recv (ci := 0) X.2.2.2.2.2 hP (j := 0) (by decide) (xe_x0 ..) rfl) rfl rfl ⟨Nat.le_of_ble_eq_true rfl, Nat.le_of_ble_eq_true rfl⟩ hl.1 (Nat.le_of_ble_eq_true rfl) dX0_view_45 ⟨Nat.le_of_ble_eq_true rfl, Nat.le_of_ble_eq_true rfl⟩) hS (fun q h => Or.inl h) (fun q h => Or.inl h) (fun r45 _ H locs hr1 hP1 hz1 hk1 hS => ?_)
      subst hr1
      have hP := hP1
      have hR := hR.cg (S' := fun i_ => (mdS ξ 89 0 (ξ 89 0 + nI 1)) (1 + i_)) (fun i hi => by first | rfl | simp (disch := omega) only [mdS_row, mdI_out, upRn] | (simp (disch := omega) only [mdS_row, mdI_out, upRn, *])) (fun _ _ => rfl)
      have ho := oR.b (k := 0) ho (by decide)
      refine W.pad (cells2 := 1) (slots2 := 3) (Nat.le_of_ble_eq_true rfl) (Nat.le_of_ble_eq_true rfl) ?_
      exact x_pi (by rw [sp_view, if_neg (rv_nf (rv_vwf (by first | exact Or.inl c_9 | exact Or.inr (Or.inl c_21) | exact Or.inr (Or.inr (Or.inl c_33)) | exact Or.inr (Or.inr (Or.inr c_41)))))]; rfl) X hr hlk hS dX0_view_48 (RX.o hP hR ho (hO.atz hS hZ) (fun i hi => by first | rfl | simp (disch := omega) only [mdS_row, mdI_out, upRn] | (simp (disch := omega) only [mdS_row, mdI_out, upRn, *])) rfl rfl rfl)
    · refine lv_iload_n X.1 X.2.1 dX0_view_24 rfl (lv_at hl 3 rfl) ?_
      refine lv_i2l X.1 X.2.1 dX0_view_25 rfl ?_
      refine lv_lconst (v := 0) X.1 X.2.1 dX0_view_26 rfl ?_
      refine lv_ldc2 (v := 99) X.1 X.2.1 X.2.2.2.1 (X.2.2.2.2.1 _ q308) dX0_view_27 ?_
      refine x_cSe (x_runSp X (As := [.long (Int32.toInt64 pr), .long 0, .long 99]) (rest := []) (x_X0_in l (Int32.toInt64 pr) 0 99) xks_X0_89 rfl rfl ⟨Nat.le_of_ble_eq_true rfl, Nat.le_of_ble_eq_true rfl⟩ hl.1 (Nat.le_of_ble_eq_true rfl) dX0_view_30 ⟨Nat.le_of_ble_eq_true rfl, Nat.le_of_ble_eq_true rfl⟩) ?_
      refine rn_zt (tgt := 44) X.1 X.2.1 dX0_view_33 (by decide) (fun c_33 => ?_) (fun c_33 => ?_)
      · refine lv_aload_n X.1 X.2.1 dX0_view_44 rfl (lv_at hl 0 rfl) ?_
        refine x_cWi (x_runV X hN hP (As := []) (rest := []) (x_X0_bad l dC dI dA n ξ V V2 im ab be) xkv_X0_110 (x_recv (ci := 0) X.2.2.2.2.2 hP (j := 0) (by decide) (xe_x0 ..) rfl) rfl rfl ⟨Nat.le_of_ble_eq_true rfl, Nat.le_of_ble_eq_true rfl⟩ hl.1 (Nat.le_of_ble_eq_true rfl) dX0_view_45 ⟨Nat.le_of_ble_eq_true rfl, Nat.le_of_ble_eq_true rfl⟩) hS (fun q h => Or.inl h) (fun q h => Or.inl h) (fun r45 _ H locs hr1 hP1 hz1 hk1 hS => ?_)
        subst hr1
        have hP := hP1
        have hR := hR.cg (S' := fun i_ => (mdS ξ 89 0 (ξ 89 0 + nI 1)) (1 + i_)) (fun i hi => by first | rfl | simp (disch := omega) only [mdS_row, mdI_out, upRn] | (simp (disch := omega) only [mdS_row, mdI_out, upRn, *])) (fun _ _ => rfl)
        have ho := oR.b (k := 0) ho (by decide)
        refine W.pad (cells2 := 1) (slots2 := 3) (Nat.le_of_ble_eq_true rfl) (Nat.le_of_ble_eq_true rfl) ?_
        exact x_pi (by rw [sp_view, if_neg (rv_nf (rv_vwf (by first | exact Or.inl c_9 | exact Or.inr (Or.inl c_21) | exact Or.inr (Or.inr (Or.inl c_33)) | exact Or.inr (Or.inr (Or.inr c_41)))))]; rfl) X hr hlk hS dX0_view_48 (RX.o hP hR ho (hO.atz hS hZ) (fun i hi => by first | rfl | simp (disch := omega) only [mdS_row, mdI_out, upRn] | (simp (disch := omega) only [mdS_row, mdI_out, upRn, *])) rfl rfl rfl)
      · refine lv_iload X.1 X.2.1 dX0_view_36 (lv_at hl 4 rfl) ?_
        refine x_cSe (x_runSp X (As := [.int we]) (rest := []) (x_X0_isWeather l we) xks_X0_106 rfl rfl ⟨Nat.le_of_ble_eq_true rfl, Nat.le_of_ble_eq_true rfl⟩ hl.1 (Nat.le_of_ble_eq_true rfl) dX0_view_38 ⟨Nat.le_of_ble_eq_true rfl, Nat.le_of_ble_eq_true rfl⟩) ?_
        refine rn_zf (tgt := 49) X.1 X.2.1 dX0_view_41 (by decide) (fun c_41 => ?_) (fun c_41 => ?_)
        · refine lv_aload_n X.1 X.2.1 dX0_view_49 rfl (lv_at hl 0 rfl) ?_
          refine xb_get (C := RX0) (T := TX0) (v := .ref (n + 1)) X in_X0 (ci := 0) rfl hP (j := 0) (by decide) (xe_x0 ..) 0 (by decide) q248 rfl rfl dX0_view_50 ?_
          refine xb_getN (host := "RentedViews") (C := RX1) (T := TX1) (v := .int (ξ 1 0)) X in_X1 (ci := 1) rfl hP (j := 1) (by decide) (xe_x1 ..) 2 (by decide) (x_nest hN q145 rfl) rfl rfl dX0_view_53 ?_
          refine rn_co (y := nI many) hR.nm ?_
          refine lv_bipush (v := nI 6) X.1 X.2.1 dX0_view_56 rfl ?_
          refine rn_icmp_ne (tgt := 66) X.1 X.2.1 (by omega) (by omega) dX0_view_58 (by decide) (fun c_58 => ?_) (fun c_58 => ?_)
          · refine lv_aload_n X.1 X.2.1 dX0_view_66 rfl (lv_at hl 0 rfl) ?_
            refine xb_get (C := RX0) (T := TX0) (v := .ref (n + 1)) X in_X0 (ci := 0) rfl hP (j := 0) (by decide) (xe_x0 ..) 0 (by decide) q248 rfl rfl dX0_view_67 ?_
            refine lv_iload_n X.1 X.2.1 dX0_view_70 rfl (lv_at hl 1 rfl) ?_
            refine rn_co (y := nI kk) hkd ?_
            refine lv_iload_n X.1 X.2.1 dX0_view_71 rfl (lv_at hl 2 rfl) ?_
            refine lv_iload_n X.1 X.2.1 dX0_view_72 rfl (lv_at hl 3 rfl) ?_
            refine lv_iload X.1 X.2.1 dX0_view_73 (lv_at hl 4 rfl) ?_
            refine x_cWr (x_runS X hN hZ (As := [.int (nI kk), .int sz, .int pr, .int we]) (rest := [.ref (n + 1)]) (x_made l dC dI dA z kk sz pr we (by omega)) xks_X0_117 rfl rfl ⟨Nat.le_of_ble_eq_true rfl, Nat.le_of_ble_eq_true rfl⟩ hl.1 (Nat.le_of_ble_eq_true rfl) dX0_view_75 ⟨Nat.le_of_ble_eq_true rfl, Nat.le_of_ble_eq_true rfl⟩) hS (fun q h => Or.inr h) (fun q h => Or.inr h) (fun _ ra H locs _ hm1 hz1 hk1 hS => ?_)
            obtain ⟨rfl, hva⟩ := hm1
            have hP := hP.kept (fun q hq => hk1 q (bk_sz hP hq) (Nat.not_le.mpr (hZ ▸ bk_sz hP hq)))
            refine x_cWv (x_runV X hN ⟨(x_shop hP), hva⟩ (As := [.ref ra]) (rest := []) (x_X1_hangs l dC dI dA (n + 1) (fun i_ => ξ (1 + i_)) V ra c many rent rd un hs ev (σ 0) hR kk sz pr we (by omega) (by omega) (fun y => by have := y.2; have := hO.2.2.2.2; omega)) xkv_X0_121 (x_recv (ci := 1) X.2.2.2.2.2 hP (j := 1) (by decide) (xe_x1 ..) rfl) rfl rfl ⟨Nat.le_of_ble_eq_true rfl, Nat.le_of_ble_eq_true rfl⟩ hl.1 (Nat.le_of_ble_eq_true rfl) dX0_view_78 ⟨Nat.le_of_ble_eq_true rfl, Nat.le_of_ble_eq_true rfl⟩) hS (fun q h => Or.inl (by unfold bkA at *; omega)) (fun q h => Or.inl (by unfold bkA at *; omega)) (fun u78 H locs hu78 hP1 hz1 hk1 hS => ?_)
            have hP := x_shopI hP hP1 (fun q h1 h2 => hk1 q (bk_sz hP h1) h2)
            have hR := xR_I (ξ := ξ) hu78
            have hva := vwP.kept0 hva (hk1 _ hva.lt (fun y => by have := y.2; have := hO.2.2.2.2; omega))
            refine lv_aload_n X.1 X.2.1 dX0_view_81 rfl (lv_at hl 0 rfl) ?_
            refine xb_get (C := RX0) (T := TX0) (v := .ref (n + 1)) X in_X0 (ci := 0) rfl hP (j := 0) (by decide) (xe_x0 ..) 0 (by decide) q248 rfl rfl dX0_view_82 ?_
            refine xb_getN (host := "RentedViews") (C := RX1) (T := TX1) (v := .int ((mdI ξ 1 43 u78) 1 0)) X in_X1 (ci := 1) rfl hP (j := 1) (by decide) (xe_x1 ..) 2 (by decide) (x_nest hN q145 rfl) rfl rfl dX0_view_85 ?_
            refine rn_co (y := nI (many + 1)) hR.nm ?_
            refine lv_iconst (v := nI 1) X.1 X.2.1 dX0_view_88 rfl ?_
            refine rn_isub X.1 X.2.1 (by omega) dX0_view_89 ?_
            exact x_pi (by rw [sp_view, if_pos (rv_vw4 c_9 c_21 c_33 c_41), if_neg (by rw [hR0.f0]; exact fun z => c_58 ((nI_eq (by omega) (by omega)).mp (z.trans (show (6 : Int32) = nI 6 from rfl)))), hR0.f0, rv_cln (by omega), Nat.add_sub_cancel, hkd]) X hr hlk hS dX0_view_90 (RX.hang (σ := σ) (σ' := mdS (md_layV σ 0 many (nI kk) sz pr we) 0 6 0) (ξ := ξ) hP hR (ho.cg rfl rfl rfl rfl rfl rfl) hO hS hZ hva (by omega) (fun i hi => mdI_out _ _ (by omega)) (rv_lvf_4 (σ 0) many _ _ _ _) (fun v hv j hj => by show upd (rv_lvf (σ 0) many (nI kk) sz pr we) 6 0 _ = _; unfold rv_lvf; simp only [upd]; repeat rw [if_neg (by omega)]) rfl rfl)
          · refine lv_aload_n X.1 X.2.1 dX0_view_61 rfl (lv_at hl 0 rfl) ?_
            refine x_cWi (x_runV X hN hP (As := []) (rest := []) (x_X0_full l dC dI dA n ξ V V2 im ab be) xkv_X0_114 (x_recv (ci := 0) X.2.2.2.2.2 hP (j := 0) (by decide) (xe_x0 ..) rfl) rfl rfl ⟨Nat.le_of_ble_eq_true rfl, Nat.le_of_ble_eq_true rfl⟩ hl.1 (Nat.le_of_ble_eq_true rfl) dX0_view_62 ⟨Nat.le_of_ble_eq_true rfl, Nat.le_of_ble_eq_true rfl⟩) hS (fun q h => Or.inl h) (fun q h => Or.inl h) (fun r62 _ H locs hr1 hP1 hz1 hk1 hS => ?_)
            subst hr1
            have hP := hP1
            have hR := hR.cg (S' := fun i_ => (mdS ξ 89 2 (ξ 89 2 + nI 1)) (1 + i_)) (fun i hi => by first | rfl | simp (disch := omega) only [mdS_row, mdI_out, upRn] | (simp (disch := omega) only [mdS_row, mdI_out, upRn, *])) (fun _ _ => rfl)
            have ho := oR.b (k := 2) ho (by decide)
            refine W.pad (cells2 := 1) (slots2 := 3) (Nat.le_of_ble_eq_true rfl) (Nat.le_of_ble_eq_true rfl) ?_
            exact x_pi (by rw [sp_view, if_pos (rv_vw4 c_9 c_21 c_33 c_41), if_pos (by rw [hR0.f0, c_58]; rfl)]; rfl) X hr hlk hS dX0_view_65 (RX.o hP hR ho (hO.atz hS hZ) (fun i hi => by first | rfl | simp (disch := omega) only [mdS_row, mdI_out, upRn] | (simp (disch := omega) only [mdS_row, mdI_out, upRn, *])) rfl rfl rfl)
        · refine lv_aload_n X.1 X.2.1 dX0_view_44 rfl (lv_at hl 0 rfl) ?_
          refine x_cWi (x_runV X hN hP (As := []) (rest := []) (x_X0_bad l dC dI dA n ξ V V2 im ab be) xkv_X0_110 (x_recv (ci := 0) X.2.2.2.2.2 hP (j := 0) (by decide) (xe_x0 ..) rfl) rfl rfl ⟨Nat.le_of_ble_eq_true rfl, Nat.le_of_ble_eq_true rfl⟩ hl.1 (Nat.le_of_ble_eq_true rfl) dX0_view_45 ⟨Nat.le_of_ble_eq_true rfl, Nat.le_of_ble_eq_true rfl⟩) hS (fun q h => Or.inl h) (fun q h => Or.inl h) (fun r45 _ H locs hr1 hP1 hz1 hk1 hS => ?_)
          subst hr1
          have hP := hP1
          have hR := hR.cg (S' := fun i_ => (mdS ξ 89 0 (ξ 89 0 + nI 1)) (1 + i_)) (fun i hi => by first | rfl | simp (disch := omega) only [mdS_row, mdI_out, upRn] | (simp (disch := omega) only [mdS_row, mdI_out, upRn, *])) (fun _ _ => rfl)
          have ho := oR.b (k := 0) ho (by decide)
          refine W.pad (cells2 := 1) (slots2 := 3) (Nat.le_of_ble_eq_true rfl) (Nat.le_of_ble_eq_true rfl) ?_
          exact x_pi (by rw [sp_view, if_neg (rv_nf (rv_vwf (by first | exact Or.inl c_9 | exact Or.inr (Or.inl c_21) | exact Or.inr (Or.inr (Or.inl c_33)) | exact Or.inr (Or.inr (Or.inr c_41)))))]; rfl) X hr hlk hS dX0_view_48 (RX.o hP hR ho (hO.atz hS hZ) (fun i hi => by first | rfl | simp (disch := omega) only [mdS_row, mdI_out, upRn] | (simp (disch := omega) only [mdS_row, mdI_out, upRn, *])) rfl rfl rfl)
