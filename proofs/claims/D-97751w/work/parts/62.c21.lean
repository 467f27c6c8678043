set_option maxRecDepth 100000
/-! the component: images -/
theorem xkv_X0_148 : xKV RX0 yX1_takes cX1_takes 3 none 148 1 := ⟨q588, q589, q590, q62, q591, by decide +kernel⟩
/-- all that the component has: from n on, but the Model's cells -/
def xAA (n : Nat) : Nat → Prop := fun q => n ≤ q ∧ ¬ (n + 96 ≤ q ∧ q < n + 112)
theorem xAA_b {n q : Nat} (h : bkA n 96 q) : xAA n q := ⟨h.1, fun z => by have := h.2; omega⟩
theorem xAA_s {n q : Nat} (h : bkA (n + 1) 43 q) : xAA n q := ⟨by have := h.1; omega, fun z => by have := h.2; omega⟩
theorem xAA_i {n b q : Nat} (hb : n + 112 ≤ b) (h : bkA b 43 q) : xAA n q := ⟨by have := h.1; omega, fun z => by have := h.1; omega⟩
section VN
variable {p : Program} {l : Launch} {e : Env} {R : Room} {s : State} {m : MethodId} {args : Array Value} {below : List Frame} {meth : Method} {c_ : Code} {H : Heap} {locs : List Loc} {cells slots mc ms : Nat} {Q : State → Prop}
variable {cc : ByteArray} {pc nL : Nat} {ls : Array Slot} {rest st0 : List Value} {dC : Nat → ClassId} {dI : Nat → Nat → Nat} {dA : Nat → ClassId} {H0 : Heap} {own : String} {A : Nat → Prop}
theorem x_vn {o : Option Nat} (h : o = none) (kk : W p l e R s m args below meth c_ H locs cells slots Q (F0 m pc ls (.null :: rest))) : W p l e R s m args below meth c_ H locs cells slots Q (F0 m pc ls (va_rf o :: rest)) := by
  rw [h]; exact kk
end VN
section IMG
variable {dC : Nat → ClassId} {dI : Nat → Nat → Nat} {dA : Nat → ClassId} {T : Nat → Prop} {c n many rent rd un hs ev ty j b : Nat} {V V2 im : Nat → Option Nat} {H H0 : Heap} {σ σ' ξ ξ' u : mdT} {locs : List Loc} {ab be : Int64} {f g : Nat → Int32}
theorem shC.cg (h : shC dC dI dA c T b f H) (hg : ∀ k, k < 523 → g k = f k) : shC dC dI dA c T b g H := by
  obtain ⟨S, V, many, rent, rd, un, hs, ev, h1, h2, h3⟩ := h
  exact ⟨S, V, many, rent, rd, un, hs, ev, h1, h2.cg (fun _ _ => rfl) hg, h3.cg4 (fun v hv j hj => hg _ (by have := h2.m6; omega))⟩
/-- the component's own cells changed, without new ones outside: nothing was lost -/
theorem RX.same (hP : bkP dC dI n 96 (xE dA n ξ' V V2 im ab be) H) (hR : shR c many rent rd un hs ev (σ 0) (fun i => ξ' (1 + i))) (ho : oR ty ξ' σ') (hO : xO dC dI dA c T n many V V2 im (fun i => ξ (44 + i)) σ H0) (hz : H0.size ≤ H.size) (hk : ∀ q, q < H0.size → ¬ bkA n 96 q → H[q]? = H0[q]?) (hA : ∀ i, i < 43 → ξ' (44 + i) = ξ (44 + i)) (h0 : σ' 0 = σ 0) (h1 : σ' 1 = σ 1) (h2 : σ' 2 = σ 2) : RX dC dI dA c n σ' ab be H :=
  RX.o hP hR ho (hO.kept hz (fun q h g => hk q h (fun z => g ⟨z.1, by have := z.2; omega⟩))) hA h0 h1 h2
/-- the shop is the image's -/
theorem RX.from (hP : bkP dC dI n 96 (xE dA n ξ' V V2 im ab be) H) (hR : shR c many rent rd un hs ev f (fun i => ξ' (1 + i))) (hV : shV dC dI T many f V H) (hB : bkP dC dI b 43 (sbE dA b u V) H) (hRb : shR c many rent rd un hs ev f u) (ho : oR ty ξ' σ') {m0 : Nat} {V0 : Nat → Option Nat} (hO : xO dC dI dA c T n m0 V0 V2 im (fun i => ξ (44 + i)) σ H0) (hz : H0.size ≤ H.size) (hk : ∀ q, q < H0.size → ¬ (bkA (n + 1) 43 q ∨ bkA b 43 q) → H[q]? = H0[q]?) (hj : j < 2) (hb : im j = some b) (hA : ∀ i, i < 43 → ξ' (44 + i) = ξ (44 + i)) (hf : f = fun k => σ 1 (523 * j + k)) (h0 : ∀ k, k < 523 → σ' 0 k = f k) (h1 : σ' 1 = σ 1) (h2 : σ' 2 = σ 2) : RX dC dI dA c n σ' ab be H := by
  have hbi := hO.2.2.1.1 j hj
  rcases hbi with hbi | ⟨b', g1, g2, g3, g4, g5⟩
  · rw [hbi.1] at hb; cases hb
  rw [hb] at g1
  cases g1
  have ht : ∀ a, T a → H[a]? = H0[a]? := fun a ha => hk a (hO.2.2.2.1 a ha).1 (fun z => z.elim (fun z => (hO.2.2.2.1 a ha).2 ⟨by have := z.1; omega, by have := z.2; omega⟩) (g4 a ha))
  refine ⟨T, ξ', V, V2, im, many, rent, rd, un, hs, ev, ty, hP, hR.cg (fun _ _ => rfl) h0, ho, hV.cg4 (fun v hv i hi => h0 _ (by have := hR.m6; omega)), (hO.2.1.kept ht).cg hA, ?_, fun a ha => ⟨Nat.lt_of_lt_of_le (hO.2.2.2.1 a ha).1 hz, (hO.2.2.2.1 a ha).2⟩, Nat.le_trans hO.2.2.2.2 hz⟩
  rw [h1, h2]
  refine ⟨fun i hi => ?_, hO.2.2.1.2⟩
  by_cases e : i = j
  · subst e
    refine Or.inr ⟨b, hb, g2, g3, g4, u, V, many, rent, rd, un, hs, ev, hB, ?_, ?_⟩
    · rw [← hf]; exact hRb
    · rw [← hf]; exact hV
  · rcases hO.2.2.1.1 i hi with k1 | ⟨b2, k1, k2, k3, k4, k5⟩
    · exact Or.inl k1
    · refine Or.inr ⟨b2, k1, k2, k3, k4, k5.kept (fun a ha => ?_)⟩
      rcases ha with ha | ha
      · exact ht a ha
      · have hap : b + 43 ≤ b2 ∨ b2 + 43 ≤ b := by
          rcases (show (i = 0 ∧ j = 1) ∨ (i = 1 ∧ j = 0) by omega) with ⟨e1, e2⟩ | ⟨e1, e2⟩
          · rw [e1] at k1; rw [e2] at hb; exact (hO.2.2.1.2 b2 b k1 hb).symm
          · rw [e1] at k1; rw [e2] at hb; exact hO.2.2.1.2 b b2 hb k1
        exact hk a (Nat.lt_of_lt_of_le ha.2 k5.lt) (fun z => z.elim (fun z => by have := z.2; have := ha.1; omega) (fun z => by have := z.1; have := z.2; have := ha.1; have := ha.2; omega))
/-- an image was laid into b -/
theorem RX.image {im' : Nat → Option Nat} (hP : bkP dC dI n 96 (xE dA n ξ' V V2 im' ab be) H) (hR : shR c many rent rd un hs ev (σ 0) (fun i => ξ' (1 + i))) (hB : bkP dC dI b 43 (sbE dA b u V) H) (hRb : shR c many rent rd un hs ev (σ 0) u) (ho : oR ty ξ' σ') (hO : xO dC dI dA c T n many V V2 im (fun i => ξ (44 + i)) σ H0) (hz : H0.size ≤ H.size) (hk : ∀ q, q < H0.size → ¬ (bkA n 96 q ∨ bkA b 43 q) → H[q]? = H0[q]?) (hj : j < 2) (hb : im' j = some b) (him : ∀ i, i ≠ j → im' i = im i) (hb2 : n + 112 ≤ b) (hTb : ∀ a, T a → ¬ bkA b 43 a) (hap : ∀ i b2, i < 2 → i ≠ j → im i = some b2 → b + 43 ≤ b2 ∨ b2 + 43 ≤ b) (hA : ∀ i, i < 43 → ξ' (44 + i) = ξ (44 + i)) (h0 : σ' 0 = σ 0) (h1 : ∀ k, k < 523 → σ' 1 (523 * j + k) = σ 0 k) (h1' : ∀ i k, i < 2 → i ≠ j → k < 523 → σ' 1 (523 * i + k) = σ 1 (523 * i + k)) (h2 : σ' 2 j = 1) (h2' : ∀ i, i ≠ j → σ' 2 i = σ 2 i) : RX dC dI dA c n σ' ab be H := by
  have ht : ∀ a, T a → H[a]? = H0[a]? := fun a ha => hk a (hO.2.2.2.1 a ha).1 (fun z => z.elim (fun z => (hO.2.2.2.1 a ha).2 ⟨z.1, by have := z.2; omega⟩) (hTb a ha))
  have hVH := hO.1.kept ht
  refine ⟨T, ξ', V, V2, im', many, rent, rd, un, hs, ev, ty, hP, by rw [h0]; exact hR, ho, by rw [h0]; exact hVH, (hO.2.1.kept ht).cg hA, ⟨fun i hi => ?_, fun b0 b1 e0 e1 => ?_⟩, fun a ha => ⟨Nat.lt_of_lt_of_le (hO.2.2.2.1 a ha).1 hz, (hO.2.2.2.1 a ha).2⟩, Nat.le_trans hO.2.2.2.2 hz⟩
  · by_cases e : i = j
    · subst e
      exact Or.inr ⟨b, hb, h2, hb2, hTb, shC.cg ⟨u, V, many, rent, rd, un, hs, ev, hB, hRb, hVH⟩ h1⟩
    · rw [him i e, h2' i e]
      rcases hO.2.2.1.1 i hi with k1 | ⟨b2, k1, k2, k3, k4, k5⟩
      · exact Or.inl k1
      · refine Or.inr ⟨b2, k1, k2, k3, k4, (k5.kept (fun a ha => ?_)).cg (fun k hk => h1' i k hi e hk)⟩
        rcases ha with ha | ha
        · exact ht a ha
        · have hap2 := hap i b2 hi e k1
          exact hk a (Nat.lt_of_lt_of_le ha.2 k5.lt) (fun z => z.elim (fun z => by have := z.2; have := ha.1; omega) (fun z => by have := z.1; have := z.2; have := ha.1; have := ha.2; omega))
  · by_cases e : j = 0
    · subst e
      rw [hb] at e0
      cases e0
      rw [him 1 (by omega)] at e1
      exact hap 1 b1 (by omega) (by omega) e1
    · have e : j = 1 := by omega
      subst e
      rw [hb] at e1
      cases e1
      rw [him 0 (by omega)] at e0
      exact (hap 0 b0 (by omega) (by omega) e0).symm
end IMG
theorem x_X0_from (l : Launch) (dC : Nat → ClassId) (dI : Nat → Nat → Nat) (dA : Nat → ClassId) (n c : Nat) (σ : mdT) (ab be : Int64) (x : Int32) : Met l yX0_from (ws_ yX0_from cX0_from 2 (some .int)) { frames := 4, cells := 0, slots := 0, locals := 240 } (xPc dC dI dA (RX dC dI dA c n σ ab be) [.ref n, .int x]) (xQi (S := Unit) (fun r_ _ => r_ = (sp_from σ x).1) (fun _ => (RX dC dI dA c n (sp_from σ x).2 ab be)) (xAA n)) 0 0 (xAA n) := by
  refine x_in (by decide) rfl (Nat.le_of_ble_eq_true rfl) (lv := [(0, .ref n), (1, .int x)]) rfl ?_
  intro p e s m below meth c_ X hN hnm hr hlk hP ls hl
  obtain ⟨T, ξ, V, V2, im, many, rent, rd, un, hs, ev, ty, hP, hR, ho, hO⟩ := hP
  have ho0 := ho
  have hR0 := hR
  have hV := hO.1
  have hT := hO.tb
  have hm := hR.m6
  have hr6 := hR.r6
  have hd6 := hR.d6
  have hu8 := hR.u8
  have hs12 := hR.h12
  have hS : va_S (xAA n) s.heap s.heap [] := va_S.rf
  refine lv_iload_n X.1 X.2.1 dX0_from_0 rfl (lv_at hl 1 rfl) ?_
  refine lv_i2l X.1 X.2.1 dX0_from_1 rfl ?_
  refine lv_lconst (v := 0) X.1 X.2.1 dX0_from_2 rfl ?_
  refine lv_lconst (v := 1) X.1 X.2.1 dX0_from_3 rfl ?_
  refine x_cSe (x_runSp X (As := [.long (Int32.toInt64 x), .long 0, .long 1]) (rest := []) (x_X0_in l (Int32.toInt64 x) 0 1) xks_X0_89 rfl rfl ⟨Nat.le_of_ble_eq_true rfl, Nat.le_of_ble_eq_true rfl⟩ hl.1 (Nat.le_of_ble_eq_true rfl) dX0_from_4 ⟨Nat.le_of_ble_eq_true rfl, Nat.le_of_ble_eq_true rfl⟩) ?_
  refine rn_zf (tgt := 15) X.1 X.2.1 dX0_from_7 (by decide) (fun c_7 => ?_) (fun c_7 => ?_)
  · obtain ⟨j, hj, hx_⟩ := rv_inIx (v := x) 1 rfl (by omega) c_7
    refine lv_aload_n X.1 X.2.1 dX0_from_15 rfl (lv_at hl 0 rfl) ?_
    refine xb_get (C := RX0) (T := TX0) (v := .ref (n + 87)) X in_X0 (ci := 0) rfl hP (j := 0) (by decide) (xe_x0 ..) 2 (by decide) q251 rfl rfl dX0_from_16 ?_
    refine lv_iload_n X.1 X.2.1 dX0_from_19 rfl (lv_at hl 1 rfl) ?_
    refine rn_co (y := nI j) hx_ ?_
    refine xb_aald X hP (j := 87) (by decide) (t := 5) (C := RX1) (f := im) rfl rfl (by omega) (by decide) dX0_from_20 ?_
    rcases hO.2.2.1.1 j (by omega) with ⟨hn1, hkp1⟩ | ⟨b_, hb1, hkp1, hb2, hTb, hSh⟩
    · refine x_vn hn1 ?_
      refine lv_ifnonnullN X.1 X.2.1 dX0_from_21 ?_
      refine lv_aload_n X.1 X.2.1 dX0_from_24 rfl (lv_at hl 0 rfl) ?_
      refine x_cWi (x_runV X hN hP (As := []) (rest := []) (x_X0_no l dC dI dA n ξ V V2 im ab be) xkv_X0_189 (x_recv (ci := 0) X.2.2.2.2.2 hP (j := 0) (by decide) (xe_x0 ..) rfl) rfl rfl ⟨Nat.le_of_ble_eq_true rfl, Nat.le_of_ble_eq_true rfl⟩ hl.1 (Nat.le_of_ble_eq_true rfl) dX0_from_25 ⟨Nat.le_of_ble_eq_true rfl, Nat.le_of_ble_eq_true rfl⟩) hS (fun q h => xAA_b h) (fun q h => xAA_b h) (fun r25 _ H locs hr1 hP1 hz1 hk1 hS => ?_)
      subst hr1
      have hP := hP1
      have hR := hR.cg (S' := fun i_ => (mdS ξ 89 1 (ξ 89 1 + nI 1)) (1 + i_)) (fun i hi => by first | rfl | simp (disch := omega) only [mdS_row, mdI_out, upRn] | (simp (disch := omega) only [mdS_row, mdI_out, upRn, *])) (fun _ _ => rfl)
      have ho := oR.b (k := 1) ho (by decide)
      exact x_pi (by first | (rw [sp_from, if_pos c_7, hx_, rv_cln (by omega), if_pos hkp1]; done) | (rw [sp_from, if_pos c_7, hx_, rv_cln (by omega), if_pos hkp1]; rfl)) X hr hlk hS dX0_from_28 (RX.same hP hR ho hO hz1 hk1 (fun i hi => by simp (disch := omega) only [mdS_row]) rfl rfl rfl)
    · refine x_vq hb1 ?_
      refine lv_ifnonnull (tgt := 29) X.1 X.2.1 dX0_from_21 (by decide) ?_
      refine lv_aload_n X.1 X.2.1 dX0_from_29 rfl (lv_at hl 0 rfl) ?_
      refine xb_get (C := RX0) (T := TX0) (v := .ref (n + 1)) X in_X0 (ci := 0) rfl hP (j := 0) (by decide) (xe_x0 ..) 0 (by decide) q248 rfl rfl dX0_from_30 ?_
      refine lv_aload_n X.1 X.2.1 dX0_from_33 rfl (lv_at hl 0 rfl) ?_
      refine xb_get (C := RX0) (T := TX0) (v := .ref (n + 87)) X in_X0 (ci := 0) rfl hP (j := 0) (by decide) (xe_x0 ..) 2 (by decide) q251 rfl rfl dX0_from_34 ?_
      refine lv_iload_n X.1 X.2.1 dX0_from_37 rfl (lv_at hl 1 rfl) ?_
      refine rn_co (y := nI j) hx_ ?_
      refine xb_aald X hP (j := 87) (by decide) (t := 5) (C := RX1) (f := im) rfl rfl (by omega) (by decide) dX0_from_38 ?_
      refine x_vq hb1 ?_
      obtain ⟨S2, W2, m2, r2, d2, u2, h2, e2, hB2, hR2, hV2⟩ := hSh
      refine x_cWv (x_runV X hN ⟨x_shop hP, hB2, hV2⟩ (As := [.ref b_]) (rest := []) (x_X1_takes l dC dI dA (n + 1) (fun i_ => ξ (1 + i_)) V S2 W2 b_ c m2 r2 d2 u2 h2 e2 (fun k => σ 1 (523 * j + k)) T hR2 (by omega)) xkv_X0_148 (x_recv (ci := 1) X.2.2.2.2.2 hP (j := 1) (by decide) (xe_x1 ..) rfl) rfl rfl ⟨Nat.le_of_ble_eq_true rfl, Nat.le_of_ble_eq_true rfl⟩ hl.1 (Nat.le_of_ble_eq_true rfl) dX0_from_39 ⟨Nat.le_of_ble_eq_true rfl, Nat.le_of_ble_eq_true rfl⟩) hS (fun q h => h.elim xAA_s (xAA_i hb2)) (fun q h => h.elim xAA_s (xAA_i hb2)) (fun u39 H locs hu39 hP1 hz1 hk1 hS => ?_)
      have hPn := x_shopI hP hP1.1 (fun q h1 h2 => hk1 q (bk_sz hP h1) (fun z => z.elim h2 (fun z => by have := z.1; have := h1.2; omega)))
      refine lv_iconst (v := nI 1) X.1 X.2.1 dX0_from_42 rfl ?_
      exact x_pi (by rw [sp_from, if_pos c_7, hx_, rv_cln (by omega), if_neg (by rw [hkp1]; decide)]; rfl) X hr hlk hS dX0_from_43 (RX.from (σ := σ) (σ' := mdN σ (fun k => if k < 523 then σ 1 (523 * j + k) else σ 0 k)) (ξ := ξ) hPn (xR_I (ξ := ξ) hu39) (hV2.kept (fun a ha => hk1 a (hO.2.2.2.1 a ha).1 (fun z => z.elim (fun z => (hO.2.2.2.1 a ha).2 ⟨by have := z.1; omega, by have := z.2; omega⟩) (hTb a ha)))) hP1.2 hR2 (ho.cg rfl rfl rfl rfl rfl rfl) hO hz1 hk1 (by omega) hb1 (fun i hi => mdI_out _ _ (by omega)) rfl (fun k hk => by show (if k < 523 then _ else _) = _; rw [if_pos hk]) rfl rfl)
  · refine lv_aload_n X.1 X.2.1 dX0_from_10 rfl (lv_at hl 0 rfl) ?_
    refine x_cWi (x_runV X hN hP (As := []) (rest := []) (x_X0_bad l dC dI dA n ξ V V2 im ab be) xkv_X0_110 (x_recv (ci := 0) X.2.2.2.2.2 hP (j := 0) (by decide) (xe_x0 ..) rfl) rfl rfl ⟨Nat.le_of_ble_eq_true rfl, Nat.le_of_ble_eq_true rfl⟩ hl.1 (Nat.le_of_ble_eq_true rfl) dX0_from_11 ⟨Nat.le_of_ble_eq_true rfl, Nat.le_of_ble_eq_true rfl⟩) hS (fun q h => xAA_b h) (fun q h => xAA_b h) (fun r11 _ H locs hr1 hP1 hz1 hk1 hS => ?_)
    subst hr1
    have hP := hP1
    have hR := hR.cg (S' := fun i_ => (mdS ξ 89 0 (ξ 89 0 + nI 1)) (1 + i_)) (fun i hi => by first | rfl | simp (disch := omega) only [mdS_row, mdI_out, upRn] | (simp (disch := omega) only [mdS_row, mdI_out, upRn, *])) (fun _ _ => rfl)
    have ho := oR.b (k := 0) ho (by decide)
    exact x_pi (by first | (rw [sp_from, if_neg (rv_nf c_7)]; done) | (rw [sp_from, if_neg (rv_nf c_7)]; rfl)) X hr hlk hS dX0_from_14 (RX.same hP hR ho hO hz1 hk1 (fun i hi => by simp (disch := omega) only [mdS_row]) rfl rfl rfl)
theorem xE_im {dA : Nat → ClassId} {n : Nat} {ξ : mdT} {V V2 im im' : Nat → Option Nat} {ab be : Int64} {i : Nat} : va_up (xE dA n ξ V V2 im ab be) 87 (xQ dA 5 2 im') i = xE dA n ξ V V2 im' ab be i := by
  by_cases h : i = 87
  · subst h; rw [va_up_self]; rfl
  · rw [va_up_ne _ _ h]
    unfold xE xF
    rw [if_neg h, if_neg h]
theorem im_a {σ : mdT} {j k : Nat} {x : Int32} (hk : k < 523) : mdS (mdR σ 1 (fun k => if 523 * j ≤ k ∧ k < 523 * j + 523 then σ 0 (k - 523 * j) else σ 1 k)) 2 j x 1 (523 * j + k) = σ 0 k := by
  show (if 523 * j ≤ 523 * j + k ∧ 523 * j + k < 523 * j + 523 then σ 0 (523 * j + k - 523 * j) else σ 1 (523 * j + k)) = _
  rw [if_pos ⟨by omega, by omega⟩, Nat.add_sub_cancel_left]
theorem im_b {σ : mdT} {i j k : Nat} {x : Int32} (hi : i < 2) (hj : j < 2) (he : i ≠ j) (hk : k < 523) : mdS (mdR σ 1 (fun k => if 523 * j ≤ k ∧ k < 523 * j + 523 then σ 0 (k - 523 * j) else σ 1 k)) 2 j x 1 (523 * i + k) = σ 1 (523 * i + k) := by
  show (if 523 * j ≤ 523 * i + k ∧ 523 * i + k < 523 * j + 523 then σ 0 (523 * i + k - 523 * j) else σ 1 (523 * i + k)) = _
  rw [if_neg (by omega)]
theorem x_X0_image (l : Launch) (dC : Nat → ClassId) (dI : Nat → Nat → Nat) (dA : Nat → ClassId) (n c : Nat) (σ : mdT) (ab be : Int64) (x : Int32) : Met l yX0_image (ws_ yX0_image cX0_image 2 (some .int)) { frames := 4, cells := 43, slots := 547, locals := 240 } (xPc dC dI dA (RX dC dI dA c n σ ab be) [.ref n, .int x]) (xQi (S := Unit) (fun r_ _ => r_ = (sp_image σ x).1) (fun _ => (RX dC dI dA c n (sp_image σ x).2 ab be)) (xAA n)) 43 547 (xAA n) := by
  refine x_in (by decide) rfl (Nat.le_of_ble_eq_true rfl) (lv := [(0, .ref n), (1, .int x)]) rfl ?_
  intro p e s m below meth c_ X hN hnm hr hlk hP ls hl
  obtain ⟨T, ξ, V, V2, im, many, rent, rd, un, hs, ev, ty, hP, hR, ho, hO⟩ := hP
  have ho0 := ho
  have hR0 := hR
  have hV := hO.1
  have hT := hO.tb
  have hm := hR.m6
  have hr6 := hR.r6
  have hd6 := hR.d6
  have hu8 := hR.u8
  have hs12 := hR.h12
  have hS : va_S (xAA n) s.heap s.heap [] := va_S.rf
  refine lv_iload_n X.1 X.2.1 dX0_image_0 rfl (lv_at hl 1 rfl) ?_
  refine lv_i2l X.1 X.2.1 dX0_image_1 rfl ?_
  refine lv_lconst (v := 0) X.1 X.2.1 dX0_image_2 rfl ?_
  refine lv_lconst (v := 1) X.1 X.2.1 dX0_image_3 rfl ?_
  refine x_cSe (x_runSp X (As := [.long (Int32.toInt64 x), .long 0, .long 1]) (rest := []) (x_X0_in l (Int32.toInt64 x) 0 1) xks_X0_89 rfl rfl ⟨Nat.le_of_ble_eq_true rfl, Nat.le_of_ble_eq_true rfl⟩ hl.1 (Nat.le_of_ble_eq_true rfl) dX0_image_4 ⟨Nat.le_of_ble_eq_true rfl, Nat.le_of_ble_eq_true rfl⟩) ?_
  refine rn_zf (tgt := 15) X.1 X.2.1 dX0_image_7 (by decide) (fun c_7 => ?_) (fun c_7 => ?_)
  · obtain ⟨j, hj, hx_⟩ := rv_inIx (v := x) 1 rfl (by omega) c_7
    refine lv_aload_n X.1 X.2.1 dX0_image_15 rfl (lv_at hl 0 rfl) ?_
    refine xb_get (C := RX0) (T := TX0) (v := .ref (n + 87)) X in_X0 (ci := 0) rfl hP (j := 0) (by decide) (xe_x0 ..) 2 (by decide) q251 rfl rfl dX0_image_16 ?_
    refine lv_iload_n X.1 X.2.1 dX0_image_19 rfl (lv_at hl 1 rfl) ?_
    refine rn_co (y := nI j) hx_ ?_
    refine xb_aald X hP (j := 87) (by decide) (t := 5) (C := RX1) (f := im) rfl rfl (by omega) (by decide) dX0_image_20 ?_
    rcases hO.2.2.1.1 j (by omega) with ⟨hn1, hkp1⟩ | ⟨b_, hb1, hkp1, hb2, hTb, hSh⟩
    · refine x_vn hn1 ?_
      refine lv_ifnonnullN X.1 X.2.1 dX0_image_21 ?_
      refine lv_aload_n X.1 X.2.1 dX0_image_24 rfl (lv_at hl 0 rfl) ?_
      refine xb_get (C := RX0) (T := TX0) (v := .ref (n + 87)) X in_X0 (ci := 0) rfl hP (j := 0) (by decide) (xe_x0 ..) 2 (by decide) q251 rfl rfl dX0_image_25 ?_
      refine lv_iload_n X.1 X.2.1 dX0_image_28 rfl (lv_at hl 1 rfl) ?_
      refine rn_co (y := nI j) hx_ ?_
      refine xb_new (b := s.heap.size) (N := 0) (C := RX1) (T := TX1) (NN := 11) (ci := 1) X in_X1 tyX1 tyX1_ok rfl q91 q92 q62 bk_0 rfl hS (fs := [.null, .null, .int 0, .null, .null, .int 0, .null, .int 0, .null, .null, .int 0]) (fun j_ hj_ => by match j_, hj_ with | 0, _ => rfl | 1, _ => rfl | 2, _ => rfl | 3, _ => rfl | 4, _ => rfl | 5, _ => rfl | 6, _ => rfl | 7, _ => rfl | 8, _ => rfl | 9, _ => rfl | 10, _ => rfl) (Nat.le_of_ble_eq_true rfl) (Nat.le_of_ble_eq_true rfl) dX0_image_29 (fun H hP0 hsz ho2 hS => ?_)
      have hP := hP.kept (fun q hq => ho2 q (bk_sz hP hq))
      refine lv_dup X.1 X.2.1 dX0_image_32 rfl ?_
      have hn112 := hO.2.2.2.2
      refine x_cWv (x_runIN X hN (b := s.heap.size) ⟨hsz, (hP0 0 Nat.zero_lt_one)⟩ (As := []) (rest := [.ref s.heap.size, .int (nI j), .ref (n + 87)]) (xi_X1 l dC dI dA s.heap.size) xkin_X0_29 rfl rfl ⟨Nat.le_of_ble_eq_true rfl, Nat.le_of_ble_eq_true rfl⟩ hl.1 (Nat.le_of_ble_eq_true rfl) dX0_image_33 ⟨Nat.le_of_ble_eq_true rfl, Nat.le_of_ble_eq_true rfl⟩) hS (fun q h => ⟨by have : s.heap.size ≤ q := h; omega, fun z => by have : s.heap.size ≤ q := h; omega⟩) (fun q h => ⟨by have : s.heap.size ≤ q := h; omega, fun z => by have : s.heap.size ≤ q := h; omega⟩) (fun _ H locs _ hQ1 hz1 hk1 hS => ?_)
      have hP := hP.kept (fun q hq => hk1 q (bk_sz hP hq) (Nat.not_le.mpr (by have := hq.2; omega)))
      have hBb := hQ1.1
      refine xc_aast (E := RX1) (a := n + 87) (t := 5) (n := 2) (f := im) (v := s.heap.size) X (hP 87 (by decide)) hS (xAA_b ⟨by omega, by omega⟩) rfl (cell_any X.2.2.2.2.2 (ci := 1) rfl (hBb 0 (by decide))) (i := j) (by omega) (by decide) dX0_image_36 (fun H locs hV1_ hz1_ ho1 hS => ?_)
      have hP : bkP dC dI n 96 (xE dA n ξ V V2 (va_up im j (some s.heap.size)) ab be) H := (hP.one (j := 87) hV1_ (fun q _ hq => ho1 q hq)).e (fun i_ _ => xE_im)
      have hBb := hBb.kept (fun q hq => ho1 q (by have := hq.1; omega))
      have hb1 : va_up im j (some s.heap.size) j = some s.heap.size := va_up_self _ _ _
      have hkold : ∀ q, q < s.heap.size → ¬ bkA n 96 q → H[q]? = s.heap[q]? := fun q h1 h2 => by rw [ho1 q (fun z => h2 ⟨by omega, by omega⟩), hk1 q (by have := hsz; omega) (Nat.not_le.mpr h1), ho2 q h1]
      have hzold : s.heap.size ≤ H.size := by have := hQ1.2; omega
      refine lv_aload_n X.1 X.2.1 dX0_image_37 rfl (lv_at hl 0 rfl) ?_
      refine xb_get (C := RX0) (T := TX0) (v := .ref (n + 87)) X in_X0 (ci := 0) rfl hP (j := 0) (by decide) (xe_x0 ..) 2 (by decide) q251 rfl rfl dX0_image_38 ?_
      refine lv_iload_n X.1 X.2.1 dX0_image_41 rfl (lv_at hl 1 rfl) ?_
      refine rn_co (y := nI j) hx_ ?_
      refine xb_aald X hP (j := 87) (by decide) (t := 5) (C := RX1) (f := (va_up im j (some s.heap.size))) rfl rfl (by omega) (by decide) dX0_image_42 ?_
      refine x_vq hb1 ?_
      refine lv_aload_n X.1 X.2.1 dX0_image_43 rfl (lv_at hl 0 rfl) ?_
      refine xb_get (C := RX0) (T := TX0) (v := .ref (n + 1)) X in_X0 (ci := 0) rfl hP (j := 0) (by decide) (xe_x0 ..) 0 (by decide) q248 rfl rfl dX0_image_44 ?_
      refine x_cWv (x_runV X hN ⟨hBb, x_shop hP, (hV.kept (fun a ha => hkold a (hO.2.2.2.1 a ha).1 (fun z => (hO.2.2.2.1 a ha).2 ⟨z.1, by have := z.2; omega⟩)))⟩ (As := [.ref (n + 1)]) (rest := []) (x_X1_takes l dC dI dA s.heap.size (fun _ _ => 0) (fun _ => none) (fun i_ => ξ (1 + i_)) V (n + 1) c many rent rd un hs ev (σ 0) T hR (by have := hO.2.2.2.2; omega)) xkv_X0_148 (x_recv (ci := 1) X.2.2.2.2.2 hBb (j := 0) (by decide) (xe_s0 ..) rfl) rfl rfl ⟨Nat.le_of_ble_eq_true rfl, Nat.le_of_ble_eq_true rfl⟩ hl.1 (Nat.le_of_ble_eq_true rfl) dX0_image_47 ⟨Nat.le_of_ble_eq_true rfl, Nat.le_of_ble_eq_true rfl⟩) hS (fun q h => h.elim (xAA_i hO.2.2.2.2) xAA_s) (fun q h => h.elim (xAA_i hO.2.2.2.2) xAA_s) (fun u47 H2 locs hu47 hP1 hz2 hk2 hS => ?_)
      have hPn := x_shopI hP hP1.2 (fun q h1 h2 => hk2 q (bk_sz hP h1) (fun z => z.elim (fun z => by have := z.1; have := h1.2; have := hO.2.2.2.2; omega) h2))
      refine lv_iconst (v := nI 1) X.1 X.2.1 dX0_image_50 rfl ?_
      refine W.pad (cells2 := 43) (slots2 := 547) (Nat.le_of_ble_eq_true rfl) (Nat.le_of_ble_eq_true rfl) ?_
      exact x_pi (by rw [sp_image, if_pos c_7, hx_, rv_cln (by omega)]; rfl) X hr hlk hS dX0_image_51 (RX.image (σ := σ) (σ' := mdS (mdR σ 1 (fun k => if 523 * j ≤ k ∧ k < 523 * j + 523 then σ 0 (k - 523 * j) else σ 1 k)) 2 j 1) (ξ := ξ) (im := im) hPn (xR_I (ξ := ξ) hR) hP1.1 hu47 (ho.cg rfl rfl rfl rfl rfl rfl) hO (Nat.le_trans hzold hz2) (fun q h1 h2 => by rw [hk2 q (Nat.lt_of_lt_of_le h1 hzold) (fun z => h2 (z.elim Or.inr (fun z => Or.inl ⟨by have := z.1; omega, by have := z.2; omega⟩))), hkold q h1 (fun z => h2 (Or.inl z))]) (by omega) hb1 (fun i he => va_up_ne _ _ he) hO.2.2.2.2 (fun a ha z => by have := (hO.2.2.2.1 a ha).1; have := z.1; omega) (fun i b2 hi he h => by rcases hO.2.2.1.1 i hi with k1 | ⟨b3, k1, k2, k3, k4, k5⟩; (rw [k1.1] at h; cases h); (rw [k1] at h; cases h; exact Or.inr k5.lt)) (fun i hi => mdI_out _ _ (by omega)) rfl (fun k hk => im_a hk) (fun i k hi he hk => im_b hi (by omega) he hk) (mdS_eq _ _ _ _) (fun i he => mdS_ne he))
    · refine x_vq hb1 ?_
      refine lv_ifnonnull (tgt := 37) X.1 X.2.1 dX0_image_21 (by decide) ?_
      refine lv_aload_n X.1 X.2.1 dX0_image_37 rfl (lv_at hl 0 rfl) ?_
      refine xb_get (C := RX0) (T := TX0) (v := .ref (n + 87)) X in_X0 (ci := 0) rfl hP (j := 0) (by decide) (xe_x0 ..) 2 (by decide) q251 rfl rfl dX0_image_38 ?_
      refine lv_iload_n X.1 X.2.1 dX0_image_41 rfl (lv_at hl 1 rfl) ?_
      refine rn_co (y := nI j) hx_ ?_
      refine xb_aald X hP (j := 87) (by decide) (t := 5) (C := RX1) (f := im) rfl rfl (by omega) (by decide) dX0_image_42 ?_
      refine x_vq hb1 ?_
      refine lv_aload_n X.1 X.2.1 dX0_image_43 rfl (lv_at hl 0 rfl) ?_
      refine xb_get (C := RX0) (T := TX0) (v := .ref (n + 1)) X in_X0 (ci := 0) rfl hP (j := 0) (by decide) (xe_x0 ..) 0 (by decide) q248 rfl rfl dX0_image_44 ?_
      obtain ⟨Sb, Vb, mb, rb, db, ub, hb_, eb, hBb, hRb, hVb⟩ := hSh
      have hkold : ∀ q, q < s.heap.size → ¬ bkA n 96 q → s.heap[q]? = s.heap[q]? := fun _ _ _ => rfl
      have hzold : s.heap.size ≤ s.heap.size := Nat.le_refl _
      refine x_cWv (x_runV X hN ⟨hBb, x_shop hP, hV⟩ (As := [.ref (n + 1)]) (rest := []) (x_X1_takes l dC dI dA b_ Sb Vb (fun i_ => ξ (1 + i_)) V (n + 1) c many rent rd un hs ev (σ 0) T hR (by have := hb2; omega)) xkv_X0_148 (x_recv (ci := 1) X.2.2.2.2.2 hBb (j := 0) (by decide) (xe_s0 ..) rfl) rfl rfl ⟨Nat.le_of_ble_eq_true rfl, Nat.le_of_ble_eq_true rfl⟩ hl.1 (Nat.le_of_ble_eq_true rfl) dX0_image_47 ⟨Nat.le_of_ble_eq_true rfl, Nat.le_of_ble_eq_true rfl⟩) hS (fun q h => h.elim (xAA_i hb2) xAA_s) (fun q h => h.elim (xAA_i hb2) xAA_s) (fun u47 H2 locs hu47 hP1 hz2 hk2 hS => ?_)
      have hPn := x_shopI hP hP1.2 (fun q h1 h2 => hk2 q (bk_sz hP h1) (fun z => z.elim (fun z => by have := z.1; have := h1.2; have := hb2; omega) h2))
      refine lv_iconst (v := nI 1) X.1 X.2.1 dX0_image_50 rfl ?_
      refine W.pad (cells2 := 43) (slots2 := 547) (Nat.le_of_ble_eq_true rfl) (Nat.le_of_ble_eq_true rfl) ?_
      exact x_pi (by rw [sp_image, if_pos c_7, hx_, rv_cln (by omega)]; rfl) X hr hlk hS dX0_image_51 (RX.image (σ := σ) (σ' := mdS (mdR σ 1 (fun k => if 523 * j ≤ k ∧ k < 523 * j + 523 then σ 0 (k - 523 * j) else σ 1 k)) 2 j 1) (ξ := ξ) (im := im) hPn (xR_I (ξ := ξ) hR) hP1.1 hu47 (ho.cg rfl rfl rfl rfl rfl rfl) hO (Nat.le_trans hzold hz2) (fun q h1 h2 => by rw [hk2 q (Nat.lt_of_lt_of_le h1 hzold) (fun z => h2 (z.elim Or.inr (fun z => Or.inl ⟨by have := z.1; omega, by have := z.2; omega⟩))), hkold q h1 (fun z => h2 (Or.inl z))]) (by omega) hb1 (fun _ _ => rfl) hb2 hTb (fun i b2 hi he h => by rcases (show (i = 0 ∧ j = 1) ∨ (i = 1 ∧ j = 0) by omega) with ⟨e1, e2⟩ | ⟨e1, e2⟩ <;> subst e1 <;> subst e2 <;> first | exact (hO.2.2.1.2 _ _ h hb1).symm | exact hO.2.2.1.2 _ _ hb1 h) (fun i hi => mdI_out _ _ (by omega)) rfl (fun k hk => im_a hk) (fun i k hi he hk => im_b hi (by omega) he hk) (mdS_eq _ _ _ _) (fun i he => mdS_ne he))
  · refine lv_aload_n X.1 X.2.1 dX0_image_10 rfl (lv_at hl 0 rfl) ?_
    refine x_cWi (x_runV X hN hP (As := []) (rest := []) (x_X0_bad l dC dI dA n ξ V V2 im ab be) xkv_X0_110 (x_recv (ci := 0) X.2.2.2.2.2 hP (j := 0) (by decide) (xe_x0 ..) rfl) rfl rfl ⟨Nat.le_of_ble_eq_true rfl, Nat.le_of_ble_eq_true rfl⟩ hl.1 (Nat.le_of_ble_eq_true rfl) dX0_image_11 ⟨Nat.le_of_ble_eq_true rfl, Nat.le_of_ble_eq_true rfl⟩) hS (fun q h => xAA_b h) (fun q h => xAA_b h) (fun r11 _ H locs hr1 hP1 hz1 hk1 hS => ?_)
    subst hr1
    have hP := hP1
    have hR := hR.cg (S' := fun i_ => (mdS ξ 89 0 (ξ 89 0 + nI 1)) (1 + i_)) (fun i hi => by first | rfl | simp (disch := omega) only [mdS_row, mdI_out, upRn] | (simp (disch := omega) only [mdS_row, mdI_out, upRn, *])) (fun _ _ => rfl)
    have ho := oR.b (k := 0) ho (by decide)
    refine W.pad (cells2 := 43) (slots2 := 547) (Nat.le_of_ble_eq_true rfl) (Nat.le_of_ble_eq_true rfl) ?_
    exact x_pi (by first | (rw [sp_image, if_neg (rv_nf c_7)]; done) | (rw [sp_image, if_neg (rv_nf c_7)]; rfl)) X hr hlk hS dX0_image_14 (RX.same hP hR ho hO hz1 hk1 (fun i hi => by simp (disch := omega) only [mdS_row]) rfl rfl rfl)
