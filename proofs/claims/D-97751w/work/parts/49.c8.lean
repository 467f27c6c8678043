set_option maxRecDepth 100000
/-! the component: let, night -/
theorem xkv_X0_192 : xKV RX0 yX1_remembers cX1_remembers 2 none 192 0 := ⟨q652, q653, q654, q62, q655, by decide +kernel⟩
theorem xks_X0_202 : xKS RX0 yJ6_fill cJ6_fill 4 none 202 2 := ⟨q664, q665, q81, q666, by decide +kernel⟩
theorem xkv_X0_198 : xKV RX0 yX2_tells cX2_tells 3 none 198 2 := ⟨q656, q657, q658, q63, q659, by decide +kernel⟩
def qE (dA : Nat → ClassId) (γ : mdT) (i : Nat) : va_E := xI dA 6 (γ i)
theorem qE_S (dA : Nat → ClassId) (γ : mdT) (j k : Nat) (v : Int32) (i : Nat) : va_up (qE dA γ) j (xI dA 6 (upd (γ j) k v)) i = qE dA (mdS γ j k v) i := by
  by_cases h : i = j
  · subst h; rw [va_up_self]; unfold qE; congr 3; funext q; rw [mdS_at]; simp [upd]
  · rw [va_up_ne _ _ h]; unfold qE; rw [mdS_row _ _ _ h]
def flT (γ : mdT) (v : Int32) (i : Nat) : mdT := fun a k => if a = 0 ∧ k < i then v else γ a k
theorem flT_0 (γ : mdT) (v : Int32) : flT γ v 0 = γ := by funext a k; unfold flT; rw [if_neg (by omega)]
theorem flT_s (γ : mdT) (v : Int32) (i : Nat) : mdS (flT γ v i) 0 i v = flT γ v (i + 1) := by
  funext a k
  rw [mdS_at]
  unfold flT
  grind
theorem qE_ext {dC : Nat → ClassId} {dI : Nat → Nat → Nat} {dA : Nat → ClassId} {q : Nat} {γ γ' : mdT} {H : Heap} (h : bkP dC dI q 1 (qE dA γ) H) (he : ∀ k, k < 6 → γ 0 k = γ' 0 k) : bkP dC dI q 1 (qE dA γ') H := h.ext (fun r hr => by
  obtain rfl : r = 0 := by omega
  exact xSame.i he)
/-- one cell of a block changed -/
theorem bkP.one {dC : Nat → ClassId} {dI : Nat → Nat → Nat} {b N j : Nat} {E : Nat → va_E} {x : va_E} {H H1 : Heap} (h : bkP dC dI b N E H) (hg : va_at (dC, dI) rvCl (b + j, x) H1) (hk : ∀ q, bkA b N q → q ≠ b + j → H1[q]? = H[q]?) : bkP dC dI b N (va_up E j x) H1 := by
  intro i hi
  by_cases e : i = j
  · subst e; rw [va_up_self]; exact hg
  · rw [va_up_ne _ _ e]
    exact (h i hi).kept (hk _ ⟨by show b ≤ b + i; omega, by show b + i < b + N; omega⟩ (by show b + i ≠ b + j; omega))
theorem x_J6_fill (l : Launch) (dC : Nat → ClassId) (dI : Nat → Nat → Nat) (dA : Nat → ClassId) (q : Nat) (γ : mdT) (v : Int32) : Met l yJ6_fill (ws_ yJ6_fill cJ6_fill 4 none) { frames := 1, cells := 0, slots := 0, locals := 60 } (xPc dC dI dA (bkP dC dI q 1 (qE dA γ)) [.ref q, .int v]) (xEv (bkP dC dI q 1 (qE dA (fun _ _ => v))) (bkA q 1)) 0 0 (bkA q 1) := by
  refine x_in (by decide) rfl (Nat.le_of_ble_eq_true rfl) (lv := [(0, .ref q), (1, .int v)]) rfl ?_
  intro p e s m below meth c_ X hN hnm hr hlk hP ls hl
  have hS : va_S (bkA q 1) s.heap s.heap [] := va_S.rf
  have K5 : ∀ (k5_ : Nat) (i : Nat) (γ1 : mdT) (H : Heap) (locs : List Loc), 6 - i = k5_ → (i ≤ 6) → (γ1 = flT γ v i) → bkP dC dI q 1 (qE dA γ1) H → va_S (bkA q 1) s.heap H locs → ∀ ls, lv_has ls 4 [(0, .ref q), (1, .int v), (2, .int (nI i)), (3, .int (nI 6))] → W p l e { frames := 1, cells := 0, slots := 0, locals := 60 } s m [.ref q, .int v].toArray below meth c_ H locs 0 0 (MQ below (xEv (bkP dC dI q 1 (qE dA (fun _ _ => v))) (bkA q 1)) [.ref q, .int v].toArray s 0 0 (bkA q 1)) (F0 m 5 ls []) := by
    intro k5_
    induction k5_ using Nat.strongRecOn with
    | _ k5_ ih5 =>
      intro i γ1 H locs hm5_ hi hγ hP hS ls hl
      refine lv_iload_n X.1 X.2.1 dJ6_fill_5 rfl (lv_at hl 2 rfl) ?_
      refine lv_iload_n X.1 X.2.1 dJ6_fill_6 rfl (lv_at hl 3 rfl) ?_
      refine rn_icmp_ge (tgt := 20) X.1 X.2.1 (by omega) (by omega) dJ6_fill_7 (by decide) (fun c_7 => ?_) (fun c_7 => ?_)
      · exact x_rv () X hr hlk hS dJ6_fill_20 trivial (qE_ext hP (fun k hk => by rw [hγ]; unfold flT; rw [if_pos ⟨rfl, by omega⟩]))
      · refine lv_aload_n X.1 X.2.1 dJ6_fill_10 rfl (lv_at hl 0 rfl) ?_
        refine lv_iload_n X.1 X.2.1 dJ6_fill_11 rfl (lv_at hl 2 rfl) ?_
        refine lv_iload_n X.1 X.2.1 dJ6_fill_12 rfl (lv_at hl 1 rfl) ?_
        refine xb_iast (E' := qE dA (mdS γ1 0 i v)) X hP (fun _ h => h) hS (j := 0) (by decide) (n := 6) (f := γ1 0) rfl (by omega) (by decide) (fun i_ _ => qE_S dA γ1 0 i v i_) dJ6_fill_13 (fun H locs hP hS => ?_)
        refine rn_iinc (lv' := [(2, .int (nI (i + 1))), (0, .ref q), (1, .int v), (3, .int (nI 6))]) X.1 X.2.1 dJ6_fill_14 hl (k := 2) rfl (by decide) rfl (fun ls hl => ?_)
        refine lv_goto (tgt := 5) X.1 X.2.1 dJ6_fill_17 (by decide) ?_
        exact ih5 _ (by omega) (i + 1) (mdS γ1 0 i v) _ _ rfl (by omega) (by rw [hγ]; exact flT_s γ v i) hP hS ls (lv_sub hl [1, 2, 0, 3] rfl)
  refine lv_iconst (v := nI 0) X.1 X.2.1 dJ6_fill_0 rfl ?_
  refine lv_istore_n (lv' := [(2, .int (nI 0)), (0, .ref q), (1, .int v)]) X.1 X.2.1 dJ6_fill_1 rfl hl (by decide) rfl (fun ls hl => ?_)
  refine lv_aload_n X.1 X.2.1 dJ6_fill_2 rfl (lv_at hl 1 rfl) ?_
  refine xb_alen X hP (j := 0) (by decide) (t := 0) (n := 6) rfl rfl dJ6_fill_3 ?_
  refine lv_istore_n (lv' := [(3, .int (nI 6)), (2, .int (nI 0)), (0, .ref q), (1, .int v)]) X.1 X.2.1 dJ6_fill_4 rfl hl (by decide) rfl (fun ls hl => ?_)
  exact K5 _ 0 γ _ _ rfl (by omega) (flT_0 γ v).symm hP hS ls (lv_sub hl [2, 3, 1, 0] rfl)
theorem rv_keep_lo {f : Nat → Int32} {un k : Nat} (h6 : k ≠ 6) (hk : k < 115) : rv_keep f un k = f k := by
  unfold rv_keep rv_shift; rw [if_neg h6, if_neg (by omega), if_neg (by omega)]
theorem sh_night {c many rent rd un hs ev : Nat} {f g : Nat → Int32} {S S' : mdT} (h : shR c many rent rd un hs ev f S) (hg : ∀ k, g k = if k = 2 then nI (ev + 1) else rv_free f many k) (h6 : S' 6 0 = S 6 0 ∧ S' 6 1 = nI (ev + 1) ∧ S' 6 2 = S 6 2) (h8 : ∀ k, k < 6 → S' 8 k = -1) (hi : ∀ i, i ≠ 6 → i ≠ 8 → S' i = S i) : shR (c + 1) many rent rd un hs (ev + 1) g S' := by
  have hm6 := h.m6
  have hr6 := h.r6
  have hs12 := h.h12
  have hd6 := h.d6
  have hevc := h.evc
  have ek : ∀ k, k ≠ 2 → ¬ (7 ≤ k ∧ k < 7 + 6 * many ∧ (k - 7) % 6 = 4) → g k = f k := fun k h2 hl => by
    rw [hg, if_neg h2]; unfold rv_free; rw [if_neg hl]
  refine ⟨h.1, ⟨by rw [ek _ (by omega) (by omega)]; exact h.f0, by rw [ek _ (by omega) (by omega)]; exact h.f1, by rw [ek _ (by omega) (by omega)]; exact h.f5, by rw [ek _ (by omega) (by omega)]; exact h.f6⟩, by rw [hi 0 (by omega) (by omega)]; exact h.2.2.1, fun w hw => ?_, fun r hr => ?_, fun k hk => ?_, ⟨h.h12, by omega, (ek 4 (by omega) (by omega)).trans h.f4, (hg 2).trans (if_pos rfl), ?_, h6.2.1, h6.2.2.trans h.tol, fun r hr => ?_, fun w hw => ?_, fun k hk => ?_, fun k hk => ?_⟩, fun k hk => ?_⟩
  · rw [hi 2 (by omega) (by omega), ek _ (by omega) (by omega)]; exact h.thg hw
  · rw [hi 3 (by omega) (by omega), hi 4 (by omega) (by omega), ek _ (by omega) (by omega), ek _ (by omega) (by omega)]; exact ⟨h.wal hr, h.wan hr⟩
  · rw [hi 5 (by omega) (by omega), ek _ (by omega) (by omega)]; exact h.rea hk
  · exact h6.1.trans (h.tak.trans (ek 3 (by omega) (by omega)).symm)
  · rw [rv_snap_p _ (by omega)]
    show S' 7 r = _
    rw [hi 7 (by omega) (by omega), ek _ (by omega) (by omega)]; exact h.pur hr
  · rw [rv_snap_l _ (by omega)]
    show S' 8 w = _
    rw [h8 w (by omega), hg, if_neg (by omega)]; unfold rv_free; rw [if_pos (by omega)]
  · rw [rv_snap_h]
    show S' 9 k = _
    rw [hi 9 (by omega) (by omega), ek _ (by omega) (by omega)]; exact h.his hk
  · rw [show 15 + 3 * k + 2 = 15 + (3 * k + 2) by omega, rv_snap_h, ek _ (by omega) (by omega)]; exact h.hn hk
  · obtain ⟨a, b, q⟩ := h.was hk
    exact ⟨a, b, (q.cg (fun r hr => hi _ (by omega) (by omega)) (fun j hj => ek _ (by omega) (by omega)) h.m6 h.r6).up (by omega)⟩
theorem x_X0_night (l : Launch) (dC : Nat → ClassId) (dI : Nat → Nat → Nat) (dA : Nat → ClassId) (n c : Nat) (σ : mdT) (ab be : Int64) : Met l yX0_night (ws_ yX0_night cX0_night 1 (some .int)) { frames := 4, cells := 0, slots := 0, locals := 240 } (xPc dC dI dA (RX dC dI dA c n σ ab be) [.ref n]) (xQi (S := Unit) (fun r_ _ => r_ = (sp_night σ).1) (fun _ => (RX dC dI dA (c + 1) n (sp_night σ).2 ab be)) (bkA n 96)) 0 0 (bkA n 96) := by
  refine x_in (by decide) rfl (Nat.le_of_ble_eq_true rfl) (lv := [(0, .ref n)]) rfl ?_
  intro p e s m below meth c_ X hN hnm hr hlk hP ls hl
  obtain ⟨T, ξ, V, V2, im, many, rent, rd, un, hs, ev, ty, hP, hR, ho, hO⟩ := hP
  have ho0 := ho
  have hR0 := hR
  have hV := hO.1
  have hT := hO.tb
  have hm := hR.m6
  have hr6 := hR.r6
  have hd6 := hR.d6
  have hu8 := hR.u8
  have hs12 := hR.h12
  have hS : va_S (bkA n 96) s.heap s.heap [] := va_S.rf
  refine lv_aload_n X.1 X.2.1 dX0_night_0 rfl (lv_at hl 0 rfl) ?_
  refine xb_get (C := RX0) (T := TX0) (v := .ref (n + 1)) X in_X0 (ci := 0) rfl hP (j := 0) (by decide) (xe_x0 ..) 0 (by decide) q248 rfl rfl dX0_night_1 ?_
  refine x_cWv (x_runV X hN (x_shop hP) (As := []) (rest := []) (x_X1_remembers l dC dI dA (n + 1) (fun i_ => ξ (1 + i_)) V c many rent rd un hs ev (σ 0) hR) xkv_X0_192 (x_recv (ci := 1) X.2.2.2.2.2 hP (j := 1) (by decide) (xe_x1 ..) rfl) rfl rfl ⟨Nat.le_of_ble_eq_true rfl, Nat.le_of_ble_eq_true rfl⟩ hl.1 (Nat.le_of_ble_eq_true rfl) dX0_night_4 ⟨Nat.le_of_ble_eq_true rfl, Nat.le_of_ble_eq_true rfl⟩) hS (fun q h => by unfold bkA at *; omega) (fun q h => by unfold bkA at *; omega) (fun u4 H locs hu4 hP1 hz1 hk1 hS => ?_)
  have hP := x_shopI hP hP1 (fun q h1 h2 => hk1 q (bk_sz hP h1) h2)
  have hR := xR_I (ξ := ξ) hu4
  have hRk := hR
  refine lv_aload_n X.1 X.2.1 dX0_night_7 rfl (lv_at hl 0 rfl) ?_
  refine xb_get (C := RX0) (T := TX0) (v := .ref (n + 1)) X in_X0 (ci := 0) rfl hP (j := 0) (by decide) (xe_x0 ..) 0 (by decide) q248 rfl rfl dX0_night_8 ?_
  refine xb_getN (host := "RentedViews") (C := RX1) (T := TX1) (v := .ref (n + 7)) X in_X1 (ci := 1) rfl hP (j := 1) (by decide) (xe_x1 ..) 8 (by decide) (x_nest hN q160 rfl) rfl rfl dX0_night_11 ?_
  refine xb_getN (host := "RentedViews") (C := RX2) (T := TX2) (v := .ref (n + 9)) X in_X2 (ci := 2) rfl hP (j := 7) (by decide) (xe_x7 ..) 1 (by decide) (x_nest hN q110 rfl) rfl rfl dX0_night_14 ?_
  refine lv_iconst (v := (-1)) X.1 X.2.1 dX0_night_17 rfl ?_
  have hQ : bkP dC dI (n + 9) 1 (qE dA (fun _ => (mdI ξ 1 43 u4) 9)) _ := fun j hj => by obtain rfl : j = 0 := (by omega); exact hP 9 (by decide)
  refine x_cWv (x_runS X hN hQ (As := [.ref (n + 9), .int (-1)]) (rest := []) (x_J6_fill l dC dI dA (n + 9) (fun _ => (mdI ξ 1 43 u4) 9) (-1)) xks_X0_202 rfl rfl ⟨Nat.le_of_ble_eq_true rfl, Nat.le_of_ble_eq_true rfl⟩ hl.1 (Nat.le_of_ble_eq_true rfl) dX0_night_18 ⟨Nat.le_of_ble_eq_true rfl, Nat.le_of_ble_eq_true rfl⟩) hS (fun q h => by unfold bkA at *; omega) (fun q h => by unfold bkA at *; omega) (fun _ H locs _ hP1 hz1 hk1 hS => ?_)
  have hP : bkP dC dI n 96 (xE dA n (mdR (mdI ξ 1 43 u4) 9 (fun _ => (-1))) V V2 im ab be) H := (hP.one (j := 9) (hP1 0 (by decide)) (fun q h1 h2 => hk1 q (bk_sz hP h1) (fun z => h2 (by unfold bkA at z; omega)))).e (fun i _ => xE_R dA n (mdI ξ 1 43 u4) V V2 im ab be 9 (fun _ => (-1)) i)
  refine lv_aload_n X.1 X.2.1 dX0_night_21 rfl (lv_at hl 0 rfl) ?_
  refine xb_get (C := RX0) (T := TX0) (v := .ref (n + 1)) X in_X0 (ci := 0) rfl hP (j := 0) (by decide) (xe_x0 ..) 0 (by decide) q248 rfl rfl dX0_night_22 ?_
  refine xb_getN (host := "RentedViews") (C := RX1) (T := TX1) (v := .ref (n + 7)) X in_X1 (ci := 1) rfl hP (j := 1) (by decide) (xe_x1 ..) 8 (by decide) (x_nest hN q160 rfl) rfl rfl dX0_night_25 ?_
  refine lv_dup X.1 X.2.1 dX0_night_28 rfl ?_
  refine xb_getN (host := "RentedViews") (C := RX2) (T := TX2) (v := .int ((mdR (mdI ξ 1 43 u4) 9 (fun _ => (-1))) 7 1)) X in_X2 (ci := 2) rfl hP (j := 7) (by decide) (xe_x7 ..) 3 (by decide) (x_nest hN q116 rfl) rfl rfl dX0_night_29 ?_
  refine rn_co (y := nI ev) hRk.eve ?_
  refine lv_iconst (v := nI 1) X.1 X.2.1 dX0_night_32 rfl ?_
  refine rn_iadd X.1 X.2.1 dX0_night_33 ?_
  refine xb_putN (host := "RentedViews") (C := RX2) (T := TX2) (E' := xE dA n (mdS (mdR (mdI ξ 1 43 u4) 9 (fun _ => (-1))) 7 1 (nI (ev + 1))) V V2 im ab be) X in_X2 tyX2 tyX2_ok nmX2 (ci := 2) rfl hP (fun _ h => h) hS (j := 7) (by decide) (xe_x7 ..) 3 (by decide) (x_nest hN q116 rfl) rfl rfl rfl rfl rfl (Nat.le_of_ble_eq_true rfl) (fun i_ _ => xE_S dA n (mdR (mdI ξ 1 43 u4) 9 (fun _ => (-1))) V V2 im ab be 7 1 (nI (ev + 1)) i_) dX0_night_34 (fun H locs hP hS => ?_)
  refine lv_aload_n X.1 X.2.1 dX0_night_37 rfl (lv_at hl 0 rfl) ?_
  refine xb_get (C := RX0) (T := TX0) (v := .ref (n + 1)) X in_X0 (ci := 0) rfl hP (j := 0) (by decide) (xe_x0 ..) 0 (by decide) q248 rfl rfl dX0_night_38 ?_
  refine xb_getN (host := "RentedViews") (C := RX1) (T := TX1) (v := .ref (n + 7)) X in_X1 (ci := 1) rfl hP (j := 1) (by decide) (xe_x1 ..) 8 (by decide) (x_nest hN q160 rfl) rfl rfl dX0_night_41 ?_
  refine xb_getN (host := "RentedViews") (C := RX2) (T := TX2) (v := .int ((mdS (mdR (mdI ξ 1 43 u4) 9 (fun _ => (-1))) 7 1 (nI (ev + 1))) 7 1)) X in_X2 (ci := 2) rfl hP (j := 7) (by decide) (xe_x7 ..) 3 (by decide) (x_nest hN q116 rfl) rfl rfl dX0_night_44 ?_
  refine rn_co (y := nI (ev + 1)) rfl ?_
  exact x_pi (by rw [sp_night, hR0.f0, hR0.f6, hR0.f2, rv_cln (by omega), rv_cln (by omega), show nI ev + 1 = nI (ev + 1) from (by rw [← nI_add]; rfl)]) X hr hlk hS dX0_night_47 (RX.mk (many := many) (ξ := ξ) (σ := σ) (σ' := mdN σ (rv_night (σ 0) un many)) hP (sh_night (S := fun i => mdI ξ 1 43 u4 (1 + i)) hRk (fun k => by show rv_night (σ 0) un many k = _; unfold rv_night; rw [hR0.f2, show nI ev + 1 = nI (ev + 1) from (by rw [← nI_add]; rfl)]) ⟨rfl, rfl, rfl⟩ (fun k hk => rfl) (fun i h1 h2 => by rw [mdS_row _ _ _ (by omega), upRn _ _ (by omega)])) (ho.cg rfl rfl rfl rfl rfl rfl) ((hO.at hS).up (Nat.le_succ c)) (fun i hi => by rw [mdS_row _ _ _ (by omega), upRn _ _ (by omega), mdI_out _ _ (by omega)]) (Nat.le_refl _) (fun v hv j hj => by show rv_night (σ 0) un many _ = _; unfold rv_night rv_free; rw [if_neg (by omega), if_neg (by omega)]; exact rv_keep_lo (by omega) (by omega)) rfl rfl)
theorem nI_nm1 {e : Nat} (h : e < 2 ^ 31) : nI e ≠ -1 := fun z => by
  have := congrArg Int32.toInt z
  rw [nI_toInt h] at this
  have h2 : (-1 : Int32).toInt = -1 := by decide
  omega
theorem sh_tell {c many rent rd un hs ev : Nat} {f : Nat → Int32} {S u : mdT} {v r : Int32} (h : shR c many rent rd un hs ev f S) (hc : c < 2 ^ 20) (ht : stTell (fun r => S (6 + r)) hs v r u) : shR c many rent rd un (rv_m11 hs + 1) ev (rv_rem f hs v r) (mdI S 6 4 u) := by
  obtain ⟨t1, t2, t3, t4, t5, t6⟩ := ht
  have hm6 := h.m6
  have hr6 := h.r6
  have hs12 := h.h12
  have hd6 := h.d6
  have hevc := h.evc
  have h11 : rv_m11 hs ≤ 11 ∧ rv_m11 hs ≤ hs ∧ (hs ≠ 12 → rv_m11 hs = hs) ∧ (hs = 12 → rv_m11 hs = 11) := by unfold rv_m11; split <;> omega
  have ek : ∀ k, k ≠ 4 → ¬ (61 ≤ k ∧ k < 97) → rv_rem f hs v r k = f k := fun k h4 hh => by
    unfold rv_rem; rw [if_neg h4, if_neg (by omega), if_neg (by omega), if_neg (by omega), if_neg (by omega)]
  have O : ∀ i, i < 6 ∨ 10 ≤ i → mdI S 6 4 u i = S i := fun i hi => mdI_out _ _ (by omega)
  have hist : ∀ k, k < 3 * (rv_m11 hs + 1) → u 3 k = rv_rem f hs v r (61 + k) := fun k hk => by
    rw [t6 k (by omega)]
    unfold rv_rem
    rw [if_neg (show ¬ 61 + k = 4 by omega)]
    by_cases a : k = 3 * rv_m11 hs
    · rw [if_pos a, if_pos (by omega)]
    rw [if_neg a, if_neg (show ¬ 61 + k = 61 + 3 * rv_m11 hs by omega)]
    by_cases b : k = 3 * rv_m11 hs + 1
    · rw [if_pos b, if_pos (by omega)]
    rw [if_neg b, if_neg (show ¬ 61 + k = 61 + 3 * rv_m11 hs + 1 by omega)]
    by_cases d : k = 3 * rv_m11 hs + 2
    · rw [if_pos d, if_pos (by omega)]; exact h.eve.trans h.f2.symm
    rw [if_neg d, if_neg (show ¬ 61 + k = 61 + 3 * rv_m11 hs + 2 by omega)]
    by_cases e : hs = 12
    · rw [if_pos ⟨e, by omega⟩, if_pos (by omega)]; exact h.his (by omega)
    · rw [if_neg (fun z => e z.1), if_neg (fun z => e z.1)]; exact h.his (by omega)
  refine ⟨h.1, ⟨by rw [ek _ (by omega) (by omega)]; exact h.f0, by rw [ek _ (by omega) (by omega)]; exact h.f1, by rw [ek _ (by omega) (by omega)]; exact h.f5, by rw [ek _ (by omega) (by omega)]; exact h.f6⟩, by rw [O 0 (by omega)]; exact h.2.2.1, fun w hw => ?_, fun r hr => ?_, fun k hk => ?_, ⟨by omega, h.evc, ?_, (ek 2 (by omega) (by omega)).trans h.f2, ?_, ?_, ?_, fun r hr => ?_, fun w hw => ?_, fun k hk => ?_, fun k hk => ?_⟩, fun k hk => ?_⟩
  · rw [O 2 (by omega), ek _ (by omega) (by omega)]; exact h.thg hw
  · rw [O 3 (by omega), O 4 (by omega), ek _ (by omega) (by omega), ek _ (by omega) (by omega)]; exact ⟨h.wal hr, h.wan hr⟩
  · rw [O 5 (by omega), ek _ (by omega) (by omega)]; exact h.rea hk
  · show rv_rem f hs v r 4 = _; unfold rv_rem; rw [if_pos rfl]
  · exact (congrFun (mdI_in S u (o := 6) (m := 4) (r := 0) (by omega)) 0).trans (t3.trans (h.tak.trans (ek 3 (by omega) (by omega)).symm))
  · exact (congrFun (mdI_in S u (o := 6) (m := 4) (r := 0) (by omega)) 1).trans (t4.trans h.eve)
  · exact (congrFun (mdI_in S u (o := 6) (m := 4) (r := 0) (by omega)) 2).trans t5
  · rw [rv_snap_p _ (by omega), ek _ (by omega) (by omega)]
    exact (congrFun (mdI_in S u (o := 6) (m := 4) (r := 1) (by omega)) r).trans ((congrFun t1 r).trans (h.pur hr))
  · rw [rv_snap_l _ (by omega), ek _ (by omega) (by omega)]
    exact (congrFun (mdI_in S u (o := 6) (m := 4) (r := 2) (by omega)) w).trans ((congrFun t2 w).trans (h.lt hw))
  · rw [rv_snap_h]
    exact (congrFun (mdI_in S u (o := 6) (m := 4) (r := 3) (by omega)) k).trans (hist k hk)
  · rw [show 15 + 3 * k + 2 = 15 + (3 * k + 2) by omega, rv_snap_h]
    unfold rv_rem
    rw [if_neg (by omega), if_neg (by omega), if_neg (by omega)]
    by_cases a : k = rv_m11 hs
    · rw [if_pos (by omega), h.f2]; exact nI_nm1 (by omega)
    · rw [if_neg (by omega)]
      by_cases e : hs = 12
      · rw [if_pos (by omega), show 61 + (3 * k + 2) + 3 = 61 + 3 * (k + 1) + 2 by omega]; exact h.hn (by omega)
      · rw [if_neg (fun z => e z.1), show 61 + (3 * k + 2) = 61 + 3 * k + 2 by omega]; exact h.hn (by omega)
  · obtain ⟨a, b, q⟩ := h.was hk
    exact ⟨a, b, q.cg (fun r hr => O _ (by omega)) (fun j hj => ek _ (by omega) (by omega)) h.m6 h.r6⟩
theorem x_X0_let (l : Launch) (dC : Nat → ClassId) (dI : Nat → Nat → Nat) (dA : Nat → ClassId) (n c : Nat) (σ : mdT) (ab be : Int64) (v : Int32) (r : Int32) (hc : c < 2 ^ 20) : Met l yX0_let (ws_ yX0_let cX0_let 6 (some .int)) { frames := 4, cells := 0, slots := 0, locals := 240 } (xPc dC dI dA (RX dC dI dA c n σ ab be) [.ref n, .int v, .int r]) (xQi (S := Unit) (fun r_ _ => r_ = (sp_let σ v r).1) (fun _ => (RX dC dI dA c n (sp_let σ v r).2 ab be)) (bkA n 96)) 0 0 (bkA n 96) := by
  refine x_in (by decide) rfl (Nat.le_of_ble_eq_true rfl) (lv := [(0, .ref n), (1, .int v), (2, .int r)]) rfl ?_
  intro p e s m below meth c_ X hN hnm hr hlk hP ls hl
  obtain ⟨T, ξ, V, V2, im, many, rent, rd, un, hs, ev, ty, hP, hR, ho, hO⟩ := hP
  have ho0 := ho
  have hR0 := hR
  have hV := hO.1
  have hT := hO.tb
  have hm := hR.m6
  have hr6 := hR.r6
  have hd6 := hR.d6
  have hu8 := hR.u8
  have hs12 := hR.h12
  have hS : va_S (bkA n 96) s.heap s.heap [] := va_S.rf
  refine lv_aload_n X.1 X.2.1 dX0_let_0 rfl (lv_at hl 0 rfl) ?_
  refine lv_iload_n X.1 X.2.1 dX0_let_1 rfl (lv_at hl 1 rfl) ?_
  refine x_cSe (x_runV X hN hP (As := [.int v]) (rest := []) (x_X0_isView l dC dI dA n ξ V V2 im ab be v c many rent rd un hs ev (σ 0) hR) xkv_X0_132 (x_recv (ci := 0) X.2.2.2.2.2 hP (j := 0) (by decide) (xe_x0 ..) rfl) rfl rfl ⟨Nat.le_of_ble_eq_true rfl, Nat.le_of_ble_eq_true rfl⟩ hl.1 (Nat.le_of_ble_eq_true rfl) dX0_let_2 ⟨Nat.le_of_ble_eq_true rfl, Nat.le_of_ble_eq_true rfl⟩) ?_
  refine rn_zt (tgt := 16) X.1 X.2.1 dX0_let_5 (by decide) (fun c_5 => ?_) (fun c_5 => ?_)
  · refine lv_aload_n X.1 X.2.1 dX0_let_16 rfl (lv_at hl 0 rfl) ?_
    refine x_cWi (x_runV X hN hP (As := []) (rest := []) (x_X0_bad l dC dI dA n ξ V V2 im ab be) xkv_X0_110 (x_recv (ci := 0) X.2.2.2.2.2 hP (j := 0) (by decide) (xe_x0 ..) rfl) rfl rfl ⟨Nat.le_of_ble_eq_true rfl, Nat.le_of_ble_eq_true rfl⟩ hl.1 (Nat.le_of_ble_eq_true rfl) dX0_let_17 ⟨Nat.le_of_ble_eq_true rfl, Nat.le_of_ble_eq_true rfl⟩) hS (fun _ h => h) (fun _ h => h) (fun r17 _ H locs hr1 hP1 hz1 hk1 hS => ?_)
    subst hr1
    have hP := hP1
    have hR := hR.cg (S' := fun i_ => (mdS ξ 89 0 (ξ 89 0 + nI 1)) (1 + i_)) (fun i hi => by first | rfl | simp (disch := omega) only [mdS_row, mdI_out, upRn] | (simp (disch := omega) only [mdS_row, mdI_out, upRn, *])) (fun _ _ => rfl)
    have ho := oR.b (k := 0) ho (by decide)
    exact x_pi (by first | (rw [sp_let, if_neg (rv_nf c_5)]; done) | (rw [sp_let, if_neg (rv_nf c_5)]; rfl) | (rw [sp_let, if_pos c_5, if_neg (rv_nf c_13)]; done) | (rw [sp_let, if_pos c_5, if_neg (rv_nf c_13)]; rfl)) X hr hlk hS dX0_let_20 (RX.o hP hR ho (hO.at hS) (fun i hi => by first | rfl | simp (disch := omega) only [mdS_row, mdI_out, upRn] | (simp (disch := omega) only [mdS_row, mdI_out, upRn, *])) rfl rfl rfl)
  · obtain ⟨j, hj, hv⟩ := rv_isx hR.f0 hm c_5
    refine lv_aload_n X.1 X.2.1 dX0_let_8 rfl (lv_at hl 0 rfl) ?_
    refine lv_iload_n X.1 X.2.1 dX0_let_9 rfl (lv_at hl 2 rfl) ?_
    refine x_cSe (x_runV X hN hP (As := [.int r]) (rest := []) (x_X0_isRenter l dC dI dA n ξ V V2 im ab be r c many rent rd un hs ev (σ 0) hR) xkv_X0_157 (x_recv (ci := 0) X.2.2.2.2.2 hP (j := 0) (by decide) (xe_x0 ..) rfl) rfl rfl ⟨Nat.le_of_ble_eq_true rfl, Nat.le_of_ble_eq_true rfl⟩ hl.1 (Nat.le_of_ble_eq_true rfl) dX0_let_10 ⟨Nat.le_of_ble_eq_true rfl, Nat.le_of_ble_eq_true rfl⟩) ?_
    refine rn_zf (tgt := 21) X.1 X.2.1 dX0_let_13 (by decide) (fun c_13 => ?_) (fun c_13 => ?_)
    · obtain ⟨k, hk, hkr⟩ := rv_isx hR.f1 hr6 c_13
      refine lv_aload_n X.1 X.2.1 dX0_let_21 rfl (lv_at hl 0 rfl) ?_
      refine xb_get (C := RX0) (T := TX0) (v := .ref (n + 1)) X in_X0 (ci := 0) rfl hP (j := 0) (by decide) (xe_x0 ..) 0 (by decide) q248 rfl rfl dX0_let_22 ?_
      refine xb_getN (host := "RentedViews") (C := RX1) (T := TX1) (v := .ref (n + 7)) X in_X1 (ci := 1) rfl hP (j := 1) (by decide) (xe_x1 ..) 8 (by decide) (x_nest hN q160 rfl) rfl rfl dX0_let_25 ?_
      refine lv_astore_n (lv' := [(3, .ref (n + 7)), (0, .ref n), (1, .int v), (2, .int r)]) X.1 X.2.1 dX0_let_28 rfl hl (by decide) rfl (fun ls hl => ?_)
      refine lv_aload_n X.1 X.2.1 dX0_let_29 rfl (lv_at hl 1 rfl) ?_
      refine xb_get (C := RX0) (T := TX0) (v := .ref (n + 1)) X in_X0 (ci := 0) rfl hP (j := 0) (by decide) (xe_x0 ..) 0 (by decide) q248 rfl rfl dX0_let_30 ?_
      refine xb_getN (host := "RentedViews") (C := RX1) (T := TX1) (v := .ref (n + 2)) X in_X1 (ci := 1) rfl hP (j := 1) (by decide) (xe_x1 ..) 0 (by decide) (x_nest hN q139 rfl) rfl rfl dX0_let_33 ?_
      refine lv_iload_n X.1 X.2.1 dX0_let_36 rfl (lv_at hl 2 rfl) ?_
      refine rn_co (y := nI j) hv ?_
      obtain ⟨a37, kd37, hVa37, hTa37, hk37, hf37, hv37⟩ := hV.2 j (by omega)
      refine xb_aald X hP (j := 2) (by decide) (t := 3) (C := RX6) (f := V) rfl rfl (by omega) (by decide) dX0_let_37 ?_
      refine x_vq hVa37 ?_
      refine lv_astore (lv' := [(4, .ref a37), (3, .ref (n + 7)), (0, .ref n), (1, .int v), (2, .int r)]) X.1 X.2.1 dX0_let_38 hl (by decide) rfl (fun ls hl => ?_)
      refine lv_aload_n X.1 X.2.1 dX0_let_40 rfl (lv_at hl 1 rfl) ?_
      refine xb_getN (host := "RentedViews") (C := RX2) (T := TX2) (v := .ref (n + 9)) X in_X2 (ci := 2) rfl hP (j := 7) (by decide) (xe_x7 ..) 1 (by decide) (x_nest hN q110 rfl) rfl rfl dX0_let_41 ?_
      refine lv_iload_n X.1 X.2.1 dX0_let_44 rfl (lv_at hl 3 rfl) ?_
      refine rn_co (y := nI j) hv ?_
      refine xb_iald X hP (j := 9) (by decide) (n := 6) (f := ξ 9) rfl (by omega) (by decide) dX0_let_45 ?_
      refine rn_co (y := (σ 0) (7 + 6 * j + 4)) (hR.lt (by omega)) ?_
      refine lv_iconst (v := (-1)) X.1 X.2.1 dX0_let_46 rfl ?_
      refine lv_icmp_ne (tgt := 66) X.1 X.2.1 dX0_let_47 (by decide) (fun (c_47 : ¬ (σ 0) (7 + 6 * j + 4) = (-1)) => ?_) (fun (c_47 : (σ 0) (7 + 6 * j + 4) = (-1)) => ?_)
      · refine lv_iconst (v := nI 0) X.1 X.2.1 dX0_let_66 rfl ?_
        refine lv_istore (lv' := [(5, .int (nI 0)), (4, .ref a37), (3, .ref (n + 7)), (0, .ref n), (1, .int v), (2, .int r)]) X.1 X.2.1 dX0_let_67 hl (by decide) rfl (fun ls hl => ?_)
        refine lv_iload X.1 X.2.1 dX0_let_69 (lv_at hl 0 rfl) ?_
        refine rn_if_eq (tgt := 105) X.1 X.2.1 (by omega) dX0_let_71 (by decide) (fun c_71 => ?_) (fun c_71 => ?_)
        · refine lv_aload_n X.1 X.2.1 dX0_let_105 rfl (lv_at hl 3 rfl) ?_
          refine x_cWi (x_runV X hN hP (As := []) (rest := []) (x_X0_no l dC dI dA n ξ V V2 im ab be) xkv_X0_189 (x_recv (ci := 0) X.2.2.2.2.2 hP (j := 0) (by decide) (xe_x0 ..) rfl) rfl rfl ⟨Nat.le_of_ble_eq_true rfl, Nat.le_of_ble_eq_true rfl⟩ hl.1 (Nat.le_of_ble_eq_true rfl) dX0_let_106 ⟨Nat.le_of_ble_eq_true rfl, Nat.le_of_ble_eq_true rfl⟩) hS (fun _ h => h) (fun _ h => h) (fun r106 _ H locs hr1 hP1 hz1 hk1 hS => ?_)
          subst hr1
          have hP := hP1
          have hR := hR.cg (S' := fun i_ => (mdS ξ 89 1 (ξ 89 1 + nI 1)) (1 + i_)) (fun i hi => by first | rfl | simp (disch := omega) only [mdS_row, mdI_out, upRn] | (simp (disch := omega) only [mdS_row, mdI_out, upRn, *])) (fun _ _ => rfl)
          have ho := oR.b (k := 1) ho (by decide)
          exact x_pi (by first | (rw [sp_let, if_pos c_5, if_pos c_13, hv, rv_cln (show j < 2 ^ 31 by omega), if_neg c_47]; done) | (rw [sp_let, if_pos c_5, if_pos c_13, hv, rv_cln (show j < 2 ^ 31 by omega), if_neg c_47]; rfl) | (rw [sp_let, if_pos c_5, if_pos c_13, show rv_cl (σ 0 0) = many from by rw [hR0.f0, rv_cln (by omega)], if_pos (by rw [hv, rv_cln (show j < 2 ^ 31 by omega)]; exact c_47), if_neg c_59]; done) | (rw [sp_let, if_pos c_5, if_pos c_13, show rv_cl (σ 0 0) = many from by rw [hR0.f0, rv_cln (by omega)], if_pos (by rw [hv, rv_cln (show j < 2 ^ 31 by omega)]; exact c_47), if_neg c_59]; rfl) | (rw [sp_let, if_pos c_5, if_pos c_13, show rv_cl (σ 0 0) = many from by rw [hR0.f0, rv_cln (by omega)], if_pos (by rw [hv, rv_cln (show j < 2 ^ 31 by omega)]; exact c_47), if_pos c_59, if_neg (by rw [hv, hkr, rv_cln (show j < 2 ^ 31 by omega), rv_cln (show k < 2 ^ 31 by omega)]; exact rv_nf c_88)]; done) | (rw [sp_let, if_pos c_5, if_pos c_13, show rv_cl (σ 0 0) = many from by rw [hR0.f0, rv_cln (by omega)], if_pos (by rw [hv, rv_cln (show j < 2 ^ 31 by omega)]; exact c_47), if_pos c_59, if_neg (by rw [hv, hkr, rv_cln (show j < 2 ^ 31 by omega), rv_cln (show k < 2 ^ 31 by omega)]; exact rv_nf c_88)]; rfl) | (rw [sp_let, if_pos c_5, if_pos c_13, show rv_cl (σ 0 0) = many from by rw [hR0.f0, rv_cln (by omega)], if_pos (by rw [hv, rv_cln (show j < 2 ^ 31 by omega)]; exact c_47), if_pos c_59, if_pos (by rw [hv, hkr, rv_cln (show j < 2 ^ 31 by omega), rv_cln (show k < 2 ^ 31 by omega)]; exact c_88), if_neg (by rw [hv, hkr, rv_cln (show j < 2 ^ 31 by omega), rv_cln (show k < 2 ^ 31 by omega)]; exact c_102)]; done) | (rw [sp_let, if_pos c_5, if_pos c_13, show rv_cl (σ 0 0) = many from by rw [hR0.f0, rv_cln (by omega)], if_pos (by rw [hv, rv_cln (show j < 2 ^ 31 by omega)]; exact c_47), if_pos c_59, if_pos (by rw [hv, hkr, rv_cln (show j < 2 ^ 31 by omega), rv_cln (show k < 2 ^ 31 by omega)]; exact c_88), if_neg (by rw [hv, hkr, rv_cln (show j < 2 ^ 31 by omega), rv_cln (show k < 2 ^ 31 by omega)]; exact c_102)]; rfl)) X hr hlk hS dX0_let_109 (RX.o hP hR ho (hO.at hS) (fun i hi => by first | rfl | simp (disch := omega) only [mdS_row, mdI_out, upRn] | (simp (disch := omega) only [mdS_row, mdI_out, upRn, *])) rfl rfl rfl)
        · exact absurd c_71 (by decide)
      · refine lv_aload_n X.1 X.2.1 dX0_let_50 rfl (lv_at hl 2 rfl) ?_
        refine xb_get (C := RX0) (T := TX0) (v := .ref (n + 1)) X in_X0 (ci := 0) rfl hP (j := 0) (by decide) (xe_x0 ..) 0 (by decide) q248 rfl rfl dX0_let_51 ?_
        refine lv_iload_n X.1 X.2.1 dX0_let_54 rfl (lv_at hl 4 rfl) ?_
        refine x_cSe (x_runV X hN (x_shop hP) (As := [.int r]) (rest := []) (x_X1_viewOf l dC dI dA (n + 1) (fun i_ => ξ (1 + i_)) V r c many rent rd un hs ev (σ 0) hR) xkv_X0_173 (x_recv (ci := 1) X.2.2.2.2.2 hP (j := 1) (by decide) (xe_x1 ..) rfl) rfl rfl ⟨Nat.le_of_ble_eq_true rfl, Nat.le_of_ble_eq_true rfl⟩ hl.1 (Nat.le_of_ble_eq_true rfl) dX0_let_55 ⟨Nat.le_of_ble_eq_true rfl, Nat.le_of_ble_eq_true rfl⟩) ?_
        refine lv_iconst (v := (-1)) X.1 X.2.1 dX0_let_58 rfl ?_
        refine lv_icmp_ne (tgt := 66) X.1 X.2.1 dX0_let_59 (by decide) (fun (c_59 : ¬ rv_vo (fun v => (σ 0) (7 + 6 * v + 4)) r many = (-1)) => ?_) (fun (c_59 : rv_vo (fun v => (σ 0) (7 + 6 * v + 4)) r many = (-1)) => ?_)
        · refine lv_iconst (v := nI 0) X.1 X.2.1 dX0_let_66 rfl ?_
          refine lv_istore (lv' := [(5, .int (nI 0)), (4, .ref a37), (3, .ref (n + 7)), (0, .ref n), (1, .int v), (2, .int r)]) X.1 X.2.1 dX0_let_67 hl (by decide) rfl (fun ls hl => ?_)
          refine lv_iload X.1 X.2.1 dX0_let_69 (lv_at hl 0 rfl) ?_
          refine rn_if_eq (tgt := 105) X.1 X.2.1 (by omega) dX0_let_71 (by decide) (fun c_71 => ?_) (fun c_71 => ?_)
          · refine lv_aload_n X.1 X.2.1 dX0_let_105 rfl (lv_at hl 3 rfl) ?_
            refine x_cWi (x_runV X hN hP (As := []) (rest := []) (x_X0_no l dC dI dA n ξ V V2 im ab be) xkv_X0_189 (x_recv (ci := 0) X.2.2.2.2.2 hP (j := 0) (by decide) (xe_x0 ..) rfl) rfl rfl ⟨Nat.le_of_ble_eq_true rfl, Nat.le_of_ble_eq_true rfl⟩ hl.1 (Nat.le_of_ble_eq_true rfl) dX0_let_106 ⟨Nat.le_of_ble_eq_true rfl, Nat.le_of_ble_eq_true rfl⟩) hS (fun _ h => h) (fun _ h => h) (fun r106 _ H locs hr1 hP1 hz1 hk1 hS => ?_)
            subst hr1
            have hP := hP1
            have hR := hR.cg (S' := fun i_ => (mdS ξ 89 1 (ξ 89 1 + nI 1)) (1 + i_)) (fun i hi => by first | rfl | simp (disch := omega) only [mdS_row, mdI_out, upRn] | (simp (disch := omega) only [mdS_row, mdI_out, upRn, *])) (fun _ _ => rfl)
            have ho := oR.b (k := 1) ho (by decide)
            exact x_pi (by first | (rw [sp_let, if_pos c_5, if_pos c_13, hv, rv_cln (show j < 2 ^ 31 by omega), if_neg c_47]; done) | (rw [sp_let, if_pos c_5, if_pos c_13, hv, rv_cln (show j < 2 ^ 31 by omega), if_neg c_47]; rfl) | (rw [sp_let, if_pos c_5, if_pos c_13, show rv_cl (σ 0 0) = many from by rw [hR0.f0, rv_cln (by omega)], if_pos (by rw [hv, rv_cln (show j < 2 ^ 31 by omega)]; exact c_47), if_neg c_59]; done) | (rw [sp_let, if_pos c_5, if_pos c_13, show rv_cl (σ 0 0) = many from by rw [hR0.f0, rv_cln (by omega)], if_pos (by rw [hv, rv_cln (show j < 2 ^ 31 by omega)]; exact c_47), if_neg c_59]; rfl) | (rw [sp_let, if_pos c_5, if_pos c_13, show rv_cl (σ 0 0) = many from by rw [hR0.f0, rv_cln (by omega)], if_pos (by rw [hv, rv_cln (show j < 2 ^ 31 by omega)]; exact c_47), if_pos c_59, if_neg (by rw [hv, hkr, rv_cln (show j < 2 ^ 31 by omega), rv_cln (show k < 2 ^ 31 by omega)]; exact rv_nf c_88)]; done) | (rw [sp_let, if_pos c_5, if_pos c_13, show rv_cl (σ 0 0) = many from by rw [hR0.f0, rv_cln (by omega)], if_pos (by rw [hv, rv_cln (show j < 2 ^ 31 by omega)]; exact c_47), if_pos c_59, if_neg (by rw [hv, hkr, rv_cln (show j < 2 ^ 31 by omega), rv_cln (show k < 2 ^ 31 by omega)]; exact rv_nf c_88)]; rfl) | (rw [sp_let, if_pos c_5, if_pos c_13, show rv_cl (σ 0 0) = many from by rw [hR0.f0, rv_cln (by omega)], if_pos (by rw [hv, rv_cln (show j < 2 ^ 31 by omega)]; exact c_47), if_pos c_59, if_pos (by rw [hv, hkr, rv_cln (show j < 2 ^ 31 by omega), rv_cln (show k < 2 ^ 31 by omega)]; exact c_88), if_neg (by rw [hv, hkr, rv_cln (show j < 2 ^ 31 by omega), rv_cln (show k < 2 ^ 31 by omega)]; exact c_102)]; done) | (rw [sp_let, if_pos c_5, if_pos c_13, show rv_cl (σ 0 0) = many from by rw [hR0.f0, rv_cln (by omega)], if_pos (by rw [hv, rv_cln (show j < 2 ^ 31 by omega)]; exact c_47), if_pos c_59, if_pos (by rw [hv, hkr, rv_cln (show j < 2 ^ 31 by omega), rv_cln (show k < 2 ^ 31 by omega)]; exact c_88), if_neg (by rw [hv, hkr, rv_cln (show j < 2 ^ 31 by omega), rv_cln (show k < 2 ^ 31 by omega)]; exact c_102)]; rfl)) X hr hlk hS dX0_let_109 (RX.o hP hR ho (hO.at hS) (fun i hi => by first | rfl | simp (disch := omega) only [mdS_row, mdI_out, upRn] | (simp (disch := omega) only [mdS_row, mdI_out, upRn, *])) rfl rfl rfl)
          · exact absurd c_71 (by decide)
        · refine lv_iconst (v := nI 1) X.1 X.2.1 dX0_let_62 rfl ?_
          refine lv_goto (tgt := 67) X.1 X.2.1 dX0_let_63 (by decide) ?_
          refine lv_istore (lv' := [(5, .int (nI 1)), (4, .ref a37), (3, .ref (n + 7)), (0, .ref n), (1, .int v), (2, .int r)]) X.1 X.2.1 dX0_let_67 hl (by decide) rfl (fun ls hl => ?_)
          refine lv_iload X.1 X.2.1 dX0_let_69 (lv_at hl 0 rfl) ?_
          refine rn_if_eq (tgt := 105) X.1 X.2.1 (by omega) dX0_let_71 (by decide) (fun c_71 => ?_) (fun c_71 => ?_)
          · exact absurd c_71 (by decide)
          · refine lv_aload X.1 X.2.1 dX0_let_74 (lv_at hl 1 rfl) ?_
            refine lv_aload_n X.1 X.2.1 dX0_let_76 rfl (lv_at hl 3 rfl) ?_
            refine xb_get (C := RX0) (T := TX0) (v := .ref (n + 1)) X in_X0 (ci := 0) rfl hP (j := 0) (by decide) (xe_x0 ..) 0 (by decide) q248 rfl rfl dX0_let_77 ?_
            refine xb_getN (host := "RentedViews") (C := RX1) (T := TX1) (v := .ref (n + 4)) X in_X1 (ci := 1) rfl hP (j := 1) (by decide) (xe_x1 ..) 3 (by decide) (x_nest hN q148 rfl) rfl rfl dX0_let_80 ?_
            refine lv_iload_n X.1 X.2.1 dX0_let_83 rfl (lv_at hl 5 rfl) ?_
            refine rn_co (y := nI k) hkr ?_
            refine xb_iald X hP (j := 4) (by decide) (n := 6) (f := ξ 4) rfl (by omega) (by decide) dX0_let_84 ?_
            refine rn_co (y := (σ 0) (43 + 3 * k)) (hR.wal (by omega)) ?_
            refine vd_X0_fits ((σ 0) (43 + 3 * k)) X hN hk37 (vw_at hv37 hS (hT _ hTa37)) (rest := []) ⟨Nat.le_of_ble_eq_true rfl, Nat.le_of_ble_eq_true rfl⟩ hl.1 (Nat.le_of_ble_eq_true rfl) dX0_let_85 ⟨Nat.le_of_ble_eq_true rfl, Nat.le_of_ble_eq_true rfl⟩ ?_
            refine rn_co (y := rb_i (rv_fits ((σ 0) (7 + 6 * j)) ((σ 0) (7 + 6 * j + 1)) ((σ 0) (43 + 3 * k)))) (by rw [hf37]) ?_
            refine rn_zt (tgt := 105) X.1 X.2.1 dX0_let_88 (by decide) (fun c_88 => ?_) (fun c_88 => ?_)
            · refine lv_aload_n X.1 X.2.1 dX0_let_105 rfl (lv_at hl 3 rfl) ?_
              refine x_cWi (x_runV X hN hP (As := []) (rest := []) (x_X0_no l dC dI dA n ξ V V2 im ab be) xkv_X0_189 (x_recv (ci := 0) X.2.2.2.2.2 hP (j := 0) (by decide) (xe_x0 ..) rfl) rfl rfl ⟨Nat.le_of_ble_eq_true rfl, Nat.le_of_ble_eq_true rfl⟩ hl.1 (Nat.le_of_ble_eq_true rfl) dX0_let_106 ⟨Nat.le_of_ble_eq_true rfl, Nat.le_of_ble_eq_true rfl⟩) hS (fun _ h => h) (fun _ h => h) (fun r106 _ H locs hr1 hP1 hz1 hk1 hS => ?_)
              subst hr1
              have hP := hP1
              have hR := hR.cg (S' := fun i_ => (mdS ξ 89 1 (ξ 89 1 + nI 1)) (1 + i_)) (fun i hi => by first | rfl | simp (disch := omega) only [mdS_row, mdI_out, upRn] | (simp (disch := omega) only [mdS_row, mdI_out, upRn, *])) (fun _ _ => rfl)
              have ho := oR.b (k := 1) ho (by decide)
              exact x_pi (by first | (rw [sp_let, if_pos c_5, if_pos c_13, hv, rv_cln (show j < 2 ^ 31 by omega), if_neg c_47]; done) | (rw [sp_let, if_pos c_5, if_pos c_13, hv, rv_cln (show j < 2 ^ 31 by omega), if_neg c_47]; rfl) | (rw [sp_let, if_pos c_5, if_pos c_13, show rv_cl (σ 0 0) = many from by rw [hR0.f0, rv_cln (by omega)], if_pos (by rw [hv, rv_cln (show j < 2 ^ 31 by omega)]; exact c_47), if_neg c_59]; done) | (rw [sp_let, if_pos c_5, if_pos c_13, show rv_cl (σ 0 0) = many from by rw [hR0.f0, rv_cln (by omega)], if_pos (by rw [hv, rv_cln (show j < 2 ^ 31 by omega)]; exact c_47), if_neg c_59]; rfl) | (rw [sp_let, if_pos c_5, if_pos c_13, show rv_cl (σ 0 0) = many from by rw [hR0.f0, rv_cln (by omega)], if_pos (by rw [hv, rv_cln (show j < 2 ^ 31 by omega)]; exact c_47), if_pos c_59, if_neg (by rw [hv, hkr, rv_cln (show j < 2 ^ 31 by omega), rv_cln (show k < 2 ^ 31 by omega)]; exact rv_nf c_88)]; done) | (rw [sp_let, if_pos c_5, if_pos c_13, show rv_cl (σ 0 0) = many from by rw [hR0.f0, rv_cln (by omega)], if_pos (by rw [hv, rv_cln (show j < 2 ^ 31 by omega)]; exact c_47), if_pos c_59, if_neg (by rw [hv, hkr, rv_cln (show j < 2 ^ 31 by omega), rv_cln (show k < 2 ^ 31 by omega)]; exact rv_nf c_88)]; rfl) | (rw [sp_let, if_pos c_5, if_pos c_13, show rv_cl (σ 0 0) = many from by rw [hR0.f0, rv_cln (by omega)], if_pos (by rw [hv, rv_cln (show j < 2 ^ 31 by omega)]; exact c_47), if_pos c_59, if_pos (by rw [hv, hkr, rv_cln (show j < 2 ^ 31 by omega), rv_cln (show k < 2 ^ 31 by omega)]; exact c_88), if_neg (by rw [hv, hkr, rv_cln (show j < 2 ^ 31 by omega), rv_cln (show k < 2 ^ 31 by omega)]; exact c_102)]; done) | (rw [sp_let, if_pos c_5, if_pos c_13, show rv_cl (σ 0 0) = many from by rw [hR0.f0, rv_cln (by omega)], if_pos (by rw [hv, rv_cln (show j < 2 ^ 31 by omega)]; exact c_47), if_pos c_59, if_pos (by rw [hv, hkr, rv_cln (show j < 2 ^ 31 by omega), rv_cln (show k < 2 ^ 31 by omega)]; exact c_88), if_neg (by rw [hv, hkr, rv_cln (show j < 2 ^ 31 by omega), rv_cln (show k < 2 ^ 31 by omega)]; exact c_102)]; rfl)) X hr hlk hS dX0_let_109 (RX.o hP hR ho (hO.at hS) (fun i hi => by first | rfl | simp (disch := omega) only [mdS_row, mdI_out, upRn] | (simp (disch := omega) only [mdS_row, mdI_out, upRn, *])) rfl rfl rfl)
            · refine lv_aload X.1 X.2.1 dX0_let_91 (lv_at hl 1 rfl) ?_
              refine vd_X0_lets X hN hk37 (vw_at hv37 hS (hT _ hTa37)) (rest := []) ⟨Nat.le_of_ble_eq_true rfl, Nat.le_of_ble_eq_true rfl⟩ hl.1 (Nat.le_of_ble_eq_true rfl) dX0_let_93 ⟨Nat.le_of_ble_eq_true rfl, Nat.le_of_ble_eq_true rfl⟩ ?_
              refine rn_co (y := rv_cost ((σ 0) (7 + 6 * j)) ((σ 0) (7 + 6 * j + 2))) (by rw [hf37]) ?_
              refine lv_aload_n X.1 X.2.1 dX0_let_96 rfl (lv_at hl 2 rfl) ?_
              refine xb_getN (host := "RentedViews") (C := RX2) (T := TX2) (v := .ref (n + 8)) X in_X2 (ci := 2) rfl hP (j := 7) (by decide) (xe_x7 ..) 0 (by decide) (x_nest hN q107 rfl) rfl rfl dX0_let_97 ?_
              refine lv_iload_n X.1 X.2.1 dX0_let_100 rfl (lv_at hl 5 rfl) ?_
              refine rn_co (y := nI k) hkr ?_
              refine xb_iald X hP (j := 8) (by decide) (n := 6) (f := ξ 8) rfl (by omega) (by decide) dX0_let_101 ?_
              refine rn_co (y := (σ 0) (43 + 3 * k + 1)) (hR.pur (by omega)) ?_
              refine lv_icmp_le (tgt := 110) X.1 X.2.1 dX0_let_102 (by decide) (fun (c_102 : rv_cost ((σ 0) (7 + 6 * j)) ((σ 0) (7 + 6 * j + 2)) ≤ (σ 0) (43 + 3 * k + 1)) => ?_) (fun (c_102 : ¬ rv_cost ((σ 0) (7 + 6 * j)) ((σ 0) (7 + 6 * j + 2)) ≤ (σ 0) (43 + 3 * k + 1)) => ?_)
              · refine lv_aload_n X.1 X.2.1 dX0_let_110 rfl (lv_at hl 3 rfl) ?_
                refine xb_get (C := RX0) (T := TX0) (v := .ref (n + 1)) X in_X0 (ci := 0) rfl hP (j := 0) (by decide) (xe_x0 ..) 0 (by decide) q248 rfl rfl dX0_let_111 ?_
                refine x_cWv (x_runV X hN (x_shop hP) (As := []) (rest := []) (x_X1_remembers l dC dI dA (n + 1) (fun i_ => ξ (1 + i_)) V c many rent rd un hs ev (σ 0) hR) xkv_X0_192 (x_recv (ci := 1) X.2.2.2.2.2 hP (j := 1) (by decide) (xe_x1 ..) rfl) rfl rfl ⟨Nat.le_of_ble_eq_true rfl, Nat.le_of_ble_eq_true rfl⟩ hl.1 (Nat.le_of_ble_eq_true rfl) dX0_let_114 ⟨Nat.le_of_ble_eq_true rfl, Nat.le_of_ble_eq_true rfl⟩) hS (fun q h => by unfold bkA at *; omega) (fun q h => by unfold bkA at *; omega) (fun u114 H locs hu114 hP1 hz1 hk1 hS => ?_)
                have hP := x_shopI hP hP1 (fun q h1 h2 => hk1 q (bk_sz hP h1) h2)
                have hR := xR_I (ξ := ξ) hu114
                refine lv_aload_n X.1 X.2.1 dX0_let_117 rfl (lv_at hl 2 rfl) ?_
                refine xb_getN (host := "RentedViews") (C := RX2) (T := TX2) (v := .ref (n + 9)) X in_X2 (ci := 2) rfl hP (j := 7) (by decide) (xe_x7 ..) 1 (by decide) (x_nest hN q110 rfl) rfl rfl dX0_let_118 ?_
                refine lv_iload_n X.1 X.2.1 dX0_let_121 rfl (lv_at hl 4 rfl) ?_
                refine rn_co (y := nI j) hv ?_
                refine lv_iload_n X.1 X.2.1 dX0_let_122 rfl (lv_at hl 5 rfl) ?_
                refine xb_iast (E' := xE dA n (mdS (mdI ξ 1 43 u114) 9 j r) V V2 im ab be) X hP (fun _ h => h) hS (j := 9) (by decide) (n := 6) (f := (mdI ξ 1 43 u114) 9) rfl (by omega) (by decide) (fun i_ _ => xE_S dA n (mdI ξ 1 43 u114) V V2 im ab be 9 j r i_) dX0_let_123 (fun H locs hP hS => ?_)
                have hR := xR_T (sh_let (x := r) hR (by omega))
                refine lv_aload_n X.1 X.2.1 dX0_let_124 rfl (lv_at hl 2 rfl) ?_
                refine xb_getN (host := "RentedViews") (C := RX2) (T := TX2) (v := .ref (n + 8)) X in_X2 (ci := 2) rfl hP (j := 7) (by decide) (xe_x7 ..) 0 (by decide) (x_nest hN q107 rfl) rfl rfl dX0_let_125 ?_
                refine lv_iload_n X.1 X.2.1 dX0_let_128 rfl (lv_at hl 5 rfl) ?_
                refine rn_co (y := nI k) hkr ?_
                refine lv_dup2_11 X.1 X.2.1 dX0_let_129 rfl rfl ?_
                refine xb_iald X hP (j := 8) (by decide) (n := 6) (f := (mdS (mdI ξ 1 43 u114) 9 j r) 8) rfl (by omega) (by decide) dX0_let_130 ?_
                refine rn_co (y := (upd (rv_keep (σ 0) un) (7 + 6 * j + 4) r) (43 + 3 * k + 1)) (hR.pur (by omega)) ?_
                refine rn_co (y := σ 0 (43 + 3 * k + 1)) ((upd_ne4 (by omega)).trans (rv_keep_lo (by omega) (by omega))) ?_
                refine lv_aload X.1 X.2.1 dX0_let_131 (lv_at hl 1 rfl) ?_
                refine vd_X0_lets X hN hk37 (vw_at hv37 hS (hT _ hTa37)) (rest := [.int (σ 0 (43 + 3 * k + 1)), .int (nI k), .ref (n + 8)]) ⟨Nat.le_of_ble_eq_true rfl, Nat.le_of_ble_eq_true rfl⟩ hl.1 (Nat.le_of_ble_eq_true rfl) dX0_let_133 ⟨Nat.le_of_ble_eq_true rfl, Nat.le_of_ble_eq_true rfl⟩ ?_
                refine rn_co (y := rv_cost ((σ 0) (7 + 6 * j)) ((σ 0) (7 + 6 * j + 2))) (by rw [hf37]) ?_
                refine lv_isub X.1 X.2.1 dX0_let_136 ?_
                refine xb_iast (E' := xE dA n (mdS (mdS (mdI ξ 1 43 u114) 9 j r) 8 k ((σ 0 (43 + 3 * k + 1)) - (rv_cost ((σ 0) (7 + 6 * j)) ((σ 0) (7 + 6 * j + 2))))) V V2 im ab be) X hP (fun _ h => h) hS (j := 8) (by decide) (n := 6) (f := (mdS (mdI ξ 1 43 u114) 9 j r) 8) rfl (by omega) (by decide) (fun i_ _ => xE_S dA n (mdS (mdI ξ 1 43 u114) 9 j r) V V2 im ab be 8 k ((σ 0 (43 + 3 * k + 1)) - (rv_cost ((σ 0) (7 + 6 * j)) ((σ 0) (7 + 6 * j + 2)))) i_) dX0_let_137 (fun H locs hP hS => ?_)
                have hR := xR_T (sh_pur (x := (σ 0 (43 + 3 * k + 1)) - (rv_cost ((σ 0) (7 + 6 * j)) ((σ 0) (7 + 6 * j + 2)))) hR (by omega))
                refine lv_aload_n X.1 X.2.1 dX0_let_138 rfl (lv_at hl 2 rfl) ?_
                refine lv_dup X.1 X.2.1 dX0_let_139 rfl ?_
                refine xb_getN (host := "RentedViews") (C := RX2) (T := TX2) (v := .int ((mdS (mdS (mdI ξ 1 43 u114) 9 j r) 8 k ((σ 0 (43 + 3 * k + 1)) - (rv_cost ((σ 0) (7 + 6 * j)) ((σ 0) (7 + 6 * j + 2))))) 7 0)) X in_X2 (ci := 2) rfl hP (j := 7) (by decide) (xe_x7 ..) 2 (by decide) (x_nest hN q113 rfl) rfl rfl dX0_let_140 ?_
                refine rn_co (y := (upd (upd (rv_keep (σ 0) un) (7 + 6 * j + 4) r) (43 + 3 * k + 1) ((σ 0 (43 + 3 * k + 1)) - (rv_cost ((σ 0) (7 + 6 * j)) ((σ 0) (7 + 6 * j + 2))))) 3) hR.tak ?_
                refine rn_co (y := σ 0 3) ((upd_ne4 (by omega)).trans ((upd_ne4 (by omega)).trans (rv_keep_lo (by omega) (by omega)))) ?_
                refine lv_aload X.1 X.2.1 dX0_let_143 (lv_at hl 1 rfl) ?_
                refine vd_X0_lets X hN hk37 (vw_at hv37 hS (hT _ hTa37)) (rest := [.int (σ 0 3), .ref (n + 7)]) ⟨Nat.le_of_ble_eq_true rfl, Nat.le_of_ble_eq_true rfl⟩ hl.1 (Nat.le_of_ble_eq_true rfl) dX0_let_145 ⟨Nat.le_of_ble_eq_true rfl, Nat.le_of_ble_eq_true rfl⟩ ?_
                refine rn_co (y := rv_cost ((σ 0) (7 + 6 * j)) ((σ 0) (7 + 6 * j + 2))) (by rw [hf37]) ?_
                refine lv_iadd X.1 X.2.1 dX0_let_148 ?_
                refine xb_putN (host := "RentedViews") (C := RX2) (T := TX2) (E' := xE dA n (mdS (mdS (mdS (mdI ξ 1 43 u114) 9 j r) 8 k ((σ 0 (43 + 3 * k + 1)) - (rv_cost ((σ 0) (7 + 6 * j)) ((σ 0) (7 + 6 * j + 2))))) 7 0 ((σ 0 3) + (rv_cost ((σ 0) (7 + 6 * j)) ((σ 0) (7 + 6 * j + 2))))) V V2 im ab be) X in_X2 tyX2 tyX2_ok nmX2 (ci := 2) rfl hP (fun _ h => h) hS (j := 7) (by decide) (xe_x7 ..) 2 (by decide) (x_nest hN q113 rfl) rfl rfl rfl rfl rfl (Nat.le_of_ble_eq_true rfl) (fun i_ _ => xE_S dA n (mdS (mdS (mdI ξ 1 43 u114) 9 j r) 8 k ((σ 0 (43 + 3 * k + 1)) - (rv_cost ((σ 0) (7 + 6 * j)) ((σ 0) (7 + 6 * j + 2))))) V V2 im ab be 7 0 ((σ 0 3) + (rv_cost ((σ 0) (7 + 6 * j)) ((σ 0) (7 + 6 * j + 2)))) i_) dX0_let_149 (fun H locs hP hS => ?_)
                have hR := xR_T (sh_tak (x := (σ 0 3) + (rv_cost ((σ 0) (7 + 6 * j)) ((σ 0) (7 + 6 * j + 2)))) hR)
                refine lv_aload_n X.1 X.2.1 dX0_let_152 rfl (lv_at hl 2 rfl) ?_
                refine lv_iload_n X.1 X.2.1 dX0_let_153 rfl (lv_at hl 4 rfl) ?_
                refine lv_iload_n X.1 X.2.1 dX0_let_154 rfl (lv_at hl 5 rfl) ?_
                refine x_cWv (x_runV X hN (sb_now (x_shop hP)) (As := [.int v, .int r]) (rest := []) (x_X2_tells l dC dI dA (n + 1 + 6) (fun r_ => (fun i_ => (mdS (mdS (mdS (mdI ξ 1 43 u114) 9 j r) 8 k ((σ 0 (43 + 3 * k + 1)) - (rv_cost ((σ 0) (7 + 6 * j)) ((σ 0) (7 + 6 * j + 2))))) 7 0 ((σ 0 3) + (rv_cost ((σ 0) (7 + 6 * j)) ((σ 0) (7 + 6 * j + 2))))) (1 + i_)) (6 + r_)) v r hs hR.tol hs12) xkv_X0_198 (x_recv (ci := 2) X.2.2.2.2.2 hP (j := 7) (by decide) (xe_x7 ..) rfl) rfl rfl ⟨Nat.le_of_ble_eq_true rfl, Nat.le_of_ble_eq_true rfl⟩ hl.1 (Nat.le_of_ble_eq_true rfl) dX0_let_155 ⟨Nat.le_of_ble_eq_true rfl, Nat.le_of_ble_eq_true rfl⟩) hS (fun q h => by unfold bkA at *; omega) (fun q h => by unfold bkA at *; omega) (fun u155 H locs hu155 hP1 hz1 hk1 hS => ?_)
                have hP := x_shopI hP (sb_nowI (x_shop hP) hP1 (fun q h1 h2 => hk1 q (bk_sz (x_shop hP) h1) h2)) (fun q h1 h2 => hk1 q (bk_sz hP h1) (fun z => h2 (by unfold bkA at *; omega)))
                have hR := xR_I (ξ := mdS (mdS (mdS (mdI ξ 1 43 u114) 9 j r) 8 k ((σ 0 (43 + 3 * k + 1)) - (rv_cost ((σ 0) (7 + 6 * j)) ((σ 0) (7 + 6 * j + 2))))) 7 0 ((σ 0 3) + (rv_cost ((σ 0) (7 + 6 * j)) ((σ 0) (7 + 6 * j + 2))))) (sh_tell hR hc hu155)
                refine lv_aload X.1 X.2.1 dX0_let_158 (lv_at hl 1 rfl) ?_
                refine vd_X0_lets X hN hk37 (vw_at hv37 hS (hT _ hTa37)) (rest := []) ⟨Nat.le_of_ble_eq_true rfl, Nat.le_of_ble_eq_true rfl⟩ hl.1 (Nat.le_of_ble_eq_true rfl) dX0_let_160 ⟨Nat.le_of_ble_eq_true rfl, Nat.le_of_ble_eq_true rfl⟩ ?_
                refine rn_co (y := rv_cost ((σ 0) (7 + 6 * j)) ((σ 0) (7 + 6 * j + 2))) (by rw [hf37]) ?_
                exact x_pi (by rw [sp_let, if_pos c_5, if_pos c_13, show rv_cl (σ 0 0) = many from by rw [hR0.f0, rv_cln (by omega)], if_pos (by rw [hv, rv_cln (show j < 2 ^ 31 by omega)]; exact c_47), if_pos c_59, if_pos (by rw [hv, hkr, rv_cln (show j < 2 ^ 31 by omega), rv_cln (show k < 2 ^ 31 by omega)]; exact c_88), if_pos (by rw [hv, hkr, rv_cln (show j < 2 ^ 31 by omega), rv_cln (show k < 2 ^ 31 by omega)]; exact c_102), hR0.f6, hR0.f4, rv_cln (show un < 2 ^ 31 by omega), rv_cln (show hs < 2 ^ 31 by omega), show rv_cl v = j from by rw [hv, rv_cln (by omega)], show rv_cl r = k from by rw [hkr, rv_cln (by omega)]]) X hr hlk hS dX0_let_163 (RX.mk (many := many) (ξ := ξ) (σ := σ) (σ' := mdN σ (rv_let (σ 0) un hs j k v r (rv_cost (σ 0 (7 + 6 * j)) (σ 0 (7 + 6 * j + 2))))) hP hR (ho.cg rfl rfl rfl rfl rfl rfl) (hO.at hS) (fun i hi => by first | rfl | simp (disch := omega) only [mdS_row, mdI_out, upRn] | (simp (disch := omega) only [mdS_row, mdI_out, upRn, *])) (Nat.le_refl _) (fun w hw i hi => by show rv_let (σ 0) un hs j k v r _ _ = _; unfold rv_let rv_rem; rw [if_neg (by omega), if_neg (by omega), if_neg (by omega), if_neg (by omega), if_neg (by omega)]; exact (upd_ne4 (by omega)).trans ((upd_ne4 (by omega)).trans ((upd_ne4 (by omega)).trans (rv_keep_lo (by omega) (by omega))))) rfl rfl)
              · refine lv_aload_n X.1 X.2.1 dX0_let_105 rfl (lv_at hl 3 rfl) ?_
                refine x_cWi (x_runV X hN hP (As := []) (rest := []) (x_X0_no l dC dI dA n ξ V V2 im ab be) xkv_X0_189 (x_recv (ci := 0) X.2.2.2.2.2 hP (j := 0) (by decide) (xe_x0 ..) rfl) rfl rfl ⟨Nat.le_of_ble_eq_true rfl, Nat.le_of_ble_eq_true rfl⟩ hl.1 (Nat.le_of_ble_eq_true rfl) dX0_let_106 ⟨Nat.le_of_ble_eq_true rfl, Nat.le_of_ble_eq_true rfl⟩) hS (fun _ h => h) (fun _ h => h) (fun r106 _ H locs hr1 hP1 hz1 hk1 hS => ?_)
                subst hr1
                have hP := hP1
                have hR := hR.cg (S' := fun i_ => (mdS ξ 89 1 (ξ 89 1 + nI 1)) (1 + i_)) (fun i hi => by first | rfl | simp (disch := omega) only [mdS_row, mdI_out, upRn] | (simp (disch := omega) only [mdS_row, mdI_out, upRn, *])) (fun _ _ => rfl)
                have ho := oR.b (k := 1) ho (by decide)
                exact x_pi (by first | (rw [sp_let, if_pos c_5, if_pos c_13, hv, rv_cln (show j < 2 ^ 31 by omega), if_neg c_47]; done) | (rw [sp_let, if_pos c_5, if_pos c_13, hv, rv_cln (show j < 2 ^ 31 by omega), if_neg c_47]; rfl) | (rw [sp_let, if_pos c_5, if_pos c_13, show rv_cl (σ 0 0) = many from by rw [hR0.f0, rv_cln (by omega)], if_pos (by rw [hv, rv_cln (show j < 2 ^ 31 by omega)]; exact c_47), if_neg c_59]; done) | (rw [sp_let, if_pos c_5, if_pos c_13, show rv_cl (σ 0 0) = many from by rw [hR0.f0, rv_cln (by omega)], if_pos (by rw [hv, rv_cln (show j < 2 ^ 31 by omega)]; exact c_47), if_neg c_59]; rfl) | (rw [sp_let, if_pos c_5, if_pos c_13, show rv_cl (σ 0 0) = many from by rw [hR0.f0, rv_cln (by omega)], if_pos (by rw [hv, rv_cln (show j < 2 ^ 31 by omega)]; exact c_47), if_pos c_59, if_neg (by rw [hv, hkr, rv_cln (show j < 2 ^ 31 by omega), rv_cln (show k < 2 ^ 31 by omega)]; exact rv_nf c_88)]; done) | (rw [sp_let, if_pos c_5, if_pos c_13, show rv_cl (σ 0 0) = many from by rw [hR0.f0, rv_cln (by omega)], if_pos (by rw [hv, rv_cln (show j < 2 ^ 31 by omega)]; exact c_47), if_pos c_59, if_neg (by rw [hv, hkr, rv_cln (show j < 2 ^ 31 by omega), rv_cln (show k < 2 ^ 31 by omega)]; exact rv_nf c_88)]; rfl) | (rw [sp_let, if_pos c_5, if_pos c_13, show rv_cl (σ 0 0) = many from by rw [hR0.f0, rv_cln (by omega)], if_pos (by rw [hv, rv_cln (show j < 2 ^ 31 by omega)]; exact c_47), if_pos c_59, if_pos (by rw [hv, hkr, rv_cln (show j < 2 ^ 31 by omega), rv_cln (show k < 2 ^ 31 by omega)]; exact c_88), if_neg (by rw [hv, hkr, rv_cln (show j < 2 ^ 31 by omega), rv_cln (show k < 2 ^ 31 by omega)]; exact c_102)]; done) | (rw [sp_let, if_pos c_5, if_pos c_13, show rv_cl (σ 0 0) = many from by rw [hR0.f0, rv_cln (by omega)], if_pos (by rw [hv, rv_cln (show j < 2 ^ 31 by omega)]; exact c_47), if_pos c_59, if_pos (by rw [hv, hkr, rv_cln (show j < 2 ^ 31 by omega), rv_cln (show k < 2 ^ 31 by omega)]; exact c_88), if_neg (by rw [hv, hkr, rv_cln (show j < 2 ^ 31 by omega), rv_cln (show k < 2 ^ 31 by omega)]; exact c_102)]; rfl)) X hr hlk hS dX0_let_109 (RX.o hP hR ho (hO.at hS) (fun i hi => by first | rfl | simp (disch := omega) only [mdS_row, mdI_out, upRn] | (simp (disch := omega) only [mdS_row, mdI_out, upRn, *])) rfl rfl rfl)
    · refine lv_aload_n X.1 X.2.1 dX0_let_16 rfl (lv_at hl 0 rfl) ?_
      refine x_cWi (x_runV X hN hP (As := []) (rest := []) (x_X0_bad l dC dI dA n ξ V V2 im ab be) xkv_X0_110 (x_recv (ci := 0) X.2.2.2.2.2 hP (j := 0) (by decide) (xe_x0 ..) rfl) rfl rfl ⟨Nat.le_of_ble_eq_true rfl, Nat.le_of_ble_eq_true rfl⟩ hl.1 (Nat.le_of_ble_eq_true rfl) dX0_let_17 ⟨Nat.le_of_ble_eq_true rfl, Nat.le_of_ble_eq_true rfl⟩) hS (fun _ h => h) (fun _ h => h) (fun r17 _ H locs hr1 hP1 hz1 hk1 hS => ?_)
      subst hr1
      have hP := hP1
      have hR := hR.cg (S' := fun i_ => (mdS ξ 89 0 (ξ 89 0 + nI 1)) (1 + i_)) (fun i hi => by first | rfl | simp (disch := omega) only [mdS_row, mdI_out, upRn] | (simp (disch := omega) only [mdS_row, mdI_out, upRn, *])) (fun _ _ => rfl)
      have ho := oR.b (k := 0) ho (by decide)
      exact x_pi (by first | (rw [sp_let, if_neg (rv_nf c_5)]; done) | (rw [sp_let, if_neg (rv_nf c_5)]; rfl) | (rw [sp_let, if_pos c_5, if_neg (rv_nf c_13)]; done) | (rw [sp_let, if_pos c_5, if_neg (rv_nf c_13)]; rfl)) X hr hlk hS dX0_let_20 (RX.o hP hR ho (hO.at hS) (fun i hi => by first | rfl | simp (disch := omega) only [mdS_row, mdI_out, upRn] | (simp (disch := omega) only [mdS_row, mdI_out, upRn, *])) rfl rfl rfl)
