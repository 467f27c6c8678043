set_option maxRecDepth 100000
/-! the component: one more renter -/
theorem shV.cg4 {dC : Nat → ClassId} {dI : Nat → Nat → Nat} {T : Nat → Prop} {many : Nat} {f g : Nat → Int32} {V : Nat → Option Nat} {H : Heap} (h : shV dC dI T many f V H) (hg : ∀ v, v < many → ∀ j, j < 4 → g (7 + 6 * v + j) = f (7 + 6 * v + j)) : shV dC dI T many g V H := by
  refine ⟨h.1, fun v hv => ?_⟩
  obtain ⟨a, kd, h1, h2, h3, h4, h5⟩ := h.2 v hv
  have e0 := hg v hv 0 (by omega)
  rw [Nat.add_zero] at e0
  exact ⟨a, kd, h1, h2, h3, by rw [e0]; exact h4, by rw [hg v hv 1 (by omega), hg v hv 2 (by omega), hg v hv 3 (by omega)]; exact h5⟩
theorem sh_ent {c many rent rd un hs ev : Nat} {f : Nat → Int32} {S S' : mdT} (h : shR c many rent rd un hs ev f S) (h0 : S' 0 0 = S 0 0 ∧ S' 0 1 = S 0 1 ∧ S' 0 2 = S 0 2 ∧ S' 0 3 = S 0 3) (h3 : ∀ r, r < rent → S' 3 r = S 3 r) (h4 : ∀ r, r < rent → S' 4 r = S 4 r) (h7 : ∀ r, r < rent → S' 7 r = S 7 r) (hi : ∀ i, i ≠ 0 → i ≠ 3 → i ≠ 4 → i ≠ 7 → i < 43 → S' i = S i) : shR c many rent rd un hs ev f S' := by
  have hu8 := h.u8
  refine ⟨h.1, h.2.1, ⟨h0.1.trans h.nm, h0.2.1.trans h.nr, h0.2.2.1.trans h.nd, h0.2.2.2.trans h.nu⟩, fun v hv => ?_, fun r hr => ⟨(h3 r hr).trans (h.wal hr), (h4 r hr).trans (h.wan hr)⟩, fun k hk => ?_, ?_, fun k hk => ?_⟩
  · rw [hi 2 (by omega) (by omega) (by omega) (by omega) (by omega)]; exact h.thg hv
  · rw [hi 5 (by omega) (by omega) (by omega) (by omega) (by omega)]; exact h.rea hk
  · obtain ⟨a1, a2, a3, a4, a5, a6, a7, a8, a9, a10, a11⟩ := h.now
    have e6 : S' 6 = S 6 := hi 6 (by omega) (by omega) (by omega) (by omega) (by omega)
    have e8 : S' 8 = S 8 := hi 8 (by omega) (by omega) (by omega) (by omega) (by omega)
    have e9 : S' 9 = S 9 := hi 9 (by omega) (by omega) (by omega) (by omega) (by omega)
    exact ⟨a1, a2, a3, a4, (congrFun e6 0).trans a5, (congrFun e6 1).trans a6, (congrFun e6 2).trans a7, fun r hr => (h7 r hr).trans (a8 r hr), fun v hv => (congrFun e8 v).trans (a9 v hv), fun k hk => (congrFun e9 k).trans (a10 k hk), a11⟩
  · obtain ⟨a, b, q⟩ := h.was hk
    exact ⟨a, b, q.cg (fun r hr => hi _ (by omega) (by omega) (by omega) (by omega) (by omega)) (fun _ _ => rfl) h.m6 h.r6⟩
/-- the numbers with one more renter; what lies in the past is taken as the component has it -/
def rv_moreC (f : Nat → Int32) (S : mdT) (rent : Nat) (wl pu wa : Int32) (k : Nat) : Int32 := if k = 1 then nI (rent + 1) else if 115 ≤ k ∧ (k - 115) % 51 = rent then S (12 + 4 * ((k - 115) / 51)) rent else rv_more f rent wl pu wa k
theorem rv_moreC_lo (f : Nat → Int32) (S : mdT) (rent : Nat) (wl pu wa : Int32) {k : Nat} (h1 : k ≠ 1) (h : k < 115) : rv_moreC f S rent wl pu wa k = rv_more f rent wl pu wa k := by
  unfold rv_moreC; rw [if_neg h1, if_neg (by omega)]
theorem rv_more_ne (f : Nat → Int32) {rent : Nat} (wl pu wa : Int32) {k : Nat} (h : k < 43 + 3 * rent ∨ 43 + 3 * rent + 3 ≤ k) : rv_more f rent wl pu wa k = f k := by
  unfold rv_more; simp only [upd]; repeat rw [if_neg (by omega)]
theorem sh_more {c many rent rd un hs ev : Nat} {f : Nat → Int32} {S S' : mdT} {wl pu wa : Int32} (h : shR c many rent rd un hs ev f S) (hr5 : rent < 6) (h0 : S' 0 0 = S 0 0 ∧ S' 0 1 = nI (rent + 1) ∧ S' 0 2 = S 0 2 ∧ S' 0 3 = S 0 3) (h3 : S' 3 = upd (S 3) rent wl) (h4 : S' 4 = upd (S 4) rent wa) (h7 : S' 7 = upd (S 7) rent pu) (hi : ∀ i, i ≠ 0 → i ≠ 3 → i ≠ 4 → i ≠ 7 → i < 43 → S' i = S i) : shR c many (rent + 1) rd un hs ev (rv_moreC f S rent wl pu wa) S' := by
  have hu8 := h.u8
  have hm6 := h.m6
  have hd6 := h.d6
  have hs12 := h.h12
  have lo : ∀ k, k ≠ 1 → k < 115 → (k < 43 + 3 * rent ∨ 43 + 3 * rent + 3 ≤ k) → rv_moreC f S rent wl pu wa k = f k := fun k h1 hk hh => by rw [rv_moreC_lo f S rent wl pu wa h1 hk, rv_more_ne f wl pu wa hh]
  have e0 : rv_moreC f S rent wl pu wa (43 + 3 * rent) = wl := by rw [rv_moreC_lo _ _ _ _ _ _ (by omega) (by omega)]; unfold rv_more upd; rw [if_neg (by omega), if_neg (by omega), if_pos rfl]
  have e1 : rv_moreC f S rent wl pu wa (43 + 3 * rent + 1) = pu := by rw [rv_moreC_lo _ _ _ _ _ _ (by omega) (by omega)]; unfold rv_more upd; rw [if_neg (by omega), if_pos rfl]
  have e2 : rv_moreC f S rent wl pu wa (43 + 3 * rent + 2) = wa := by rw [rv_moreC_lo _ _ _ _ _ _ (by omega) (by omega)]; unfold rv_more upd; rw [if_pos rfl]
  refine ⟨⟨h.m6, by omega, h.d6, h.u8⟩, ⟨by rw [lo 0 (by omega) (by omega) (by omega)]; exact h.f0, rfl, by rw [lo 5 (by omega) (by omega) (by omega)]; exact h.f5, by rw [lo 6 (by omega) (by omega) (by omega)]; exact h.f6⟩, ⟨h0.1.trans h.nm, h0.2.1, h0.2.2.1.trans h.nd, h0.2.2.2.trans h.nu⟩, fun v hv => ?_, fun r hr => ?_, fun k hk => ?_, ⟨h.h12, h.evc, (lo 4 (by omega) (by omega) (by omega)).trans h.f4, (lo 2 (by omega) (by omega) (by omega)).trans h.f2, ?_, ?_, ?_, fun r hr => ?_, fun w hw => ?_, fun k hk => ?_, fun k hk => ?_⟩, fun k hk => ?_⟩
  · rw [hi 2 (by omega) (by omega) (by omega) (by omega) (by omega), lo _ (by omega) (by omega) (by omega)]; exact h.thg hv
  · rw [h3, h4]
    unfold upd
    by_cases e : r = rent
    · subst e; rw [if_pos rfl, if_pos rfl, e0, e2]; exact ⟨rfl, rfl⟩
    · rw [if_neg e, if_neg e, lo _ (by omega) (by omega) (by omega), lo _ (by omega) (by omega) (by omega)]; exact ⟨h.wal (by omega), h.wan (by omega)⟩
  · rw [hi 5 (by omega) (by omega) (by omega) (by omega) (by omega), lo _ (by omega) (by omega) (by omega)]; exact h.rea hk
  · exact (congrFun (hi 6 (by omega) (by omega) (by omega) (by omega) (by omega)) 0).trans (h.tak.trans (lo 3 (by omega) (by omega) (by omega)).symm)
  · exact (congrFun (hi 6 (by omega) (by omega) (by omega) (by omega) (by omega)) 1).trans h.eve
  · exact (congrFun (hi 6 (by omega) (by omega) (by omega) (by omega) (by omega)) 2).trans h.tol
  · rw [rv_snap_p _ (by omega)]
    show S' 7 r = _
    rw [h7]
    unfold upd
    by_cases e : r = rent
    · subst e; rw [if_pos rfl, e1]
    · rw [if_neg e, lo _ (by omega) (by omega) (by omega)]; exact h.pur (by omega)
  · rw [rv_snap_l _ (by omega), lo _ (by omega) (by omega) (by omega)]
    show S' 8 w = _
    rw [hi 8 (by omega) (by omega) (by omega) (by omega) (by omega)]; exact h.lt hw
  · rw [rv_snap_h, lo _ (by omega) (by omega) (by omega)]
    show S' 9 k = _
    rw [hi 9 (by omega) (by omega) (by omega) (by omega) (by omega)]; exact h.his hk
  · rw [show 15 + 3 * k + 2 = 15 + (3 * k + 2) by omega, rv_snap_h, lo _ (by omega) (by omega) (by omega)]; exact h.hn hk
  · obtain ⟨a, b, q⟩ := h.was hk
    have fp : ∀ j, j < 51 → j ≠ rent → rv_moreC f S rent wl pu wa (115 + 51 * k + j) = f (115 + 51 * k + j) := fun j hj hne => by
      unfold rv_moreC
      rw [if_neg (by omega), if_neg (by omega)]
      exact rv_more_ne f wl pu wa (by omega)
    have fr : rv_moreC f S rent wl pu wa (115 + 51 * k + rent) = S (12 + 4 * k) rent := by
      unfold rv_moreC
      rw [if_neg (by omega), if_pos (by omega), show (115 + 51 * k + rent - 115) / 51 = k by omega]
    obtain ⟨a1, a2, a3, a4, a5, a6, a7, a8, a9, a10, a11⟩ := q
    have er : ∀ r, r < 4 → S' (11 + 4 * k + r) = S (11 + 4 * k + r) := fun r hr => hi _ (by omega) (by omega) (by omega) (by omega) (by omega)
    refine ⟨a, b, a1, a2, by show rv_moreC f S rent wl pu wa (115 + 51 * k + 14) = _; rw [fp 14 (by omega) (by omega)]; exact a3, by show rv_moreC f S rent wl pu wa (115 + 51 * k + 12) = _; rw [fp 12 (by omega) (by omega)]; exact a4, (congrFun (er 0 (by omega)) 0).trans (a5.trans (fp 13 (by omega) (by omega)).symm), (congrFun (er 0 (by omega)) 1).trans a6, (congrFun (er 0 (by omega)) 2).trans a7, fun r hr => ?_, fun v hv => ?_, fun j hj => ?_, fun j hj => ?_⟩
    · by_cases e : r = rent
      · subst e; exact (congrFun (er 1 (by omega)) r).trans (by rw [show 11 + 4 * k + 1 = 12 + 4 * k by omega]; exact fr.symm)
      · exact (congrFun (er 1 (by omega)) r).trans ((a8 r (by omega)).trans (fp r (by omega) e).symm)
    · exact (congrFun (er 2 (by omega)) v).trans ((a9 v hv).trans (fp (6 + v) (by omega) (by omega)).symm)
    · exact (congrFun (er 3 (by omega)) j).trans ((a10 j hj).trans (fp (15 + j) (by omega) (by omega)).symm)
    · show rv_moreC f S rent wl pu wa (115 + 51 * k + (15 + 3 * j + 2)) ≠ -1; rw [fp _ (by omega) (by omega)]; exact a11 j hj
theorem rv_bestN_c {f g : Nat → Int32} {many rent : Nat} {ei : Int32} (hm : many ≤ 6) (hr : rent ≤ 6) (h : ∀ k, 7 ≤ k → k < 61 → f k = g k) : rv_bestN f many rent ei = rv_bestN g many rent ei := by
  unfold rv_bestN
  refine rv_try_c (by omega) (fun v hv => by rw [h _ (by omega) (by omega), h _ (by omega) (by omega)]) (fun v q hv hq => ?_) (fun _ _ => rfl) (fun i hi => absurd hi (by omega)) _
  unfold rv_suitN
  rw [h _ (by omega) (by omega), h _ (by omega) (by omega), h _ (by omega) (by omega), h _ (by omega) (by omega), h _ (by omega) (by omega), h _ (by omega) (by omega), h _ (by omega) (by omega)]
set_option maxHeartbeats 1000000 in
theorem x_X0_more (l : Launch) (dC : Nat → ClassId) (dI : Nat → Nat → Nat) (dA : Nat → ClassId) (n c : Nat) (σ : mdT) (ab be : Int64) (ei : Int32) (wl : Int32) (pu : Int32) (wa : Int32) : Met l yX0_more (ws_ yX0_more cX0_more 8 (some .int)) { frames := 12, cells := 0, slots := 0, locals := 720 } (xPc dC dI dA (RX dC dI dA c n σ ab be) [.ref n, .int ei, .int wl, .int pu, .int wa]) (xQi (S := Unit) (fun r_ _ => r_ = (sp_more σ ei wl pu wa).1) (fun _ => (RX dC dI dA c n (sp_more σ ei wl pu wa).2 ab be)) (bkA n 96)) 0 0 (bkA n 96) := by
  refine x_in (by decide) rfl (Nat.le_of_ble_eq_true rfl) (lv := [(0, .ref n), (1, .int ei), (2, .int wl), (3, .int pu), (4, .int wa)]) rfl ?_
  intro p e s m below meth c_ X hN hnm hr hlk hP ls hl
  obtain ⟨T, ξ, V, V2, im, many, rent, rd, un, hs, ev, ty, hP, hR, ho, hO⟩ := hP
  have ho0 := ho
  have hR0 := hR
  have hV := hO.1
  have hT := hO.tb
  have hm := hR.m6
  have hr6 := hR.r6
  have hd6 := hR.d6
  have hu8 := hR.u8
  have hs12 := hR.h12
  have hS : va_S (bkA n 96) s.heap s.heap [] := va_S.rf
  refine lv_iload_n X.1 X.2.1 dX0_more_0 rfl (lv_at hl 1 rfl) ?_
  refine x_cSe (x_runSp X (As := [.int ei]) (rest := []) (x_X0_isEvening l ei) xks_X0_244 rfl rfl ⟨Nat.le_of_ble_eq_true rfl, Nat.le_of_ble_eq_true rfl⟩ hl.1 (Nat.le_of_ble_eq_true rfl) dX0_more_1 ⟨Nat.le_of_ble_eq_true rfl, Nat.le_of_ble_eq_true rfl⟩) ?_
  refine rn_zt (tgt := 17) X.1 X.2.1 dX0_more_4 (by decide) (fun c_4 => ?_) (fun c_4 => ?_)
  · refine lv_aload_n X.1 X.2.1 dX0_more_17 rfl (lv_at hl 0 rfl) ?_
    refine x_cWi (x_runV X hN hP (As := []) (rest := []) (x_X0_bad l dC dI dA n ξ V V2 im ab be) xkv_X0_110 (x_recv (ci := 0) X.2.2.2.2.2 hP (j := 0) (by decide) (xe_x0 ..) rfl) rfl rfl ⟨Nat.le_of_ble_eq_true rfl, Nat.le_of_ble_eq_true rfl⟩ hl.1 (Nat.le_of_ble_eq_true rfl) dX0_more_18 ⟨Nat.le_of_ble_eq_true rfl, Nat.le_of_ble_eq_true rfl⟩) hS (fun _ h => h) (fun _ h => h) (fun r18 _ H locs hr1 hP1 hz1 hk1 hS => ?_)
    subst hr1
    have hP := hP1
    have hR := hR.cg (S' := fun i_ => (mdS ξ 89 0 (ξ 89 0 + nI 1)) (1 + i_)) (fun i hi => by first | rfl | simp (disch := omega) only [mdS_row, mdI_out, upRn] | (simp (disch := omega) only [mdS_row, mdI_out, upRn, *])) (fun _ _ => rfl)
    have ho := oR.b (k := 0) ho (by decide)
    exact x_pi (by first | (rw [sp_more, if_neg (rv_nf c_4)]; done) | (rw [sp_more, if_neg (rv_nf c_4)]; rfl) | (rw [sp_more, if_pos c_4, if_neg (rv_nf c_14)]; done) | (rw [sp_more, if_pos c_4, if_neg (rv_nf c_14)]; rfl)) X hr hlk hS dX0_more_21 (RX.o hP hR ho (hO.at hS) (fun i hi => by first | rfl | simp (disch := omega) only [mdS_row, mdI_out, upRn] | (simp (disch := omega) only [mdS_row, mdI_out, upRn, *])) rfl rfl rfl)
  · refine lv_iload_n X.1 X.2.1 dX0_more_7 rfl (lv_at hl 2 rfl) ?_
    refine lv_iload_n X.1 X.2.1 dX0_more_8 rfl (lv_at hl 3 rfl) ?_
    refine lv_iload X.1 X.2.1 dX0_more_9 (lv_at hl 4 rfl) ?_
    refine x_cSe (x_runSp X (As := [.int wl, .int pu, .int wa]) (rest := []) (x_X0_isOne l wl pu wa) xks_X0_125 rfl rfl ⟨Nat.le_of_ble_eq_true rfl, Nat.le_of_ble_eq_true rfl⟩ hl.1 (Nat.le_of_ble_eq_true rfl) dX0_more_11 ⟨Nat.le_of_ble_eq_true rfl, Nat.le_of_ble_eq_true rfl⟩) ?_
    refine rn_zf (tgt := 22) X.1 X.2.1 dX0_more_14 (by decide) (fun c_14 => ?_) (fun c_14 => ?_)
    · refine lv_aload_n X.1 X.2.1 dX0_more_22 rfl (lv_at hl 0 rfl) ?_
      refine xb_get (C := RX0) (T := TX0) (v := .ref (n + 1)) X in_X0 (ci := 0) rfl hP (j := 0) (by decide) (xe_x0 ..) 0 (by decide) q248 rfl rfl dX0_more_23 ?_
      refine xb_getN (host := "RentedViews") (C := RX1) (T := TX1) (v := .int (ξ 1 1)) X in_X1 (ci := 1) rfl hP (j := 1) (by decide) (xe_x1 ..) 5 (by decide) (x_nest hN q154 rfl) rfl rfl dX0_more_26 ?_
      refine rn_co (y := nI rent) hR.nr ?_
      refine lv_bipush (v := nI 6) X.1 X.2.1 dX0_more_29 rfl ?_
      refine rn_icmp_ne (tgt := 39) X.1 X.2.1 (by omega) (by omega) dX0_more_31 (by decide) (fun c_31 => ?_) (fun c_31 => ?_)
      · refine lv_aload_n X.1 X.2.1 dX0_more_39 rfl (lv_at hl 0 rfl) ?_
        refine xb_get (C := RX0) (T := TX0) (v := .ref (n + 91)) X in_X0 (ci := 0) rfl hP (j := 0) (by decide) (xe_x0 ..) 9 (by decide) q260 rfl rfl dX0_more_40 ?_
        refine lv_iload_n X.1 X.2.1 dX0_more_43 rfl (lv_at hl 1 rfl) ?_
        refine x_cWv (x_runV X hN ⟨hP, (hV.at hS hT), (tb_sub hT hS)⟩ (As := [.int ei]) (rest := []) (x_X4_goes l dC dI dA n ξ V V2 im ab be ei c many rent rd un hs ev (σ 0) hR T) xkv_X0_250 (x_recv (ci := 4) X.2.2.2.2.2 hP (j := 91) (by decide) (xe_x91 ..) rfl) rfl rfl ⟨Nat.le_of_ble_eq_true rfl, Nat.le_of_ble_eq_true rfl⟩ hl.1 (Nat.le_of_ble_eq_true rfl) dX0_more_44 ⟨Nat.le_of_ble_eq_true rfl, Nat.le_of_ble_eq_true rfl⟩) hS (fun _ h => h) (fun _ h => h) (fun u44 H locs hu44 hP1 hz1 hk1 hS => ?_)
        have hP := hP1
        have hR := hR.cg (fun i hi => hu44.1 (1 + i) (by omega) (by omega) (by omega) ) (fun _ _ => rfl)
        have ho := ho.cg (congrFun (hu44.1 0 (by decide) (by decide) (by decide)) 0) (hu44.1 88 (by decide) (by decide) (by decide)) (hu44.1 89 (by decide) (by decide) (by decide)) rfl rfl rfl
        have hRg := hR
        refine lv_aload_n X.1 X.2.1 dX0_more_47 rfl (lv_at hl 0 rfl) ?_
        refine xb_get (C := RX0) (T := TX0) (v := .ref (n + 91)) X in_X0 (ci := 0) rfl hP (j := 0) (by decide) (xe_x0 ..) 9 (by decide) q260 rfl rfl dX0_more_48 ?_
        refine xb_getN (host := "RentedViews") (C := RX4) (T := TX4) (v := .int (u44 91 0)) X in_X4 (ci := 4) rfl hP (j := 91) (by decide) (xe_x91 ..) 2 (by decide) (x_nest hN q225 rfl) rfl rfl dX0_more_51 ?_
        refine rn_co (y := (rv_bestN (σ 0) many rent ei).1) hu44.2.1 ?_
        refine lv_istore (lv' := [(5, .int ((rv_bestN (σ 0) many rent ei).1)), (0, .ref n), (1, .int ei), (2, .int wl), (3, .int pu), (4, .int wa)]) X.1 X.2.1 dX0_more_54 hl (by decide) rfl (fun ls hl => ?_)
        refine lv_aload_n X.1 X.2.1 dX0_more_56 rfl (lv_at hl 1 rfl) ?_
        refine xb_get (C := RX0) (T := TX0) (v := .ref (n + 1)) X in_X0 (ci := 0) rfl hP (j := 0) (by decide) (xe_x0 ..) 0 (by decide) q248 rfl rfl dX0_more_57 ?_
        refine xb_getN (host := "RentedViews") (C := RX1) (T := TX1) (v := .int (u44 1 1)) X in_X1 (ci := 1) rfl hP (j := 1) (by decide) (xe_x1 ..) 5 (by decide) (x_nest hN q154 rfl) rfl rfl dX0_more_60 ?_
        refine rn_co (y := nI rent) hR.nr ?_
        refine lv_istore (lv' := [(6, .int (nI rent)), (5, .int ((rv_bestN (σ 0) many rent ei).1)), (0, .ref n), (1, .int ei), (2, .int wl), (3, .int pu), (4, .int wa)]) X.1 X.2.1 dX0_more_63 hl (by decide) rfl (fun ls hl => ?_)
        refine lv_aload_n X.1 X.2.1 dX0_more_65 rfl (lv_at hl 2 rfl) ?_
        refine xb_get (C := RX0) (T := TX0) (v := .ref (n + 1)) X in_X0 (ci := 0) rfl hP (j := 0) (by decide) (xe_x0 ..) 0 (by decide) q248 rfl rfl dX0_more_66 ?_
        refine xb_getN (host := "RentedViews") (C := RX1) (T := TX1) (v := .ref (n + 7)) X in_X1 (ci := 1) rfl hP (j := 1) (by decide) (xe_x1 ..) 8 (by decide) (x_nest hN q160 rfl) rfl rfl dX0_more_69 ?_
        refine xb_getN (host := "RentedViews") (C := RX2) (T := TX2) (v := .ref (n + 8)) X in_X2 (ci := 2) rfl hP (j := 7) (by decide) (xe_x7 ..) 0 (by decide) (x_nest hN q107 rfl) rfl rfl dX0_more_72 ?_
        refine lv_iload X.1 X.2.1 dX0_more_75 (lv_at hl 0 rfl) ?_
        refine xb_iald X hP (j := 8) (by decide) (n := 6) (f := u44 8) rfl (by omega) (by decide) dX0_more_77 ?_
        refine lv_istore (lv' := [(7, .int (u44 8 rent)), (6, .int (nI rent)), (5, .int ((rv_bestN (σ 0) many rent ei).1)), (0, .ref n), (1, .int ei), (2, .int wl), (3, .int pu), (4, .int wa)]) X.1 X.2.1 dX0_more_78 hl (by decide) rfl (fun ls hl => ?_)
        refine lv_aload_n X.1 X.2.1 dX0_more_80 rfl (lv_at hl 3 rfl) ?_
        refine xb_get (C := RX0) (T := TX0) (v := .ref (n + 1)) X in_X0 (ci := 0) rfl hP (j := 0) (by decide) (xe_x0 ..) 0 (by decide) q248 rfl rfl dX0_more_81 ?_
        refine xb_getN (host := "RentedViews") (C := RX1) (T := TX1) (v := .ref (n + 4)) X in_X1 (ci := 1) rfl hP (j := 1) (by decide) (xe_x1 ..) 3 (by decide) (x_nest hN q148 rfl) rfl rfl dX0_more_84 ?_
        refine lv_iload X.1 X.2.1 dX0_more_87 (lv_at hl 1 rfl) ?_
        refine lv_iload_n X.1 X.2.1 dX0_more_89 rfl (lv_at hl 5 rfl) ?_
        refine xb_iast (E' := xE dA n (mdS u44 4 rent wl) V V2 im ab be) X hP (fun _ h => h) hS (j := 4) (by decide) (n := 6) (f := u44 4) rfl (by omega) (by decide) (fun i_ _ => xE_S dA n u44 V V2 im ab be 4 rent wl i_) dX0_more_90 (fun H locs hP hS => ?_)
        refine lv_aload_n X.1 X.2.1 dX0_more_91 rfl (lv_at hl 3 rfl) ?_
        refine xb_get (C := RX0) (T := TX0) (v := .ref (n + 1)) X in_X0 (ci := 0) rfl hP (j := 0) (by decide) (xe_x0 ..) 0 (by decide) q248 rfl rfl dX0_more_92 ?_
        refine xb_getN (host := "RentedViews") (C := RX1) (T := TX1) (v := .ref (n + 5)) X in_X1 (ci := 1) rfl hP (j := 1) (by decide) (xe_x1 ..) 4 (by decide) (x_nest hN q150 rfl) rfl rfl dX0_more_95 ?_
        refine lv_iload X.1 X.2.1 dX0_more_98 (lv_at hl 1 rfl) ?_
        refine lv_iload X.1 X.2.1 dX0_more_100 (lv_at hl 7 rfl) ?_
        refine xb_iast (E' := xE dA n (mdS (mdS u44 4 rent wl) 5 rent wa) V V2 im ab be) X hP (fun _ h => h) hS (j := 5) (by decide) (n := 6) (f := (mdS u44 4 rent wl) 5) rfl (by omega) (by decide) (fun i_ _ => xE_S dA n (mdS u44 4 rent wl) V V2 im ab be 5 rent wa i_) dX0_more_102 (fun H locs hP hS => ?_)
        refine lv_aload_n X.1 X.2.1 dX0_more_103 rfl (lv_at hl 3 rfl) ?_
        refine xb_get (C := RX0) (T := TX0) (v := .ref (n + 1)) X in_X0 (ci := 0) rfl hP (j := 0) (by decide) (xe_x0 ..) 0 (by decide) q248 rfl rfl dX0_more_104 ?_
        refine xb_getN (host := "RentedViews") (C := RX1) (T := TX1) (v := .ref (n + 7)) X in_X1 (ci := 1) rfl hP (j := 1) (by decide) (xe_x1 ..) 8 (by decide) (x_nest hN q160 rfl) rfl rfl dX0_more_107 ?_
        refine xb_getN (host := "RentedViews") (C := RX2) (T := TX2) (v := .ref (n + 8)) X in_X2 (ci := 2) rfl hP (j := 7) (by decide) (xe_x7 ..) 0 (by decide) (x_nest hN q107 rfl) rfl rfl dX0_more_110 ?_
        refine lv_iload X.1 X.2.1 dX0_more_113 (lv_at hl 1 rfl) ?_
        refine lv_iload_n X.1 X.2.1 dX0_more_115 rfl (lv_at hl 6 rfl) ?_
        refine xb_iast (E' := xE dA n (mdS (mdS (mdS u44 4 rent wl) 5 rent wa) 8 rent pu) V V2 im ab be) X hP (fun _ h => h) hS (j := 8) (by decide) (n := 6) (f := (mdS (mdS u44 4 rent wl) 5 rent wa) 8) rfl (by omega) (by decide) (fun i_ _ => xE_S dA n (mdS (mdS u44 4 rent wl) 5 rent wa) V V2 im ab be 8 rent pu i_) dX0_more_116 (fun H locs hP hS => ?_)
        refine lv_aload_n X.1 X.2.1 dX0_more_117 rfl (lv_at hl 3 rfl) ?_
        refine xb_get (C := RX0) (T := TX0) (v := .ref (n + 1)) X in_X0 (ci := 0) rfl hP (j := 0) (by decide) (xe_x0 ..) 0 (by decide) q248 rfl rfl dX0_more_118 ?_
        refine lv_dup X.1 X.2.1 dX0_more_121 rfl ?_
        refine xb_getN (host := "RentedViews") (C := RX1) (T := TX1) (v := .int ((mdS (mdS (mdS u44 4 rent wl) 5 rent wa) 8 rent pu) 1 1)) X in_X1 (ci := 1) rfl hP (j := 1) (by decide) (xe_x1 ..) 5 (by decide) (x_nest hN q154 rfl) rfl rfl dX0_more_122 ?_
        refine rn_co (y := nI rent) hRg.nr ?_
        refine lv_iconst (v := nI 1) X.1 X.2.1 dX0_more_125 rfl ?_
        refine rn_iadd X.1 X.2.1 dX0_more_126 ?_
        refine xb_putN (host := "RentedViews") (C := RX1) (T := TX1) (E' := xE dA n (mdS (mdS (mdS (mdS u44 4 rent wl) 5 rent wa) 8 rent pu) 1 1 (nI (rent + 1))) V V2 im ab be) X in_X1 tyX1 tyX1_ok nmX1 (ci := 1) rfl hP (fun _ h => h) hS (j := 1) (by decide) (xe_x1 ..) 5 (by decide) (x_nest hN q154 rfl) rfl rfl rfl rfl rfl (Nat.le_of_ble_eq_true rfl) (fun i_ _ => xE_S dA n (mdS (mdS (mdS u44 4 rent wl) 5 rent wa) 8 rent pu) V V2 im ab be 1 1 (nI (rent + 1)) i_) dX0_more_127 (fun H locs hP hS => ?_)
        have hR := sh_more (S' := fun i_ => (mdS (mdS (mdS (mdS u44 4 rent wl) 5 rent wa) 8 rent pu) 1 1 (nI (rent + 1))) (1 + i_)) hRg (by omega) ⟨rfl, rfl, rfl, rfl⟩ rfl rfl rfl (fun i h0 h3 h4 h7 hi => by simp (disch := omega) only [mdS_row])
        have hV : shV dC dI T many (rv_moreC (σ 0) (fun i_ => u44 (1 + i_)) rent wl pu wa) V s.heap := hV.cg4 (fun v hv j hj => by rw [rv_moreC_lo _ _ _ _ _ _ (by omega) (by omega), rv_more_ne _ _ _ _ (by omega)])
        refine lv_aload_n X.1 X.2.1 dX0_more_130 rfl (lv_at hl 3 rfl) ?_
        refine xb_get (C := RX0) (T := TX0) (v := .ref (n + 91)) X in_X0 (ci := 0) rfl hP (j := 0) (by decide) (xe_x0 ..) 9 (by decide) q260 rfl rfl dX0_more_131 ?_
        refine lv_iload_n X.1 X.2.1 dX0_more_134 rfl (lv_at hl 4 rfl) ?_
        refine x_cWv (x_runV X hN ⟨hP, (hV.at hS hT), (tb_sub hT hS)⟩ (As := [.int ei]) (rest := []) (x_X4_goes l dC dI dA n (mdS (mdS (mdS (mdS u44 4 rent wl) 5 rent wa) 8 rent pu) 1 1 (nI (rent + 1))) V V2 im ab be ei c many (rent + 1) rd un hs ev (rv_moreC (σ 0) (fun i_ => u44 (1 + i_)) rent wl pu wa) hR T) xkv_X0_250 (x_recv (ci := 4) X.2.2.2.2.2 hP (j := 91) (by decide) (xe_x91 ..) rfl) rfl rfl ⟨Nat.le_of_ble_eq_true rfl, Nat.le_of_ble_eq_true rfl⟩ hl.1 (Nat.le_of_ble_eq_true rfl) dX0_more_135 ⟨Nat.le_of_ble_eq_true rfl, Nat.le_of_ble_eq_true rfl⟩) hS (fun _ h => h) (fun _ h => h) (fun u135 H locs hu135 hP1 hz1 hk1 hS => ?_)
        have hP := hP1
        have hR := hR.cg (fun i hi => hu135.1 (1 + i) (by omega) (by omega) (by omega) ) (fun _ _ => rfl)
        have ho := ho.cg (congrFun (hu135.1 0 (by decide) (by decide) (by decide)) 0) (hu135.1 88 (by decide) (by decide) (by decide)) (hu135.1 89 (by decide) (by decide) (by decide)) rfl rfl rfl
        refine lv_aload_n X.1 X.2.1 dX0_more_138 rfl (lv_at hl 3 rfl) ?_
        refine xb_get (C := RX0) (T := TX0) (v := .ref (n + 1)) X in_X0 (ci := 0) rfl hP (j := 0) (by decide) (xe_x0 ..) 0 (by decide) q248 rfl rfl dX0_more_139 ?_
        refine lv_dup X.1 X.2.1 dX0_more_142 rfl ?_
        refine xb_getN (host := "RentedViews") (C := RX1) (T := TX1) (v := .int (u135 1 1)) X in_X1 (ci := 1) rfl hP (j := 1) (by decide) (xe_x1 ..) 5 (by decide) (x_nest hN q154 rfl) rfl rfl dX0_more_143 ?_
        refine rn_co (y := nI (rent + 1)) hR.nr ?_
        refine lv_iconst (v := nI 1) X.1 X.2.1 dX0_more_146 rfl ?_
        refine rn_isub X.1 X.2.1 (by omega) dX0_more_147 ?_
        refine xb_putN (host := "RentedViews") (C := RX1) (T := TX1) (E' := xE dA n (mdS u135 1 1 (nI ((rent + 1) - 1))) V V2 im ab be) X in_X1 tyX1 tyX1_ok nmX1 (ci := 1) rfl hP (fun _ h => h) hS (j := 1) (by decide) (xe_x1 ..) 5 (by decide) (x_nest hN q154 rfl) rfl rfl rfl rfl rfl (Nat.le_of_ble_eq_true rfl) (fun i_ _ => xE_S dA n u135 V V2 im ab be 1 1 (nI ((rent + 1) - 1)) i_) dX0_more_148 (fun H locs hP hS => ?_)
        refine lv_aload_n X.1 X.2.1 dX0_more_151 rfl (lv_at hl 3 rfl) ?_
        refine xb_get (C := RX0) (T := TX0) (v := .ref (n + 1)) X in_X0 (ci := 0) rfl hP (j := 0) (by decide) (xe_x0 ..) 0 (by decide) q248 rfl rfl dX0_more_152 ?_
        refine xb_getN (host := "RentedViews") (C := RX1) (T := TX1) (v := .ref (n + 7)) X in_X1 (ci := 1) rfl hP (j := 1) (by decide) (xe_x1 ..) 8 (by decide) (x_nest hN q160 rfl) rfl rfl dX0_more_155 ?_
        refine xb_getN (host := "RentedViews") (C := RX2) (T := TX2) (v := .ref (n + 8)) X in_X2 (ci := 2) rfl hP (j := 7) (by decide) (xe_x7 ..) 0 (by decide) (x_nest hN q107 rfl) rfl rfl dX0_more_158 ?_
        refine lv_iload X.1 X.2.1 dX0_more_161 (lv_at hl 1 rfl) ?_
        refine lv_iload X.1 X.2.1 dX0_more_163 (lv_at hl 0 rfl) ?_
        refine xb_iast (E' := xE dA n (mdS (mdS u135 1 1 (nI ((rent + 1) - 1))) 8 rent (u44 8 rent)) V V2 im ab be) X hP (fun _ h => h) hS (j := 8) (by decide) (n := 6) (f := (mdS u135 1 1 (nI ((rent + 1) - 1))) 8) rfl (by omega) (by decide) (fun i_ _ => xE_S dA n (mdS u135 1 1 (nI ((rent + 1) - 1))) V V2 im ab be 8 rent (u44 8 rent) i_) dX0_more_165 (fun H locs hP hS => ?_)
        refine lv_aload_n X.1 X.2.1 dX0_more_166 rfl (lv_at hl 3 rfl) ?_
        refine xb_get (C := RX0) (T := TX0) (v := .ref (n + 91)) X in_X0 (ci := 0) rfl hP (j := 0) (by decide) (xe_x0 ..) 9 (by decide) q260 rfl rfl dX0_more_167 ?_
        refine xb_getN (host := "RentedViews") (C := RX4) (T := TX4) (v := .int ((mdS (mdS u135 1 1 (nI ((rent + 1) - 1))) 8 rent (u44 8 rent)) 91 0)) X in_X4 (ci := 4) rfl hP (j := 91) (by decide) (xe_x91 ..) 2 (by decide) (x_nest hN q225 rfl) rfl rfl dX0_more_170 ?_
        refine rn_co (y := (rv_bestN (rv_more (σ 0) rent wl pu wa) many (rent + 1) ei).1) (hu135.2.1.trans (congrArg Prod.fst (rv_bestN_c (by omega) (by omega) (fun k h1 h2 => rv_moreC_lo _ _ _ _ _ _ (by omega) (by omega))))) ?_
        refine lv_iload X.1 X.2.1 dX0_more_173 (lv_at hl 2 rfl) ?_
        refine lv_isub X.1 X.2.1 dX0_more_175 ?_
        exact x_pi (by rw [sp_more, if_pos c_4, if_pos c_14, if_neg (by rw [hR0.f1]; exact fun z => c_31 ((nI_eq (by omega) (by omega)).mp (z.trans (show (6 : Int32) = nI 6 from rfl))))]; show ((rv_bestN (rv_more (σ 0) (rv_cl (σ 0 1)) wl pu wa) (rv_cl (σ 0 0)) (rv_cl (σ 0 1) + 1) ei).1 - (rv_bestN (σ 0) (rv_cl (σ 0 0)) (rv_cl (σ 0 1)) ei).1, σ) = _; rw [show rv_cl (σ 0 0) = many from by rw [hR0.f0, rv_cln (by omega)], show rv_cl (σ 0 1) = rent from by rw [hR0.f1, rv_cln (by omega)]]) X hr hlk hS dX0_more_176 (RX.o hP (sh_ent hR0 ⟨(congrFun (hu135.1 1 (by decide) (by decide) (by decide)) 0).trans (congrFun (hu44.1 1 (by decide) (by decide) (by decide)) 0), (show nI (rent + 1 - 1) = _ from (by rw [Nat.add_sub_cancel]; exact hR0.nr.symm)), (congrFun (hu135.1 1 (by decide) (by decide) (by decide)) 2).trans (congrFun (hu44.1 1 (by decide) (by decide) (by decide)) 2), (congrFun (hu135.1 1 (by decide) (by decide) (by decide)) 3).trans (congrFun (hu44.1 1 (by decide) (by decide) (by decide)) 3)⟩ (fun r hr => (congrFun (hu135.1 4 (by decide) (by decide) (by decide)) r).trans ((upd_ne4 (by omega)).trans (congrFun (hu44.1 4 (by decide) (by decide) (by decide)) r))) (fun r hr => (congrFun (hu135.1 5 (by decide) (by decide) (by decide)) r).trans ((upd_ne4 (by omega)).trans (congrFun (hu44.1 5 (by decide) (by decide) (by decide)) r))) (fun r hr => (upd_ne4 (by omega)).trans ((congrFun (hu135.1 8 (by decide) (by decide) (by decide)) r).trans ((upd_ne4 (by omega)).trans (congrFun (hu44.1 8 (by decide) (by decide) (by decide)) r)))) (fun i h0 h3 h4 h7 hi => by rw [mdS_row _ _ _ (by omega), mdS_row _ _ _ (by omega), hu135.1 _ (by omega) (by omega) (by omega), mdS_row _ _ _ (by omega), mdS_row _ _ _ (by omega), mdS_row _ _ _ (by omega), mdS_row _ _ _ (by omega), hu44.1 _ (by omega) (by omega) (by omega)])) (ho.cg rfl rfl rfl rfl rfl rfl) (hO.at hS) (fun i hi => by rw [mdS_row _ _ _ (by omega), mdS_row _ _ _ (by omega), hu135.1 _ (by omega) (by omega) (by omega), mdS_row _ _ _ (by omega), mdS_row _ _ _ (by omega), mdS_row _ _ _ (by omega), mdS_row _ _ _ (by omega), hu44.1 _ (by omega) (by omega) (by omega)]) rfl rfl rfl)
      · refine lv_aload_n X.1 X.2.1 dX0_more_34 rfl (lv_at hl 0 rfl) ?_
        refine x_cWi (x_runV X hN hP (As := []) (rest := []) (x_X0_no l dC dI dA n ξ V V2 im ab be) xkv_X0_189 (x_recv (ci := 0) X.2.2.2.2.2 hP (j := 0) (by decide) (xe_x0 ..) rfl) rfl rfl ⟨Nat.le_of_ble_eq_true rfl, Nat.le_of_ble_eq_true rfl⟩ hl.1 (Nat.le_of_ble_eq_true rfl) dX0_more_35 ⟨Nat.le_of_ble_eq_true rfl, Nat.le_of_ble_eq_true rfl⟩) hS (fun _ h => h) (fun _ h => h) (fun r35 _ H locs hr1 hP1 hz1 hk1 hS => ?_)
        subst hr1
        have hP := hP1
        have hR := hR.cg (S' := fun i_ => (mdS ξ 89 1 (ξ 89 1 + nI 1)) (1 + i_)) (fun i hi => by first | rfl | simp (disch := omega) only [mdS_row, mdI_out, upRn] | (simp (disch := omega) only [mdS_row, mdI_out, upRn, *])) (fun _ _ => rfl)
        have ho := oR.b (k := 1) ho (by decide)
        exact x_pi (by first | (rw [sp_more, if_pos c_4, if_pos c_14, if_pos (by rw [hR0.f1, c_31]; rfl)]; done) | (rw [sp_more, if_pos c_4, if_pos c_14, if_pos (by rw [hR0.f1, c_31]; rfl)]; rfl)) X hr hlk hS dX0_more_38 (RX.o hP hR ho (hO.at hS) (fun i hi => by first | rfl | simp (disch := omega) only [mdS_row, mdI_out, upRn] | (simp (disch := omega) only [mdS_row, mdI_out, upRn, *])) rfl rfl rfl)
    · refine lv_aload_n X.1 X.2.1 dX0_more_17 rfl (lv_at hl 0 rfl) ?_
      refine x_cWi (x_runV X hN hP (As := []) (rest := []) (x_X0_bad l dC dI dA n ξ V V2 im ab be) xkv_X0_110 (x_recv (ci := 0) X.2.2.2.2.2 hP (j := 0) (by decide) (xe_x0 ..) rfl) rfl rfl ⟨Nat.le_of_ble_eq_true rfl, Nat.le_of_ble_eq_true rfl⟩ hl.1 (Nat.le_of_ble_eq_true rfl) dX0_more_18 ⟨Nat.le_of_ble_eq_true rfl, Nat.le_of_ble_eq_true rfl⟩) hS (fun _ h => h) (fun _ h => h) (fun r18 _ H locs hr1 hP1 hz1 hk1 hS => ?_)
      subst hr1
      have hP := hP1
      have hR := hR.cg (S' := fun i_ => (mdS ξ 89 0 (ξ 89 0 + nI 1)) (1 + i_)) (fun i hi => by first | rfl | simp (disch := omega) only [mdS_row, mdI_out, upRn] | (simp (disch := omega) only [mdS_row, mdI_out, upRn, *])) (fun _ _ => rfl)
      have ho := oR.b (k := 0) ho (by decide)
      exact x_pi (by first | (rw [sp_more, if_neg (rv_nf c_4)]; done) | (rw [sp_more, if_neg (rv_nf c_4)]; rfl) | (rw [sp_more, if_pos c_4, if_neg (rv_nf c_14)]; done) | (rw [sp_more, if_pos c_4, if_neg (rv_nf c_14)]; rfl)) X hr hlk hS dX0_more_21 (RX.o hP hR ho (hO.at hS) (fun i hi => by first | rfl | simp (disch := omega) only [mdS_row, mdI_out, upRn] | (simp (disch := omega) only [mdS_row, mdI_out, upRn, *])) rfl rfl rfl)
