set_option maxRecDepth 100000
/-! the component: prices changed -/
theorem xE_V {dA : Nat → ClassId} {n : Nat} {ξ : mdT} {V V' V2 im : Nat → Option Nat} {ab be : Int64} {i : Nat} : va_up (xE dA n ξ V V2 im ab be) 2 (xQ dA 3 6 V') i = xE dA n ξ V' V2 im ab be i := by
  by_cases h : i = 2
  · subst h; rw [va_up_self]; rfl
  · rw [va_up_ne _ _ h]
    unfold xE xF sbF
    by_cases h0 : i = 0
    · rw [if_pos h0, if_pos h0]
    · rw [if_neg h0, if_neg h0]
      by_cases h4 : i < 44
      · rw [if_pos h4, if_pos h4]
        by_cases h1 : i - 1 = 0
        · rw [if_pos h1, if_pos h1]
        · rw [if_neg h1, if_neg h1, if_neg (show ¬ i - 1 = 1 by omega), if_neg (show ¬ i - 1 = 1 by omega)]
      · rw [if_neg h4, if_neg h4]
theorem sh_price {c many rent rd un hs ev j : Nat} {f : Nat → Int32} {S : mdT} {x : Int32} (h : shR c many rent rd un hs ev f S) (hj : j < 6) : shR c many rent rd un hs ev (upd f (7 + 6 * j + 2) x) S := by
  have hm6 := h.m6
  have hr6 := h.r6
  have hs12 := h.h12
  have hd6 := h.d6
  have ek : ∀ k, k ≠ 7 + 6 * j + 2 → upd f (7 + 6 * j + 2) x k = f k := fun k hk => by unfold upd; rw [if_neg hk]
  refine ⟨h.1, ⟨by rw [ek _ (by omega)]; exact h.f0, by rw [ek _ (by omega)]; exact h.f1, by rw [ek _ (by omega)]; exact h.f5, by rw [ek _ (by omega)]; exact h.f6⟩, h.2.2.1, fun w hw => ?_, fun r hr => ?_, fun k hk => ?_, ⟨h.h12, h.evc, (ek 4 (by omega)).trans h.f4, (ek 2 (by omega)).trans h.f2, h.tak.trans (ek 3 (by omega)).symm, h.eve, h.tol, fun r hr => ?_, fun w hw => ?_, fun k hk => ?_, fun k hk => ?_⟩, fun k hk => ?_⟩
  · rw [ek _ (by omega)]; exact h.thg hw
  · rw [ek _ (by omega), ek _ (by omega)]; exact ⟨h.wal hr, h.wan hr⟩
  · rw [ek _ (by omega)]; exact h.rea hk
  · rw [rv_snap_p _ (by omega), ek _ (by omega)]; exact h.pur hr
  · rw [rv_snap_l _ (by omega), ek _ (by omega)]; exact h.lt hw
  · rw [rv_snap_h, ek _ (by omega)]; exact h.his hk
  · rw [show 15 + 3 * k + 2 = 15 + (3 * k + 2) by omega, rv_snap_h, ek _ (by omega)]; exact h.hn hk
  · obtain ⟨a, b, q⟩ := h.was hk
    exact ⟨a, b, q.cg (fun _ _ => rfl) (fun j hj => ek _ (by omega)) h.m6 h.r6⟩
theorem shV.price {dC : Nat → ClassId} {dI : Nat → Nat → Nat} {T : Nat → Prop} {many j ra kd : Nat} {f : Nat → Int32} {V V1 : Nat → Option Nat} {H : Heap} {x : Int32} (h : shV dC dI T many f V H) (hj : j < many) (hm : many ≤ 6) (hV : ∀ w, w ≠ j → V1 w = V w) (hk : kd < 6) (hf : f (7 + 6 * j) = nI kd) (hva : vwP dC dI ra kd (f (7 + 6 * j + 1)) x (f (7 + 6 * j + 3)) H) : shV dC dI (fun a => T a ∨ a = ra) many (upd f (7 + 6 * j + 2) x) (va_up V1 j (some ra)) H := by
  refine ⟨fun v hv a ha => ?_, fun v hv => ?_⟩
  · by_cases e : v = j
    · rw [e, va_up_self] at ha
      cases ha
      exact ⟨Or.inr rfl, kd, _, _, _, hk, hva⟩
    · rw [va_up_ne _ _ e, hV v e] at ha
      obtain ⟨g1, g2⟩ := h.1 v hv a ha
      exact ⟨Or.inl g1, g2⟩
  · by_cases e : v = j
    · subst e
      refine ⟨ra, kd, va_up_self _ _ _, Or.inr rfl, hk, by rw [upd_ne4 (by omega)]; exact hf, ?_⟩
      rw [upd_ne4 (by omega), upd_ne4 (show 7 + 6 * v + 3 ≠ 7 + 6 * v + 2 by omega), show upd f (7 + 6 * v + 2) x (7 + 6 * v + 2) = x from upd_at]
      exact hva
    · obtain ⟨a, k2, g1, g2, g3, g4, g5⟩ := h.2 v hv
      exact ⟨a, k2, by rw [va_up_ne _ _ e, hV v e]; exact g1, Or.inl g2, g3, by rw [upd_ne4 (by omega)]; exact g4, by rw [upd_ne4 (by omega), upd_ne4 (by omega), upd_ne4 (by omega)]; exact g5⟩
set_option maxHeartbeats 4000000 in
theorem x_X0_changed (l : Launch) (dC : Nat → ClassId) (dI : Nat → Nat → Nat) (dA : Nat → ClassId) (n c : Nat) (σ : mdT) (ab be : Int64) (z : Nat) (ei : Int32) (v : Int32) : Met l yX0_changed (ws_ yX0_changed cX0_changed 7 (some .int)) { frames := 12, cells := 100, slots := 300, locals := 720 } (xPc dC dI dA (fun H => RX dC dI dA c n σ ab be H ∧ H.size = z) [.ref n, .int ei, .int v]) (xQi (S := Unit) (fun r_ _ => r_ = (sp_changed σ ei v).1) (fun _ => (RX dC dI dA c n (sp_changed σ ei v).2 ab be)) (fun q => bkA n 96 q ∨ z ≤ q)) 100 300 (fun q => bkA n 96 q ∨ z ≤ q) := by
  refine x_in (by decide) rfl (Nat.le_of_ble_eq_true rfl) (lv := [(0, .ref n), (1, .int ei), (2, .int v)]) rfl ?_
  intro p e s m below meth c_ X hN hnm hr hlk hP ls hl
  obtain ⟨hP, hZ⟩ := hP
  obtain ⟨T, ξ, V, V2, im, many, rent, rd, un, hs, ev, ty, hP, hR, ho, hO⟩ := hP
  have ho0 := ho
  have hR0 := hR
  have hV := hO.1
  have hT := hO.tbz hZ
  have hm := hR.m6
  have hr6 := hR.r6
  have hd6 := hR.d6
  have hu8 := hR.u8
  have hs12 := hR.h12
  have hS : va_S (fun q => bkA n 96 q ∨ z ≤ q) s.heap s.heap [] := va_S.rf
  have K39 : ∀ (k39_ : Nat) (bs : Int32) (mo : Int32) (p_ : Nat) (ξ1 : mdT) (V1 : Nat → Option Nat) (j : Nat) (hj : j < many) (hv : v = nI j) (a28 : Nat) (kd28 : Nat) (hVa28 : V j = some a28) (hTa28 : T a28) (hk28 : kd28 < 6) (hf28 : σ 0 (7 + 6 * j) = nI kd28) (hv28 : vwP dC dI a28 kd28 (σ 0 (7 + 6 * j + 1)) (σ 0 (7 + 6 * j + 2)) (σ 0 (7 + 6 * j + 3)) s.heap) (c_4 : rv_in ei 0 99 = true) (c_12 : rv_in v 0 (σ 0 0 - nI 1).toInt = true) (H : Heap) (locs : List Loc), 100 - p_ = k39_ → (p_ ≤ 100) → (∀ i, i ≠ 91 → i ≠ 92 → i ≠ 93 → ξ1 i = ξ i) → (∀ w, w ≠ j → V1 w = V w) → ((bs, mo) = rv_chg (rv_chM (σ 0) many rent ei j) p_) → bkP dC dI n 96 (xE dA n ξ1 V1 V2 im ab be) H → va_S (fun q => bkA n 96 q ∨ z ≤ q) s.heap H locs → ∀ ls, lv_has ls 7 [(0, .ref n), (1, .int ei), (2, .int v), (3, .ref a28), (4, .int bs), (5, .int mo), (6, .int (nI p_))] → W p l e { frames := 12, cells := 100, slots := 300, locals := 720 } s m [.ref n, .int ei, .int v].toArray below meth c_ H locs p_ (3 * p_) (MQ below (xQi (S := Unit) (fun r_ _ => r_ = (sp_changed σ ei v).1) (fun _ => (RX dC dI dA c n (sp_changed σ ei v).2 ab be)) (fun q => bkA n 96 q ∨ z ≤ q)) [.ref n, .int ei, .int v].toArray s 100 300 (fun q => bkA n 96 q ∨ z ≤ q)) (F0 m 39 ls []) := by
    intro k39_
    induction k39_ using Nat.strongRecOn with
    | _ k39_ ih39 =>
      intro bs mo p_ ξ1 V1 j hj hv a28 kd28 hVa28 hTa28 hk28 hf28 hv28 c_4 c_12 H locs hm39_ hp hq hV1 hbm hP hS ls hl
      have hR := hR.cg (S' := fun i_ => ξ1 (1 + i_)) (fun i hi => hq (1 + i) (by omega) (by omega) (by omega)) (fun _ _ => rfl)
      have ho := ho.cg (ξ' := ξ1) (congrFun (hq 0 (by decide) (by decide) (by decide)) 0) (hq 88 (by decide) (by decide) (by decide)) (hq 89 (by decide) (by decide) (by decide)) rfl rfl rfl
      refine lv_iload X.1 X.2.1 dX0_changed_39 (lv_at hl 6 rfl) ?_
      refine lv_bipush (v := nI 99) X.1 X.2.1 dX0_changed_41 rfl ?_
      refine rn_icmp_gt (tgt := 121) X.1 X.2.1 (by omega) (by omega) dX0_changed_43 (by decide) (fun c_43 => ?_) (fun c_43 => ?_)
      · refine lv_aload_n X.1 X.2.1 dX0_changed_121 rfl (lv_at hl 0 rfl) ?_
        refine xb_get (C := RX0) (T := TX0) (v := .ref (n + 1)) X in_X0 (ci := 0) rfl hP (j := 0) (by decide) (xe_x0 ..) 0 (by decide) q248 rfl rfl dX0_changed_122 ?_
        refine xb_getN (host := "RentedViews") (C := RX1) (T := TX1) (v := .ref (n + 2)) X in_X1 (ci := 1) rfl hP (j := 1) (by decide) (xe_x1 ..) 0 (by decide) (x_nest hN q139 rfl) rfl rfl dX0_changed_125 ?_
        refine lv_iload_n X.1 X.2.1 dX0_changed_128 rfl (lv_at hl 2 rfl) ?_
        refine rn_co (y := nI j) hv ?_
        refine lv_aload_n X.1 X.2.1 dX0_changed_129 rfl (lv_at hl 3 rfl) ?_
        refine xc_aast (E := RX6) (a := n + 2) (t := 3) (n := 6) (f := V1) (v := a28) X (hP 2 (by decide)) hS (Or.inl ⟨by omega, by omega⟩) rfl (vw_any X.2.2.2.2.2 hN hk28 (vw_at hv28 hS (hT _ hTa28))) (i := j) (by omega) (by decide) dX0_changed_130 (fun H locs hV1_ hz1 ho1 hS => ?_)
        have hP : bkP dC dI n 96 (xE dA n ξ1 (va_up V1 j (some a28)) V2 im ab be) H := (hP.one (j := 2) hV1_ (fun q _ hq => ho1 q hq)).e (fun i_ _ => xE_V)
        refine lv_iload X.1 X.2.1 dX0_changed_131 (lv_at hl 4 rfl) ?_
        refine W.pad (cells2 := 100) (slots2 := 300) (show p_ ≤ 100 by omega) (show 3 * p_ ≤ 300 by omega) ?_
        exact x_pi (by obtain rfl : p_ = 100 := (by omega); rw [sp_changed, if_pos c_4, if_pos c_12, show rv_cl (σ 0 0) = many from by rw [hR0.f0, rv_cln (by omega)], show rv_cl (σ 0 1) = rent from by rw [hR0.f1, rv_cln (by omega)], show rv_cl v = j from by rw [hv, rv_cln (by omega)], ← hbm]) X hr hlk hS dX0_changed_133 (RX.o (V := V) (by have e : va_up V1 j (some a28) = V := (by funext w; by_cases e : w = j; (rw [e, va_up_self, hVa28]); (rw [va_up_ne _ _ e, hV1 w e])); rw [e] at hP; exact hP) hR ho (hO.atz hS hZ) (fun i hi => hq (44 + i) (by omega) (by omega) (by omega)) rfl rfl rfl)
      · refine lv_aload_n X.1 X.2.1 dX0_changed_46 rfl (lv_at hl 0 rfl) ?_
        refine xb_get (C := RX0) (T := TX0) (v := .ref (n + 1)) X in_X0 (ci := 0) rfl hP (j := 0) (by decide) (xe_x0 ..) 0 (by decide) q248 rfl rfl dX0_changed_47 ?_
        refine xb_getN (host := "RentedViews") (C := RX1) (T := TX1) (v := .ref (n + 2)) X in_X1 (ci := 1) rfl hP (j := 1) (by decide) (xe_x1 ..) 0 (by decide) (x_nest hN q139 rfl) rfl rfl dX0_changed_50 ?_
        refine lv_iload_n X.1 X.2.1 dX0_changed_53 rfl (lv_at hl 2 rfl) ?_
        refine rn_co (y := nI j) hv ?_
        refine lv_aload_n X.1 X.2.1 dX0_changed_54 rfl (lv_at hl 3 rfl) ?_
        refine vd_X0_kind X hN hk28 (vw_at hv28 hS (hT _ hTa28)) (rest := [.int (nI j), .ref (n + 2)]) ⟨Nat.le_of_ble_eq_true rfl, Nat.le_of_ble_eq_true rfl⟩ hl.1 (Nat.le_of_ble_eq_true rfl) dX0_changed_55 ⟨(show p_ + 0 ≤ 100 by omega), (show 3 * p_ + 0 ≤ 300 by omega)⟩ ?_
        refine lv_aload_n X.1 X.2.1 dX0_changed_58 rfl (lv_at hl 3 rfl) ?_
        obtain ⟨C59_, T59_, K59_⟩ := vwK_of hk28
        refine vw_getN (host := "RentedViews") X hN K59_ (vw_at hv28 hS (hT _ hTa28)) 0 (by decide) q337 rfl dX0_changed_59 ?_
        refine lv_iload X.1 X.2.1 dX0_changed_62 (lv_at hl 6 rfl) ?_
        refine lv_aload_n X.1 X.2.1 dX0_changed_64 rfl (lv_at hl 3 rfl) ?_
        obtain ⟨C65_, T65_, K65_⟩ := vwK_of hk28
        refine vw_getN (host := "RentedViews") X hN K65_ (vw_at hv28 hS (hT _ hTa28)) 2 (by decide) q341 rfl dX0_changed_65 ?_
        have hzH : z ≤ H.size := hZ ▸ hS.1
        refine x_cWr (x_runS X hN (P := fun H_ => H_.size = H.size) rfl (As := [.int (nI kd28), .int (σ 0 (7 + 6 * j + 1)), .int (nI p_), .int (σ 0 (7 + 6 * j + 3))]) (rest := [.int (nI j), .ref (n + 2)]) (x_made l dC dI dA H.size kd28 (σ 0 (7 + 6 * j + 1)) (nI p_) (σ 0 (7 + 6 * j + 3)) hk28) xks_X0_117 rfl rfl ⟨Nat.le_of_ble_eq_true rfl, Nat.le_of_ble_eq_true rfl⟩ hl.1 (Nat.le_of_ble_eq_true rfl) dX0_changed_68 ⟨(show p_ + 1 ≤ 100 by omega), (show 3 * p_ + 3 ≤ 300 by omega)⟩) hS (fun q h => Or.inr (Nat.le_trans hzH h)) (fun q h => Or.inr (Nat.le_trans hzH h)) (fun _ ra H2 locs _ hm1 hz1 hk1 hS => ?_)
        obtain ⟨hra, hva⟩ := hm1
        rw [← hra] at hva
        have hzr : z ≤ ra := by rw [hra]; exact hzH
        have hP := hP.kept (fun q hq => hk1 q (bk_sz hP hq) (Nat.not_le.mpr (bk_sz hP hq)))
        refine xc_aast (E := RX6) (a := n + 2) (t := 3) (n := 6) (f := V1) (v := ra) X (hP 2 (by decide)) hS (Or.inl ⟨by omega, by omega⟩) rfl (vw_any X.2.2.2.2.2 hN hk28 hva) (i := j) (by omega) (by decide) dX0_changed_71 (fun H locs hV1_ hz1 ho1 hS => ?_)
        have hP : bkP dC dI n 96 (xE dA n ξ1 (va_up V1 j (some ra)) V2 im ab be) H := (hP.one (j := 2) hV1_ (fun q _ hq => ho1 q hq)).e (fun i_ _ => xE_V)
        have hva := vwP.kept0 hva (ho1 ra (by have := hO.2.2.2.2; omega))
        refine lv_aload_n X.1 X.2.1 dX0_changed_72 rfl (lv_at hl 0 rfl) ?_
        refine xb_get (C := RX0) (T := TX0) (v := .ref (n + 91)) X in_X0 (ci := 0) rfl hP (j := 0) (by decide) (xe_x0 ..) 9 (by decide) q260 rfl rfl dX0_changed_73 ?_
        refine lv_iload_n X.1 X.2.1 dX0_changed_76 rfl (lv_at hl 1 rfl) ?_
        have hVp := shV.price (hV.at hS hT) hj hm hV1 hk28 hf28 hva
        have hTp : ∀ a_, (T a_ ∨ a_ = ra) → a_ < H.size ∧ ¬ bkA n 96 a_ := fun a_ h => h.elim (fun h => ⟨Nat.lt_of_lt_of_le (hT a_ h).1 hS.1, fun y => (hT a_ h).2 (Or.inl y)⟩) (fun h => by subst h; exact ⟨hva.lt, fun y => by have := y.2; have := hO.2.2.2.2; omega⟩)
        refine x_cWv (x_runV X hN ⟨hP, hVp, hTp⟩ (As := [.int ei]) (rest := []) (x_X4_goes l dC dI dA n ξ1 (va_up V1 j (some ra)) V2 im ab be ei c many rent rd un hs ev (upd (σ 0) (7 + 6 * j + 2) (nI p_)) (sh_price hR (by omega)) (fun a_ => T a_ ∨ a_ = ra)) xkv_X0_250 (x_recv (ci := 4) X.2.2.2.2.2 hP (j := 91) (by decide) (xe_x91 ..) rfl) rfl rfl ⟨Nat.le_of_ble_eq_true rfl, Nat.le_of_ble_eq_true rfl⟩ hl.1 (Nat.le_of_ble_eq_true rfl) dX0_changed_77 ⟨(show p_ + 1 + 0 ≤ 100 by omega), (show 3 * p_ + 3 + 0 ≤ 300 by omega)⟩) hS (fun q h => Or.inl h) (fun q h => Or.inl h) (fun u77 H locs hu77 hP hz1 hk1 hS => ?_)
        refine lv_aload_n X.1 X.2.1 dX0_changed_80 rfl (lv_at hl 0 rfl) ?_
        refine xb_get (C := RX0) (T := TX0) (v := .ref (n + 91)) X in_X0 (ci := 0) rfl hP (j := 0) (by decide) (xe_x0 ..) 9 (by decide) q260 rfl rfl dX0_changed_81 ?_
        refine xb_getN (host := "RentedViews") (C := RX4) (T := TX4) (v := .int (u77 91 1)) X in_X4 (ci := 4) rfl hP (j := 91) (by decide) (xe_x91 ..) 3 (by decide) (x_nest hN q227 rfl) rfl rfl dX0_changed_84 ?_
        refine rn_co (y := (rv_chM (σ 0) many rent ei j) p_) hu77.2.2.1 ?_
        refine lv_iload X.1 X.2.1 dX0_changed_87 (lv_at hl 5 rfl) ?_
        refine lv_icmp_le (tgt := 97) X.1 X.2.1 dX0_changed_89 (by decide) (fun (c_89 : (rv_chM (σ 0) many rent ei j) p_ ≤ mo) => ?_) (fun (c_89 : ¬ (rv_chM (σ 0) many rent ei j) p_ ≤ mo) => ?_)
        · refine lv_iload X.1 X.2.1 dX0_changed_97 (lv_at hl 4 rfl) ?_
          refine lv_istore (lv' := [(4, .int bs), (0, .ref n), (1, .int ei), (2, .int v), (3, .ref a28), (5, .int mo), (6, .int (nI p_))]) X.1 X.2.1 dX0_changed_99 hl (by decide) rfl (fun ls hl => ?_)
          refine lv_iload X.1 X.2.1 dX0_changed_101 (lv_at hl 5 rfl) ?_
          refine lv_aload_n X.1 X.2.1 dX0_changed_103 rfl (lv_at hl 1 rfl) ?_
          refine xb_get (C := RX0) (T := TX0) (v := .ref (n + 91)) X in_X0 (ci := 0) rfl hP (j := 0) (by decide) (xe_x0 ..) 9 (by decide) q260 rfl rfl dX0_changed_104 ?_
          refine xb_getN (host := "RentedViews") (C := RX4) (T := TX4) (v := .int (u77 91 1)) X in_X4 (ci := 4) rfl hP (j := 91) (by decide) (xe_x91 ..) 3 (by decide) (x_nest hN q227 rfl) rfl rfl dX0_changed_107 ?_
          refine rn_co (y := (rv_chM (σ 0) many rent ei j) p_) hu77.2.2.1 ?_
          refine va_mmax (rest := []) (x := mo) (y := ((rv_chM (σ 0) many rent ei j) p_)) X.1 X.2.1 (X.2.2.1.trans hl.1.symm) X.2.2.2.1 (X.2.2.2.2.1 _ q791) (X.2.2.2.2.1 _ q792) (X.2.2.2.2.1 _ q82) (X.2.2.2.2.1 _ q793) (Nat.le_of_ble_eq_true rfl) (Nat.le_of_ble_eq_true rfl) (show p_ + 1 + 0 ≤ 100 by omega) (show 3 * p_ + 3 + 0 ≤ 300 by omega) dX0_changed_110 ?_
          refine lv_istore (lv' := [(5, .int (if mo < ((rv_chM (σ 0) many rent ei j) p_) then ((rv_chM (σ 0) many rent ei j) p_) else mo)), (4, .int bs), (0, .ref n), (1, .int ei), (2, .int v), (3, .ref a28), (6, .int (nI p_))]) X.1 X.2.1 dX0_changed_113 hl (by decide) rfl (fun ls hl => ?_)
          refine rn_iinc (lv' := [(6, .int (nI (p_ + 1))), (5, .int (if mo < ((rv_chM (σ 0) many rent ei j) p_) then ((rv_chM (σ 0) many rent ei j) p_) else mo)), (4, .int bs), (0, .ref n), (1, .int ei), (2, .int v), (3, .ref a28)]) X.1 X.2.1 dX0_changed_115 hl (k := 6) rfl (by decide) rfl (fun ls hl => ?_)
          refine lv_goto (tgt := 39) X.1 X.2.1 dX0_changed_118 (by decide) ?_
          exact ih39 _ (by omega) bs (if mo < ((rv_chM (σ 0) many rent ei j) p_) then ((rv_chM (σ 0) many rent ei j) p_) else mo) (p_ + 1) u77 (va_up V1 j (some ra)) j hj hv a28 kd28 hVa28 hTa28 hk28 hf28 hv28 c_4 c_12 _ _ rfl (by omega) (fun i h1 h2 h3 => (hu77.1 i h1 h2 h3).trans (hq i h1 h2 h3)) (fun w h => by rw [va_up_ne _ _ h]; exact hV1 w h) (by rw [rv_chg, ← hbm]; first | (rw [if_pos c_89, if_neg (Int32.not_lt.mpr c_89)]; done) | (rw [if_neg c_89, if_pos (Int32.not_le.mp c_89)]; done)) hP hS ls (lv_sub hl [3, 4, 5, 6, 2, 1, 0] rfl)
        · refine lv_iload X.1 X.2.1 dX0_changed_92 (lv_at hl 6 rfl) ?_
          refine lv_goto (tgt := 99) X.1 X.2.1 dX0_changed_94 (by decide) ?_
          refine lv_istore (lv' := [(4, .int (nI p_)), (0, .ref n), (1, .int ei), (2, .int v), (3, .ref a28), (5, .int mo), (6, .int (nI p_))]) X.1 X.2.1 dX0_changed_99 hl (by decide) rfl (fun ls hl => ?_)
          refine lv_iload X.1 X.2.1 dX0_changed_101 (lv_at hl 5 rfl) ?_
          refine lv_aload_n X.1 X.2.1 dX0_changed_103 rfl (lv_at hl 1 rfl) ?_
          refine xb_get (C := RX0) (T := TX0) (v := .ref (n + 91)) X in_X0 (ci := 0) rfl hP (j := 0) (by decide) (xe_x0 ..) 9 (by decide) q260 rfl rfl dX0_changed_104 ?_
          refine xb_getN (host := "RentedViews") (C := RX4) (T := TX4) (v := .int (u77 91 1)) X in_X4 (ci := 4) rfl hP (j := 91) (by decide) (xe_x91 ..) 3 (by decide) (x_nest hN q227 rfl) rfl rfl dX0_changed_107 ?_
          refine rn_co (y := (rv_chM (σ 0) many rent ei j) p_) hu77.2.2.1 ?_
          refine va_mmax (rest := []) (x := mo) (y := ((rv_chM (σ 0) many rent ei j) p_)) X.1 X.2.1 (X.2.2.1.trans hl.1.symm) X.2.2.2.1 (X.2.2.2.2.1 _ q791) (X.2.2.2.2.1 _ q792) (X.2.2.2.2.1 _ q82) (X.2.2.2.2.1 _ q793) (Nat.le_of_ble_eq_true rfl) (Nat.le_of_ble_eq_true rfl) (show p_ + 1 + 0 ≤ 100 by omega) (show 3 * p_ + 3 + 0 ≤ 300 by omega) dX0_changed_110 ?_
          refine lv_istore (lv' := [(5, .int (if mo < ((rv_chM (σ 0) many rent ei j) p_) then ((rv_chM (σ 0) many rent ei j) p_) else mo)), (4, .int (nI p_)), (0, .ref n), (1, .int ei), (2, .int v), (3, .ref a28), (6, .int (nI p_))]) X.1 X.2.1 dX0_changed_113 hl (by decide) rfl (fun ls hl => ?_)
          refine rn_iinc (lv' := [(6, .int (nI (p_ + 1))), (5, .int (if mo < ((rv_chM (σ 0) many rent ei j) p_) then ((rv_chM (σ 0) many rent ei j) p_) else mo)), (4, .int (nI p_)), (0, .ref n), (1, .int ei), (2, .int v), (3, .ref a28)]) X.1 X.2.1 dX0_changed_115 hl (k := 6) rfl (by decide) rfl (fun ls hl => ?_)
          refine lv_goto (tgt := 39) X.1 X.2.1 dX0_changed_118 (by decide) ?_
          exact ih39 _ (by omega) (nI p_) (if mo < ((rv_chM (σ 0) many rent ei j) p_) then ((rv_chM (σ 0) many rent ei j) p_) else mo) (p_ + 1) u77 (va_up V1 j (some ra)) j hj hv a28 kd28 hVa28 hTa28 hk28 hf28 hv28 c_4 c_12 _ _ rfl (by omega) (fun i h1 h2 h3 => (hu77.1 i h1 h2 h3).trans (hq i h1 h2 h3)) (fun w h => by rw [va_up_ne _ _ h]; exact hV1 w h) (by rw [rv_chg, ← hbm]; first | (rw [if_pos c_89, if_neg (Int32.not_lt.mpr c_89)]; done) | (rw [if_neg c_89, if_pos (Int32.not_le.mp c_89)]; done)) hP hS ls (lv_sub hl [3, 4, 5, 6, 2, 1, 0] rfl)
  refine lv_iload_n X.1 X.2.1 dX0_changed_0 rfl (lv_at hl 1 rfl) ?_
  refine x_cSe (x_runSp X (As := [.int ei]) (rest := []) (x_X0_isEvening l ei) xks_X0_244 rfl rfl ⟨Nat.le_of_ble_eq_true rfl, Nat.le_of_ble_eq_true rfl⟩ hl.1 (Nat.le_of_ble_eq_true rfl) dX0_changed_1 ⟨Nat.le_of_ble_eq_true rfl, Nat.le_of_ble_eq_true rfl⟩) ?_
  refine rn_zt (tgt := 15) X.1 X.2.1 dX0_changed_4 (by decide) (fun c_4 => ?_) (fun c_4 => ?_)
  · refine lv_aload_n X.1 X.2.1 dX0_changed_15 rfl (lv_at hl 0 rfl) ?_
    refine x_cWi (x_runV X hN hP (As := []) (rest := []) (x_X0_bad l dC dI dA n ξ V V2 im ab be) xkv_X0_110 (x_recv (ci := 0) X.2.2.2.2.2 hP (j := 0) (by decide) (xe_x0 ..) rfl) rfl rfl ⟨Nat.le_of_ble_eq_true rfl, Nat.le_of_ble_eq_true rfl⟩ hl.1 (Nat.le_of_ble_eq_true rfl) dX0_changed_16 ⟨Nat.le_of_ble_eq_true rfl, Nat.le_of_ble_eq_true rfl⟩) hS (fun q h => Or.inl h) (fun q h => Or.inl h) (fun r16 _ H locs hr1 hP1 hz1 hk1 hS => ?_)
    subst hr1
    have hP := hP1
    have hR := hR.cg (S' := fun i_ => (mdS ξ 89 0 (ξ 89 0 + nI 1)) (1 + i_)) (fun i hi => by first | rfl | simp (disch := omega) only [mdS_row, mdI_out, upRn] | (simp (disch := omega) only [mdS_row, mdI_out, upRn, *])) (fun _ _ => rfl)
    have ho := oR.b (k := 0) ho (by decide)
    refine W.pad (cells2 := 100) (slots2 := 300) (Nat.le_of_ble_eq_true rfl) (Nat.le_of_ble_eq_true rfl) ?_
    exact x_pi (by first | (rw [sp_changed, if_neg (rv_nf c_4)]; done) | (rw [sp_changed, if_neg (rv_nf c_4)]; rfl) | (rw [sp_changed, if_pos c_4, if_neg (rv_nf c_12)]; done) | (rw [sp_changed, if_pos c_4, if_neg (rv_nf c_12)]; rfl)) X hr hlk hS dX0_changed_19 (RX.o hP hR ho (hO.atz hS hZ) (fun i hi => by first | rfl | simp (disch := omega) only [mdS_row, mdI_out, upRn] | (simp (disch := omega) only [mdS_row, mdI_out, upRn, *])) rfl rfl rfl)
  · refine lv_aload_n X.1 X.2.1 dX0_changed_7 rfl (lv_at hl 0 rfl) ?_
    refine lv_iload_n X.1 X.2.1 dX0_changed_8 rfl (lv_at hl 2 rfl) ?_
    refine x_cSe (x_runV X hN hP (As := [.int v]) (rest := []) (x_X0_isView l dC dI dA n ξ V V2 im ab be v c many rent rd un hs ev (σ 0) hR) xkv_X0_132 (x_recv (ci := 0) X.2.2.2.2.2 hP (j := 0) (by decide) (xe_x0 ..) rfl) rfl rfl ⟨Nat.le_of_ble_eq_true rfl, Nat.le_of_ble_eq_true rfl⟩ hl.1 (Nat.le_of_ble_eq_true rfl) dX0_changed_9 ⟨Nat.le_of_ble_eq_true rfl, Nat.le_of_ble_eq_true rfl⟩) ?_
    refine rn_zf (tgt := 20) X.1 X.2.1 dX0_changed_12 (by decide) (fun c_12 => ?_) (fun c_12 => ?_)
    · obtain ⟨j, hj, hv⟩ := rv_isx hR.f0 hm c_12
      refine lv_aload_n X.1 X.2.1 dX0_changed_20 rfl (lv_at hl 0 rfl) ?_
      refine xb_get (C := RX0) (T := TX0) (v := .ref (n + 1)) X in_X0 (ci := 0) rfl hP (j := 0) (by decide) (xe_x0 ..) 0 (by decide) q248 rfl rfl dX0_changed_21 ?_
      refine xb_getN (host := "RentedViews") (C := RX1) (T := TX1) (v := .ref (n + 2)) X in_X1 (ci := 1) rfl hP (j := 1) (by decide) (xe_x1 ..) 0 (by decide) (x_nest hN q139 rfl) rfl rfl dX0_changed_24 ?_
      refine lv_iload_n X.1 X.2.1 dX0_changed_27 rfl (lv_at hl 2 rfl) ?_
      refine rn_co (y := nI j) hv ?_
      obtain ⟨a28, kd28, hVa28, hTa28, hk28, hf28, hv28⟩ := hV.2 j (by omega)
      refine xb_aald X hP (j := 2) (by decide) (t := 3) (C := RX6) (f := V) rfl rfl (by omega) (by decide) dX0_changed_28 ?_
      refine x_vq hVa28 ?_
      refine lv_astore_n (lv' := [(3, .ref a28), (0, .ref n), (1, .int ei), (2, .int v)]) X.1 X.2.1 dX0_changed_29 rfl hl (by decide) rfl (fun ls hl => ?_)
      refine lv_iconst (v := nI 0) X.1 X.2.1 dX0_changed_30 rfl ?_
      refine lv_istore (lv' := [(4, .int (nI 0)), (3, .ref a28), (0, .ref n), (1, .int ei), (2, .int v)]) X.1 X.2.1 dX0_changed_31 hl (by decide) rfl (fun ls hl => ?_)
      refine lv_iconst (v := (-1)) X.1 X.2.1 dX0_changed_33 rfl ?_
      refine lv_istore (lv' := [(5, .int (-1)), (4, .int (nI 0)), (3, .ref a28), (0, .ref n), (1, .int ei), (2, .int v)]) X.1 X.2.1 dX0_changed_34 hl (by decide) rfl (fun ls hl => ?_)
      refine lv_iconst (v := nI 0) X.1 X.2.1 dX0_changed_36 rfl ?_
      refine lv_istore (lv' := [(6, .int (nI 0)), (5, .int (-1)), (4, .int (nI 0)), (3, .ref a28), (0, .ref n), (1, .int ei), (2, .int v)]) X.1 X.2.1 dX0_changed_37 hl (by decide) rfl (fun ls hl => ?_)
      exact K39 _ (nI 0) (-1) 0 ξ V j hj hv a28 kd28 hVa28 hTa28 hk28 hf28 hv28 c_4 c_12 _ _ rfl (by omega) (fun _ _ _ _ => rfl) (fun _ _ => rfl) rfl hP hS ls (lv_sub hl [4, 5, 6, 3, 2, 1, 0] rfl)
    · refine lv_aload_n X.1 X.2.1 dX0_changed_15 rfl (lv_at hl 0 rfl) ?_
      refine x_cWi (x_runV X hN hP (As := []) (rest := []) (x_X0_bad l dC dI dA n ξ V V2 im ab be) xkv_X0_110 (x_recv (ci := 0) X.2.2.2.2.2 hP (j := 0) (by decide) (xe_x0 ..) rfl) rfl rfl ⟨Nat.le_of_ble_eq_true rfl, Nat.le_of_ble_eq_true rfl⟩ hl.1 (Nat.le_of_ble_eq_true rfl) dX0_changed_16 ⟨Nat.le_of_ble_eq_true rfl, Nat.le_of_ble_eq_true rfl⟩) hS (fun q h => Or.inl h) (fun q h => Or.inl h) (fun r16 _ H locs hr1 hP1 hz1 hk1 hS => ?_)
      subst hr1
      have hP := hP1
      have hR := hR.cg (S' := fun i_ => (mdS ξ 89 0 (ξ 89 0 + nI 1)) (1 + i_)) (fun i hi => by first | rfl | simp (disch := omega) only [mdS_row, mdI_out, upRn] | (simp (disch := omega) only [mdS_row, mdI_out, upRn, *])) (fun _ _ => rfl)
      have ho := oR.b (k := 0) ho (by decide)
      refine W.pad (cells2 := 100) (slots2 := 300) (Nat.le_of_ble_eq_true rfl) (Nat.le_of_ble_eq_true rfl) ?_
      exact x_pi (by first | (rw [sp_changed, if_neg (rv_nf c_4)]; done) | (rw [sp_changed, if_neg (rv_nf c_4)]; rfl) | (rw [sp_changed, if_pos c_4, if_neg (rv_nf c_12)]; done) | (rw [sp_changed, if_pos c_4, if_neg (rv_nf c_12)]; rfl)) X hr hlk hS dX0_changed_19 (RX.o hP hR ho (hO.atz hS hZ) (fun i hi => by first | rfl | simp (disch := omega) only [mdS_row, mdI_out, upRn] | (simp (disch := omega) only [mdS_row, mdI_out, upRn, *])) rfl rfl rfl)
