set_option maxRecDepth 100000
/-! the component: best, money, come -/
theorem xkv_X0_250 : xKV RX0 yX4_goes cX4_goes 2 none 250 1 := ⟨q755, q756, q757, q65, q758, by decide +kernel⟩
theorem xkv_X0_269 : xKV RX0 yX0_all cX0_all 1 (some .int) 269 0 := ⟨q775, q777, qs16, q61, q778, by decide +kernel⟩
theorem xkv_X0_272 : xKV RX0 yX0_comes cX0_comes 8 none 272 2 := ⟨q779, q781, qs17, q61, q782, by decide +kernel⟩
theorem rv_inm {r x : Int32} {rent : Nat} (hx : x = nI rent) (hr : rent ≤ 6) : rv_inL r.toInt64 (-1) (x - 1).toInt64 = (decide (r = -1) || rv_in r 0 (x - nI 1).toInt) := by
  rw [rv_inL_ii, hx, show nI rent - 1 = nI rent - nI 1 from rfl, pk_sub_toInt (by omega) (by omega)]
  unfold rv_in
  have h1 : (-1 : Int64).toInt = -1 := by decide
  rw [h1]
  have h2 : decide (r = -1) = decide (r.toInt = -1) := decide_eq_decide.mpr ⟨fun z => by rw [z]; decide, fun z => Int32.toInt_inj.mp (z.trans (by decide))⟩
  rw [h2]
  rw [Bool.eq_iff_iff]
  simp only [Bool.and_eq_true, Bool.or_eq_true, decide_eq_true_eq]
  omega
theorem x_X0_best (l : Launch) (dC : Nat → ClassId) (dI : Nat → Nat → Nat) (dA : Nat → ClassId) (n c : Nat) (σ : mdT) (ab be : Int64) (ei : Int32) (r : Int32) : Met l yX0_best (ws_ yX0_best cX0_best 3 (some .int)) { frames := 12, cells := 0, slots := 0, locals := 720 } (xPc dC dI dA (RX dC dI dA c n σ ab be) [.ref n, .int ei, .int r]) (xQi (S := Unit) (fun r_ _ => r_ = (sp_best σ ei r).1) (fun _ => (RX dC dI dA c n (sp_best σ ei r).2 ab be)) (bkA n 96)) 0 0 (bkA n 96) := by
  refine x_in (by decide) rfl (Nat.le_of_ble_eq_true rfl) (lv := [(0, .ref n), (1, .int ei), (2, .int r)]) rfl ?_
  intro p e s m below meth c_ X hN hnm hr hlk hP ls hl
  obtain ⟨T, ξ, V, V2, im, many, rent, rd, un, hs, ev, ty, hP, hR, ho, hO⟩ := hP
  have ho0 := ho
  have hR0 := hR
  have hV := hO.1
  have hT := hO.tb
  have hm := hR.m6
  have hr6 := hR.r6
  have hd6 := hR.d6
  have hu8 := hR.u8
  have hs12 := hR.h12
  have hS : va_S (bkA n 96) s.heap s.heap [] := va_S.rf
  refine lv_iload_n X.1 X.2.1 dX0_best_0 rfl (lv_at hl 1 rfl) ?_
  refine x_cSe (x_runSp X (As := [.int ei]) (rest := []) (x_X0_isEvening l ei) xks_X0_244 rfl rfl ⟨Nat.le_of_ble_eq_true rfl, Nat.le_of_ble_eq_true rfl⟩ hl.1 (Nat.le_of_ble_eq_true rfl) dX0_best_1 ⟨Nat.le_of_ble_eq_true rfl, Nat.le_of_ble_eq_true rfl⟩) ?_
  refine rn_zt (tgt := 20) X.1 X.2.1 dX0_best_4 (by decide) (fun c_4 => ?_) (fun c_4 => ?_)
  · refine lv_aload_n X.1 X.2.1 dX0_best_20 rfl (lv_at hl 0 rfl) ?_
    refine x_cWi (x_runV X hN hP (As := []) (rest := []) (x_X0_badAsk l dC dI dA n ξ V V2 im ab be) xkv_X0_221 (x_recv (ci := 0) X.2.2.2.2.2 hP (j := 0) (by decide) (xe_x0 ..) rfl) rfl rfl ⟨Nat.le_of_ble_eq_true rfl, Nat.le_of_ble_eq_true rfl⟩ hl.1 (Nat.le_of_ble_eq_true rfl) dX0_best_21 ⟨Nat.le_of_ble_eq_true rfl, Nat.le_of_ble_eq_true rfl⟩) hS (fun _ h => h) (fun _ h => h) (fun r21 _ H locs hr1 hP1 hz1 hk1 hS => ?_)
    subst hr1
    have hP := hP1
    have hR := hR.cg (S' := fun i_ => (mdS ξ 89 0 (ξ 89 0 + nI 1)) (1 + i_)) (fun i hi => by first | rfl | simp (disch := omega) only [mdS_row, mdI_out, upRn] | (simp (disch := omega) only [mdS_row, mdI_out, upRn, *])) (fun _ _ => rfl)
    have ho := oR.b (k := 0) ho (by decide)
    exact x_pi (by first | (rw [sp_best, if_neg (rv_nf c_4)]; rfl) | (rw [sp_best, if_pos c_4, if_neg (rv_nf (by rw [rv_inm hR0.f1 hr6, c_17, decide_eq_false c_9]; rfl))]; rfl)) X hr hlk hS dX0_best_24 (RX.o hP hR ho (hO.at hS) (fun i hi => by first | rfl | simp (disch := omega) only [mdS_row, mdI_out, upRn] | (simp (disch := omega) only [mdS_row, mdI_out, upRn, *])) rfl rfl rfl)
  · refine lv_iload_n X.1 X.2.1 dX0_best_7 rfl (lv_at hl 2 rfl) ?_
    refine lv_iconst (v := (-1)) X.1 X.2.1 dX0_best_8 rfl ?_
    refine lv_icmp_eq (tgt := 25) X.1 X.2.1 dX0_best_9 (by decide) (fun (c_9 : r = (-1)) => ?_) (fun (c_9 : ¬ r = (-1)) => ?_)
    · have hin : rv_inL r.toInt64 (-1) (σ 0 1 - 1).toInt64 = true := by
        rw [rv_inm hR.f1 hr6]
        first
        | (rw [c_9]; rfl)
        | (rw [c_17]; exact Bool.or_true _)
      refine lv_aload_n X.1 X.2.1 dX0_best_25 rfl (lv_at hl 0 rfl) ?_
      refine xb_get (C := RX0) (T := TX0) (v := .ref (n + 91)) X in_X0 (ci := 0) rfl hP (j := 0) (by decide) (xe_x0 ..) 9 (by decide) q260 rfl rfl dX0_best_26 ?_
      refine lv_iload_n X.1 X.2.1 dX0_best_29 rfl (lv_at hl 1 rfl) ?_
      refine x_cWv (x_runV X hN ⟨hP, (hV.at hS hT), (tb_sub hT hS)⟩ (As := [.int ei]) (rest := []) (x_X4_goes l dC dI dA n ξ V V2 im ab be ei c many rent rd un hs ev (σ 0) hR T) xkv_X0_250 (x_recv (ci := 4) X.2.2.2.2.2 hP (j := 91) (by decide) (xe_x91 ..) rfl) rfl rfl ⟨Nat.le_of_ble_eq_true rfl, Nat.le_of_ble_eq_true rfl⟩ hl.1 (Nat.le_of_ble_eq_true rfl) dX0_best_30 ⟨Nat.le_of_ble_eq_true rfl, Nat.le_of_ble_eq_true rfl⟩) hS (fun _ h => h) (fun _ h => h) (fun u30 H locs hu30 hP1 hz1 hk1 hS => ?_)
      have hP := hP1
      have hR := hR.cg (fun i hi => hu30.1 (1 + i) (by omega) (by omega) (by omega) ) (fun _ _ => rfl)
      have ho := ho.cg (congrFun (hu30.1 0 (by decide) (by decide) (by decide)) 0) (hu30.1 88 (by decide) (by decide) (by decide)) (hu30.1 89 (by decide) (by decide) (by decide)) rfl rfl rfl
      refine lv_iload_n X.1 X.2.1 dX0_best_33 rfl (lv_at hl 2 rfl) ?_
      refine lv_iconst (v := (-1)) X.1 X.2.1 dX0_best_34 rfl ?_
      refine lv_icmp_ne (tgt := 48) X.1 X.2.1 dX0_best_35 (by decide) (fun (c_35 : ¬ r = (-1)) => ?_) (fun (c_35 : r = (-1)) => ?_)
      · obtain ⟨j, hj6, hj⟩ := rv_inm1 hR0.f1 hr6 hin c_35
        refine lv_aload_n X.1 X.2.1 dX0_best_48 rfl (lv_at hl 0 rfl) ?_
        refine xb_get (C := RX0) (T := TX0) (v := .ref (n + 91)) X in_X0 (ci := 0) rfl hP (j := 0) (by decide) (xe_x0 ..) 9 (by decide) q260 rfl rfl dX0_best_49 ?_
        refine xb_getN (host := "RentedViews") (C := RX4) (T := TX4) (v := .ref (n + 93)) X in_X4 (ci := 4) rfl hP (j := 91) (by decide) (xe_x91 ..) 1 (by decide) (x_nest hN q223 rfl) rfl rfl dX0_best_52 ?_
        refine lv_iload_n X.1 X.2.1 dX0_best_55 rfl (lv_at hl 2 rfl) ?_
        refine rn_co (y := nI j) hj ?_
        refine xb_iald X hP (j := 93) (by decide) (n := 6) (f := u30 93) rfl (by omega) (by decide) dX0_best_56 ?_
        refine rn_co (y := (rv_bestN (σ 0) many rent ei).2.2 j) (hu30.2.2.2 j hj6) ?_
        exact x_pi (by rw [sp_best, if_pos c_4, if_pos hin]; show ((if r = -1 then (rv_bestN (σ 0) (rv_cl (σ 0 0)) (rv_cl (σ 0 1)) ei).1 else (rv_bestN (σ 0) (rv_cl (σ 0 0)) (rv_cl (σ 0 1)) ei).2.2 (rv_cl r)), σ) = _; rw [show rv_cl (σ 0 0) = many from by rw [hR0.f0, rv_cln (by omega)], show rv_cl (σ 0 1) = rent from by rw [hR0.f1, rv_cln (by omega)]]; first | rw [if_pos c_35] | rw [if_neg c_35, show rv_cl r = j from by rw [hj, rv_cln (by omega)]]) X hr hlk hS dX0_best_57 (RX.o hP hR ho (hO.at hS) (fun i hi => hu30.1 (44 + i) (by omega) (by omega) (by omega)) rfl rfl rfl)
      · refine lv_aload_n X.1 X.2.1 dX0_best_38 rfl (lv_at hl 0 rfl) ?_
        refine xb_get (C := RX0) (T := TX0) (v := .ref (n + 91)) X in_X0 (ci := 0) rfl hP (j := 0) (by decide) (xe_x0 ..) 9 (by decide) q260 rfl rfl dX0_best_39 ?_
        refine xb_getN (host := "RentedViews") (C := RX4) (T := TX4) (v := .int (u30 91 0)) X in_X4 (ci := 4) rfl hP (j := 91) (by decide) (xe_x91 ..) 2 (by decide) (x_nest hN q225 rfl) rfl rfl dX0_best_42 ?_
        refine rn_co (y := (rv_bestN (σ 0) many rent ei).1) hu30.2.1 ?_
        refine lv_goto (tgt := 57) X.1 X.2.1 dX0_best_45 (by decide) ?_
        exact x_pi (by rw [sp_best, if_pos c_4, if_pos hin]; show ((if r = -1 then (rv_bestN (σ 0) (rv_cl (σ 0 0)) (rv_cl (σ 0 1)) ei).1 else (rv_bestN (σ 0) (rv_cl (σ 0 0)) (rv_cl (σ 0 1)) ei).2.2 (rv_cl r)), σ) = _; rw [show rv_cl (σ 0 0) = many from by rw [hR0.f0, rv_cln (by omega)], show rv_cl (σ 0 1) = rent from by rw [hR0.f1, rv_cln (by omega)]]; first | rw [if_pos c_35] | rw [if_neg c_35, show rv_cl r = j from by rw [hj, rv_cln (by omega)]]) X hr hlk hS dX0_best_57 (RX.o hP hR ho (hO.at hS) (fun i hi => hu30.1 (44 + i) (by omega) (by omega) (by omega)) rfl rfl rfl)
    · refine lv_aload_n X.1 X.2.1 dX0_best_12 rfl (lv_at hl 0 rfl) ?_
      refine lv_iload_n X.1 X.2.1 dX0_best_13 rfl (lv_at hl 2 rfl) ?_
      refine x_cSe (x_runV X hN hP (As := [.int r]) (rest := []) (x_X0_isRenter l dC dI dA n ξ V V2 im ab be r c many rent rd un hs ev (σ 0) hR) xkv_X0_157 (x_recv (ci := 0) X.2.2.2.2.2 hP (j := 0) (by decide) (xe_x0 ..) rfl) rfl rfl ⟨Nat.le_of_ble_eq_true rfl, Nat.le_of_ble_eq_true rfl⟩ hl.1 (Nat.le_of_ble_eq_true rfl) dX0_best_14 ⟨Nat.le_of_ble_eq_true rfl, Nat.le_of_ble_eq_true rfl⟩) ?_
      refine rn_zf (tgt := 25) X.1 X.2.1 dX0_best_17 (by decide) (fun c_17 => ?_) (fun c_17 => ?_)
      · have hin : rv_inL r.toInt64 (-1) (σ 0 1 - 1).toInt64 = true := by
          rw [rv_inm hR.f1 hr6]
          first
          | (rw [c_9]; rfl)
          | (rw [c_17]; exact Bool.or_true _)
        refine lv_aload_n X.1 X.2.1 dX0_best_25 rfl (lv_at hl 0 rfl) ?_
        refine xb_get (C := RX0) (T := TX0) (v := .ref (n + 91)) X in_X0 (ci := 0) rfl hP (j := 0) (by decide) (xe_x0 ..) 9 (by decide) q260 rfl rfl dX0_best_26 ?_
        refine lv_iload_n X.1 X.2.1 dX0_best_29 rfl (lv_at hl 1 rfl) ?_
        refine x_cWv (x_runV X hN ⟨hP, (hV.at hS hT), (tb_sub hT hS)⟩ (As := [.int ei]) (rest := []) (x_X4_goes l dC dI dA n ξ V V2 im ab be ei c many rent rd un hs ev (σ 0) hR T) xkv_X0_250 (x_recv (ci := 4) X.2.2.2.2.2 hP (j := 91) (by decide) (xe_x91 ..) rfl) rfl rfl ⟨Nat.le_of_ble_eq_true rfl, Nat.le_of_ble_eq_true rfl⟩ hl.1 (Nat.le_of_ble_eq_true rfl) dX0_best_30 ⟨Nat.le_of_ble_eq_true rfl, Nat.le_of_ble_eq_true rfl⟩) hS (fun _ h => h) (fun _ h => h) (fun u30 H locs hu30 hP1 hz1 hk1 hS => ?_)
        have hP := hP1
        have hR := hR.cg (fun i hi => hu30.1 (1 + i) (by omega) (by omega) (by omega) ) (fun _ _ => rfl)
        have ho := ho.cg (congrFun (hu30.1 0 (by decide) (by decide) (by decide)) 0) (hu30.1 88 (by decide) (by decide) (by decide)) (hu30.1 89 (by decide) (by decide) (by decide)) rfl rfl rfl
        refine lv_iload_n X.1 X.2.1 dX0_best_33 rfl (lv_at hl 2 rfl) ?_
        refine lv_iconst (v := (-1)) X.1 X.2.1 dX0_best_34 rfl ?_
        refine lv_icmp_ne (tgt := 48) X.1 X.2.1 dX0_best_35 (by decide) (fun (c_35 : ¬ r = (-1)) => ?_) (fun (c_35 : r = (-1)) => ?_)
        · obtain ⟨j, hj6, hj⟩ := rv_inm1 hR0.f1 hr6 hin c_35
          refine lv_aload_n X.1 X.2.1 dX0_best_48 rfl (lv_at hl 0 rfl) ?_
          refine xb_get (C := RX0) (T := TX0) (v := .ref (n + 91)) X in_X0 (ci := 0) rfl hP (j := 0) (by decide) (xe_x0 ..) 9 (by decide) q260 rfl rfl dX0_best_49 ?_
          refine xb_getN (host := "RentedViews") (C := RX4) (T := TX4) (v := .ref (n + 93)) X in_X4 (ci := 4) rfl hP (j := 91) (by decide) (xe_x91 ..) 1 (by decide) (x_nest hN q223 rfl) rfl rfl dX0_best_52 ?_
          refine lv_iload_n X.1 X.2.1 dX0_best_55 rfl (lv_at hl 2 rfl) ?_
          refine rn_co (y := nI j) hj ?_
          refine xb_iald X hP (j := 93) (by decide) (n := 6) (f := u30 93) rfl (by omega) (by decide) dX0_best_56 ?_
          refine rn_co (y := (rv_bestN (σ 0) many rent ei).2.2 j) (hu30.2.2.2 j hj6) ?_
          exact x_pi (by rw [sp_best, if_pos c_4, if_pos hin]; show ((if r = -1 then (rv_bestN (σ 0) (rv_cl (σ 0 0)) (rv_cl (σ 0 1)) ei).1 else (rv_bestN (σ 0) (rv_cl (σ 0 0)) (rv_cl (σ 0 1)) ei).2.2 (rv_cl r)), σ) = _; rw [show rv_cl (σ 0 0) = many from by rw [hR0.f0, rv_cln (by omega)], show rv_cl (σ 0 1) = rent from by rw [hR0.f1, rv_cln (by omega)]]; first | rw [if_pos c_35] | rw [if_neg c_35, show rv_cl r = j from by rw [hj, rv_cln (by omega)]]) X hr hlk hS dX0_best_57 (RX.o hP hR ho (hO.at hS) (fun i hi => hu30.1 (44 + i) (by omega) (by omega) (by omega)) rfl rfl rfl)
        · refine lv_aload_n X.1 X.2.1 dX0_best_38 rfl (lv_at hl 0 rfl) ?_
          refine xb_get (C := RX0) (T := TX0) (v := .ref (n + 91)) X in_X0 (ci := 0) rfl hP (j := 0) (by decide) (xe_x0 ..) 9 (by decide) q260 rfl rfl dX0_best_39 ?_
          refine xb_getN (host := "RentedViews") (C := RX4) (T := TX4) (v := .int (u30 91 0)) X in_X4 (ci := 4) rfl hP (j := 91) (by decide) (xe_x91 ..) 2 (by decide) (x_nest hN q225 rfl) rfl rfl dX0_best_42 ?_
          refine rn_co (y := (rv_bestN (σ 0) many rent ei).1) hu30.2.1 ?_
          refine lv_goto (tgt := 57) X.1 X.2.1 dX0_best_45 (by decide) ?_
          exact x_pi (by rw [sp_best, if_pos c_4, if_pos hin]; show ((if r = -1 then (rv_bestN (σ 0) (rv_cl (σ 0 0)) (rv_cl (σ 0 1)) ei).1 else (rv_bestN (σ 0) (rv_cl (σ 0 0)) (rv_cl (σ 0 1)) ei).2.2 (rv_cl r)), σ) = _; rw [show rv_cl (σ 0 0) = many from by rw [hR0.f0, rv_cln (by omega)], show rv_cl (σ 0 1) = rent from by rw [hR0.f1, rv_cln (by omega)]]; first | rw [if_pos c_35] | rw [if_neg c_35, show rv_cl r = j from by rw [hj, rv_cln (by omega)]]) X hr hlk hS dX0_best_57 (RX.o hP hR ho (hO.at hS) (fun i hi => hu30.1 (44 + i) (by omega) (by omega) (by omega)) rfl rfl rfl)
      · refine lv_aload_n X.1 X.2.1 dX0_best_20 rfl (lv_at hl 0 rfl) ?_
        refine x_cWi (x_runV X hN hP (As := []) (rest := []) (x_X0_badAsk l dC dI dA n ξ V V2 im ab be) xkv_X0_221 (x_recv (ci := 0) X.2.2.2.2.2 hP (j := 0) (by decide) (xe_x0 ..) rfl) rfl rfl ⟨Nat.le_of_ble_eq_true rfl, Nat.le_of_ble_eq_true rfl⟩ hl.1 (Nat.le_of_ble_eq_true rfl) dX0_best_21 ⟨Nat.le_of_ble_eq_true rfl, Nat.le_of_ble_eq_true rfl⟩) hS (fun _ h => h) (fun _ h => h) (fun r21 _ H locs hr1 hP1 hz1 hk1 hS => ?_)
        subst hr1
        have hP := hP1
        have hR := hR.cg (S' := fun i_ => (mdS ξ 89 0 (ξ 89 0 + nI 1)) (1 + i_)) (fun i hi => by first | rfl | simp (disch := omega) only [mdS_row, mdI_out, upRn] | (simp (disch := omega) only [mdS_row, mdI_out, upRn, *])) (fun _ _ => rfl)
        have ho := oR.b (k := 0) ho (by decide)
        exact x_pi (by first | (rw [sp_best, if_neg (rv_nf c_4)]; rfl) | (rw [sp_best, if_pos c_4, if_neg (rv_nf (by rw [rv_inm hR0.f1 hr6, c_17, decide_eq_false c_9]; rfl))]; rfl)) X hr hlk hS dX0_best_24 (RX.o hP hR ho (hO.at hS) (fun i hi => by first | rfl | simp (disch := omega) only [mdS_row, mdI_out, upRn] | (simp (disch := omega) only [mdS_row, mdI_out, upRn, *])) rfl rfl rfl)
theorem x_X0_money (l : Launch) (dC : Nat → ClassId) (dI : Nat → Nat → Nat) (dA : Nat → ClassId) (n c : Nat) (σ : mdT) (ab be : Int64) (ei : Int32) : Met l yX0_money (ws_ yX0_money cX0_money 2 (some .int)) { frames := 12, cells := 0, slots := 0, locals := 720 } (xPc dC dI dA (RX dC dI dA c n σ ab be) [.ref n, .int ei]) (xQi (S := Unit) (fun r_ _ => r_ = (sp_money σ ei).1) (fun _ => (RX dC dI dA c n (sp_money σ ei).2 ab be)) (bkA n 96)) 0 0 (bkA n 96) := by
  refine x_in (by decide) rfl (Nat.le_of_ble_eq_true rfl) (lv := [(0, .ref n), (1, .int ei)]) rfl ?_
  intro p e s m below meth c_ X hN hnm hr hlk hP ls hl
  obtain ⟨T, ξ, V, V2, im, many, rent, rd, un, hs, ev, ty, hP, hR, ho, hO⟩ := hP
  have ho0 := ho
  have hR0 := hR
  have hV := hO.1
  have hT := hO.tb
  have hm := hR.m6
  have hr6 := hR.r6
  have hd6 := hR.d6
  have hu8 := hR.u8
  have hs12 := hR.h12
  have hS : va_S (bkA n 96) s.heap s.heap [] := va_S.rf
  refine lv_iload_n X.1 X.2.1 dX0_money_0 rfl (lv_at hl 1 rfl) ?_
  refine x_cSe (x_runSp X (As := [.int ei]) (rest := []) (x_X0_isEvening l ei) xks_X0_244 rfl rfl ⟨Nat.le_of_ble_eq_true rfl, Nat.le_of_ble_eq_true rfl⟩ hl.1 (Nat.le_of_ble_eq_true rfl) dX0_money_1 ⟨Nat.le_of_ble_eq_true rfl, Nat.le_of_ble_eq_true rfl⟩) ?_
  refine rn_zf (tgt := 12) X.1 X.2.1 dX0_money_4 (by decide) (fun c_4 => ?_) (fun c_4 => ?_)
  · refine lv_aload_n X.1 X.2.1 dX0_money_12 rfl (lv_at hl 0 rfl) ?_
    refine xb_get (C := RX0) (T := TX0) (v := .ref (n + 91)) X in_X0 (ci := 0) rfl hP (j := 0) (by decide) (xe_x0 ..) 9 (by decide) q260 rfl rfl dX0_money_13 ?_
    refine lv_iload_n X.1 X.2.1 dX0_money_16 rfl (lv_at hl 1 rfl) ?_
    refine x_cWv (x_runV X hN ⟨hP, (hV.at hS hT), (tb_sub hT hS)⟩ (As := [.int ei]) (rest := []) (x_X4_goes l dC dI dA n ξ V V2 im ab be ei c many rent rd un hs ev (σ 0) hR T) xkv_X0_250 (x_recv (ci := 4) X.2.2.2.2.2 hP (j := 91) (by decide) (xe_x91 ..) rfl) rfl rfl ⟨Nat.le_of_ble_eq_true rfl, Nat.le_of_ble_eq_true rfl⟩ hl.1 (Nat.le_of_ble_eq_true rfl) dX0_money_17 ⟨Nat.le_of_ble_eq_true rfl, Nat.le_of_ble_eq_true rfl⟩) hS (fun _ h => h) (fun _ h => h) (fun u17 H locs hu17 hP1 hz1 hk1 hS => ?_)
    have hP := hP1
    have hR := hR.cg (fun i hi => hu17.1 (1 + i) (by omega) (by omega) (by omega) ) (fun _ _ => rfl)
    have ho := ho.cg (congrFun (hu17.1 0 (by decide) (by decide) (by decide)) 0) (hu17.1 88 (by decide) (by decide) (by decide)) (hu17.1 89 (by decide) (by decide) (by decide)) rfl rfl rfl
    refine lv_aload_n X.1 X.2.1 dX0_money_20 rfl (lv_at hl 0 rfl) ?_
    refine xb_get (C := RX0) (T := TX0) (v := .ref (n + 91)) X in_X0 (ci := 0) rfl hP (j := 0) (by decide) (xe_x0 ..) 9 (by decide) q260 rfl rfl dX0_money_21 ?_
    refine xb_getN (host := "RentedViews") (C := RX4) (T := TX4) (v := .int (u17 91 1)) X in_X4 (ci := 4) rfl hP (j := 91) (by decide) (xe_x91 ..) 3 (by decide) (x_nest hN q227 rfl) rfl rfl dX0_money_24 ?_
    refine rn_co (y := (rv_bestN (σ 0) many rent ei).2.1) hu17.2.2.1 ?_
    exact x_pi (by rw [sp_money, if_pos c_4]; show ((rv_bestN (σ 0) (rv_cl (σ 0 0)) (rv_cl (σ 0 1)) ei).2.1, σ) = _; rw [show rv_cl (σ 0 0) = many from by rw [hR0.f0, rv_cln (by omega)], show rv_cl (σ 0 1) = rent from by rw [hR0.f1, rv_cln (by omega)]]) X hr hlk hS dX0_money_27 (RX.o hP hR ho (hO.at hS) (fun i hi => hu17.1 (44 + i) (by omega) (by omega) (by omega)) rfl rfl rfl)
  · refine lv_aload_n X.1 X.2.1 dX0_money_7 rfl (lv_at hl 0 rfl) ?_
    refine x_cWi (x_runV X hN hP (As := []) (rest := []) (x_X0_bad l dC dI dA n ξ V V2 im ab be) xkv_X0_110 (x_recv (ci := 0) X.2.2.2.2.2 hP (j := 0) (by decide) (xe_x0 ..) rfl) rfl rfl ⟨Nat.le_of_ble_eq_true rfl, Nat.le_of_ble_eq_true rfl⟩ hl.1 (Nat.le_of_ble_eq_true rfl) dX0_money_8 ⟨Nat.le_of_ble_eq_true rfl, Nat.le_of_ble_eq_true rfl⟩) hS (fun _ h => h) (fun _ h => h) (fun r8 _ H locs hr1 hP1 hz1 hk1 hS => ?_)
    subst hr1
    have hP := hP1
    have hR := hR.cg (S' := fun i_ => (mdS ξ 89 0 (ξ 89 0 + nI 1)) (1 + i_)) (fun i hi => by first | rfl | simp (disch := omega) only [mdS_row, mdI_out, upRn] | (simp (disch := omega) only [mdS_row, mdI_out, upRn, *])) (fun _ _ => rfl)
    have ho := oR.b (k := 0) ho (by decide)
    exact x_pi (by first | (rw [sp_money, if_neg (rv_nf c_4)]; done) | (rw [sp_money, if_neg (rv_nf c_4)]; rfl)) X hr hlk hS dX0_money_11 (RX.o hP hR ho (hO.at hS) (fun i hi => by first | rfl | simp (disch := omega) only [mdS_row, mdI_out, upRn] | (simp (disch := omega) only [mdS_row, mdI_out, upRn, *])) rfl rfl rfl)
theorem x_X0_come (l : Launch) (dC : Nat → ClassId) (dI : Nat → Nat → Nat) (dA : Nat → ClassId) (n c : Nat) (σ : mdT) (ab be : Int64) (ei : Int32) (w : Int32) : Met l yX0_come (ws_ yX0_come cX0_come 3 (some .int)) { frames := 12, cells := 0, slots := 0, locals := 720 } (xPc dC dI dA (RX dC dI dA c n σ ab be) [.ref n, .int ei, .int w]) (xQi (S := Unit) (fun r_ _ => r_ = (sp_come σ ei w).1) (fun _ => (RX dC dI dA c n (sp_come σ ei w).2 ab be)) (bkA n 96)) 0 0 (bkA n 96) := by
  refine x_in (by decide) rfl (Nat.le_of_ble_eq_true rfl) (lv := [(0, .ref n), (1, .int ei), (2, .int w)]) rfl ?_
  intro p e s m below meth c_ X hN hnm hr hlk hP ls hl
  obtain ⟨T, ξ, V, V2, im, many, rent, rd, un, hs, ev, ty, hP, hR, ho, hO⟩ := hP
  have ho0 := ho
  have hR0 := hR
  have hV := hO.1
  have hT := hO.tb
  have hm := hR.m6
  have hr6 := hR.r6
  have hd6 := hR.d6
  have hu8 := hR.u8
  have hs12 := hR.h12
  have hS : va_S (bkA n 96) s.heap s.heap [] := va_S.rf
  refine lv_iload_n X.1 X.2.1 dX0_come_0 rfl (lv_at hl 1 rfl) ?_
  refine x_cSe (x_runSp X (As := [.int ei]) (rest := []) (x_X0_isEvening l ei) xks_X0_244 rfl rfl ⟨Nat.le_of_ble_eq_true rfl, Nat.le_of_ble_eq_true rfl⟩ hl.1 (Nat.le_of_ble_eq_true rfl) dX0_come_1 ⟨Nat.le_of_ble_eq_true rfl, Nat.le_of_ble_eq_true rfl⟩) ?_
  refine rn_zt (tgt := 19) X.1 X.2.1 dX0_come_4 (by decide) (fun c_4 => ?_) (fun c_4 => ?_)
  · refine lv_aload_n X.1 X.2.1 dX0_come_19 rfl (lv_at hl 0 rfl) ?_
    refine x_cWi (x_runV X hN hP (As := []) (rest := []) (x_X0_bad l dC dI dA n ξ V V2 im ab be) xkv_X0_110 (x_recv (ci := 0) X.2.2.2.2.2 hP (j := 0) (by decide) (xe_x0 ..) rfl) rfl rfl ⟨Nat.le_of_ble_eq_true rfl, Nat.le_of_ble_eq_true rfl⟩ hl.1 (Nat.le_of_ble_eq_true rfl) dX0_come_20 ⟨Nat.le_of_ble_eq_true rfl, Nat.le_of_ble_eq_true rfl⟩) hS (fun _ h => h) (fun _ h => h) (fun r20 _ H locs hr1 hP1 hz1 hk1 hS => ?_)
    subst hr1
    have hP := hP1
    have hR := hR.cg (S' := fun i_ => (mdS ξ 89 0 (ξ 89 0 + nI 1)) (1 + i_)) (fun i hi => by first | rfl | simp (disch := omega) only [mdS_row, mdI_out, upRn] | (simp (disch := omega) only [mdS_row, mdI_out, upRn, *])) (fun _ _ => rfl)
    have ho := oR.b (k := 0) ho (by decide)
    exact x_pi (by first | (rw [sp_come, if_neg (rv_nf c_4)]; done) | (rw [sp_come, if_neg (rv_nf c_4)]; rfl) | (rw [sp_come, if_pos c_4, if_neg (rv_nf c_16)]; done) | (rw [sp_come, if_pos c_4, if_neg (rv_nf c_16)]; rfl)) X hr hlk hS dX0_come_23 (RX.o hP hR ho (hO.at hS) (fun i hi => by first | rfl | simp (disch := omega) only [mdS_row, mdI_out, upRn] | (simp (disch := omega) only [mdS_row, mdI_out, upRn, *])) rfl rfl rfl)
  · refine lv_iload_n X.1 X.2.1 dX0_come_7 rfl (lv_at hl 2 rfl) ?_
    refine lv_i2l X.1 X.2.1 dX0_come_8 rfl ?_
    refine lv_lconst (v := 0) X.1 X.2.1 dX0_come_9 rfl ?_
    refine lv_ldc2 (v := 2) X.1 X.2.1 X.2.2.2.1 (X.2.2.2.2.1 _ q774) dX0_come_10 ?_
    refine x_cSe (x_runSp X (As := [.long (Int32.toInt64 w), .long 0, .long 2]) (rest := []) (x_X0_in l (Int32.toInt64 w) 0 2) xks_X0_89 rfl rfl ⟨Nat.le_of_ble_eq_true rfl, Nat.le_of_ble_eq_true rfl⟩ hl.1 (Nat.le_of_ble_eq_true rfl) dX0_come_13 ⟨Nat.le_of_ble_eq_true rfl, Nat.le_of_ble_eq_true rfl⟩) ?_
    refine rn_zf (tgt := 24) X.1 X.2.1 dX0_come_16 (by decide) (fun c_16 => ?_) (fun c_16 => ?_)
    · refine lv_aload_n X.1 X.2.1 dX0_come_24 rfl (lv_at hl 0 rfl) ?_
      refine lv_aload_n X.1 X.2.1 dX0_come_25 rfl (lv_at hl 0 rfl) ?_
      refine x_cSe (x_runV X hN hP (As := []) (rest := [.ref n]) (x_X0_all l dC dI dA n ξ V V2 im ab be c many rent rd un hs ev (σ 0) hR) xkv_X0_269 (x_recv (ci := 0) X.2.2.2.2.2 hP (j := 0) (by decide) (xe_x0 ..) rfl) rfl rfl ⟨Nat.le_of_ble_eq_true rfl, Nat.le_of_ble_eq_true rfl⟩ hl.1 (Nat.le_of_ble_eq_true rfl) dX0_come_26 ⟨Nat.le_of_ble_eq_true rfl, Nat.le_of_ble_eq_true rfl⟩) ?_
      refine lv_iload_n X.1 X.2.1 dX0_come_29 rfl (lv_at hl 1 rfl) ?_
      refine x_cWv (x_runV X hN ⟨hP, (hV.at hS hT), (tb_sub hT hS)⟩ (As := [.int (nI (2 ^ rent - 1)), .int ei]) (rest := []) (x_X0_comes l dC dI dA n ξ V V2 im ab be (nI (2 ^ rent - 1)) ei c many rent rd un hs ev (σ 0) hR T) xkv_X0_272 (x_recv (ci := 0) X.2.2.2.2.2 hP (j := 0) (by decide) (xe_x0 ..) rfl) rfl rfl ⟨Nat.le_of_ble_eq_true rfl, Nat.le_of_ble_eq_true rfl⟩ hl.1 (Nat.le_of_ble_eq_true rfl) dX0_come_30 ⟨Nat.le_of_ble_eq_true rfl, Nat.le_of_ble_eq_true rfl⟩) hS (fun _ h => h) (fun _ h => h) (fun u30 H locs hu30 hP1 hz1 hk1 hS => ?_)
      have hP := hP1
      have hR := hR.cg (fun i hi => hu30.1 (1 + i) (by omega) ) (fun _ _ => rfl)
      have ho := ho.cg hu30.2.1 (hu30.1 88 (by decide)) (hu30.1 89 (by decide)) rfl rfl rfl
      refine lv_aload_n X.1 X.2.1 dX0_come_33 rfl (lv_at hl 0 rfl) ?_
      refine xb_get (C := RX0) (T := TX0) (v := .ref (n + 91)) X in_X0 (ci := 0) rfl hP (j := 0) (by decide) (xe_x0 ..) 9 (by decide) q260 rfl rfl dX0_come_34 ?_
      refine lv_iload_n X.1 X.2.1 dX0_come_37 rfl (lv_at hl 1 rfl) ?_
      refine x_cWv (x_runV X hN ⟨hP, (hV.at hS hT), (tb_sub hT hS)⟩ (As := [.int ei]) (rest := []) (x_X4_goes l dC dI dA n u30 V V2 im ab be ei c many rent rd un hs ev (σ 0) hR T) xkv_X0_250 (x_recv (ci := 4) X.2.2.2.2.2 hP (j := 91) (by decide) (xe_x91 ..) rfl) rfl rfl ⟨Nat.le_of_ble_eq_true rfl, Nat.le_of_ble_eq_true rfl⟩ hl.1 (Nat.le_of_ble_eq_true rfl) dX0_come_38 ⟨Nat.le_of_ble_eq_true rfl, Nat.le_of_ble_eq_true rfl⟩) hS (fun _ h => h) (fun _ h => h) (fun u38 H locs hu38 hP1 hz1 hk1 hS => ?_)
      have hP := hP1
      have hR := hR.cg (fun i hi => hu38.1 (1 + i) (by omega) (by omega) (by omega) ) (fun _ _ => rfl)
      have ho := ho.cg (congrFun (hu38.1 0 (by decide) (by decide) (by decide)) 0) (hu38.1 88 (by decide) (by decide) (by decide)) (hu38.1 89 (by decide) (by decide) (by decide)) rfl rfl rfl
      refine lv_iload_n X.1 X.2.1 dX0_come_41 rfl (lv_at hl 2 rfl) ?_
      refine lv_if_ne (tgt := 52) X.1 X.2.1 dX0_come_42 (by decide) (fun (c_42 : ¬ w = 0) => ?_) (fun (c_42 : w = 0) => ?_)
      · refine lv_iload_n X.1 X.2.1 dX0_come_52 rfl (lv_at hl 2 rfl) ?_
        refine lv_iconst (v := nI 1) X.1 X.2.1 dX0_come_53 rfl ?_
        refine lv_icmp_ne (tgt := 64) X.1 X.2.1 dX0_come_54 (by decide) (fun (c_54 : ¬ w = 1) => ?_) (fun (c_54 : w = 1) => ?_)
        · refine lv_aload_n X.1 X.2.1 dX0_come_64 rfl (lv_at hl 0 rfl) ?_
          refine xb_get (C := RX0) (T := TX0) (v := .ref (n + 91)) X in_X0 (ci := 0) rfl hP (j := 0) (by decide) (xe_x0 ..) 9 (by decide) q260 rfl rfl dX0_come_65 ?_
          refine xb_getN (host := "RentedViews") (C := RX4) (T := TX4) (v := .int (u38 91 0)) X in_X4 (ci := 4) rfl hP (j := 91) (by decide) (xe_x91 ..) 2 (by decide) (x_nest hN q225 rfl) rfl rfl dX0_come_68 ?_
          refine rn_co (y := (rv_bestN (σ 0) many rent ei).1) hu38.2.1 ?_
          refine lv_aload_n X.1 X.2.1 dX0_come_71 rfl (lv_at hl 0 rfl) ?_
          refine xb_get (C := RX0) (T := TX0) (v := .int (u38 0 1)) X in_X0 (ci := 0) rfl hP (j := 0) (by decide) (xe_x0 ..) 10 (by decide) q261 rfl rfl dX0_come_72 ?_
          refine rn_co (y := (rv_comeN (σ 0) many rent ei (nI (2 ^ rent - 1))).2.1) ((congrFun (hu38.1 0 (by decide) (by decide) (by decide)) 1).trans hu30.2.2.1) ?_
          refine lv_isub X.1 X.2.1 dX0_come_75 ?_
          exact x_pi (by rw [sp_come, if_pos c_4, if_pos c_16]; show ((if w = 0 then (rv_comeN (σ 0) (rv_cl (σ 0 0)) (rv_cl (σ 0 1)) ei (nI (2 ^ rv_cl (σ 0 1) - 1))).2.1 else if w = 1 then (rv_comeN (σ 0) (rv_cl (σ 0 0)) (rv_cl (σ 0 1)) ei (nI (2 ^ rv_cl (σ 0 1) - 1))).2.2 else (rv_bestN (σ 0) (rv_cl (σ 0 0)) (rv_cl (σ 0 1)) ei).1 - (rv_comeN (σ 0) (rv_cl (σ 0 0)) (rv_cl (σ 0 1)) ei (nI (2 ^ rv_cl (σ 0 1) - 1))).2.1), σ) = _; rw [show rv_cl (σ 0 0) = many from by rw [hR0.f0, rv_cln (by omega)], show rv_cl (σ 0 1) = rent from by rw [hR0.f1, rv_cln (by omega)]]; first | rw [if_pos c_42] | rw [if_neg c_42, if_pos c_54] | rw [if_neg c_42, if_neg c_54]) X hr hlk hS dX0_come_76 (RX.o hP hR ho (hO.at hS) (fun i hi => (hu38.1 (44 + i) (by omega) (by omega) (by omega)).trans (hu30.1 (44 + i) (by omega))) rfl rfl rfl)
        · refine lv_aload_n X.1 X.2.1 dX0_come_57 rfl (lv_at hl 0 rfl) ?_
          refine xb_get (C := RX0) (T := TX0) (v := .int (u38 0 2)) X in_X0 (ci := 0) rfl hP (j := 0) (by decide) (xe_x0 ..) 11 (by decide) q262 rfl rfl dX0_come_58 ?_
          refine rn_co (y := (rv_comeN (σ 0) many rent ei (nI (2 ^ rent - 1))).2.2) ((congrFun (hu38.1 0 (by decide) (by decide) (by decide)) 2).trans hu30.2.2.2) ?_
          refine lv_goto (tgt := 76) X.1 X.2.1 dX0_come_61 (by decide) ?_
          exact x_pi (by rw [sp_come, if_pos c_4, if_pos c_16]; show ((if w = 0 then (rv_comeN (σ 0) (rv_cl (σ 0 0)) (rv_cl (σ 0 1)) ei (nI (2 ^ rv_cl (σ 0 1) - 1))).2.1 else if w = 1 then (rv_comeN (σ 0) (rv_cl (σ 0 0)) (rv_cl (σ 0 1)) ei (nI (2 ^ rv_cl (σ 0 1) - 1))).2.2 else (rv_bestN (σ 0) (rv_cl (σ 0 0)) (rv_cl (σ 0 1)) ei).1 - (rv_comeN (σ 0) (rv_cl (σ 0 0)) (rv_cl (σ 0 1)) ei (nI (2 ^ rv_cl (σ 0 1) - 1))).2.1), σ) = _; rw [show rv_cl (σ 0 0) = many from by rw [hR0.f0, rv_cln (by omega)], show rv_cl (σ 0 1) = rent from by rw [hR0.f1, rv_cln (by omega)]]; first | rw [if_pos c_42] | rw [if_neg c_42, if_pos c_54] | rw [if_neg c_42, if_neg c_54]) X hr hlk hS dX0_come_76 (RX.o hP hR ho (hO.at hS) (fun i hi => (hu38.1 (44 + i) (by omega) (by omega) (by omega)).trans (hu30.1 (44 + i) (by omega))) rfl rfl rfl)
      · refine lv_aload_n X.1 X.2.1 dX0_come_45 rfl (lv_at hl 0 rfl) ?_
        refine xb_get (C := RX0) (T := TX0) (v := .int (u38 0 1)) X in_X0 (ci := 0) rfl hP (j := 0) (by decide) (xe_x0 ..) 10 (by decide) q261 rfl rfl dX0_come_46 ?_
        refine rn_co (y := (rv_comeN (σ 0) many rent ei (nI (2 ^ rent - 1))).2.1) ((congrFun (hu38.1 0 (by decide) (by decide) (by decide)) 1).trans hu30.2.2.1) ?_
        refine lv_goto (tgt := 76) X.1 X.2.1 dX0_come_49 (by decide) ?_
        exact x_pi (by rw [sp_come, if_pos c_4, if_pos c_16]; show ((if w = 0 then (rv_comeN (σ 0) (rv_cl (σ 0 0)) (rv_cl (σ 0 1)) ei (nI (2 ^ rv_cl (σ 0 1) - 1))).2.1 else if w = 1 then (rv_comeN (σ 0) (rv_cl (σ 0 0)) (rv_cl (σ 0 1)) ei (nI (2 ^ rv_cl (σ 0 1) - 1))).2.2 else (rv_bestN (σ 0) (rv_cl (σ 0 0)) (rv_cl (σ 0 1)) ei).1 - (rv_comeN (σ 0) (rv_cl (σ 0 0)) (rv_cl (σ 0 1)) ei (nI (2 ^ rv_cl (σ 0 1) - 1))).2.1), σ) = _; rw [show rv_cl (σ 0 0) = many from by rw [hR0.f0, rv_cln (by omega)], show rv_cl (σ 0 1) = rent from by rw [hR0.f1, rv_cln (by omega)]]; first | rw [if_pos c_42] | rw [if_neg c_42, if_pos c_54] | rw [if_neg c_42, if_neg c_54]) X hr hlk hS dX0_come_76 (RX.o hP hR ho (hO.at hS) (fun i hi => (hu38.1 (44 + i) (by omega) (by omega) (by omega)).trans (hu30.1 (44 + i) (by omega))) rfl rfl rfl)
    · refine lv_aload_n X.1 X.2.1 dX0_come_19 rfl (lv_at hl 0 rfl) ?_
      refine x_cWi (x_runV X hN hP (As := []) (rest := []) (x_X0_bad l dC dI dA n ξ V V2 im ab be) xkv_X0_110 (x_recv (ci := 0) X.2.2.2.2.2 hP (j := 0) (by decide) (xe_x0 ..) rfl) rfl rfl ⟨Nat.le_of_ble_eq_true rfl, Nat.le_of_ble_eq_true rfl⟩ hl.1 (Nat.le_of_ble_eq_true rfl) dX0_come_20 ⟨Nat.le_of_ble_eq_true rfl, Nat.le_of_ble_eq_true rfl⟩) hS (fun _ h => h) (fun _ h => h) (fun r20 _ H locs hr1 hP1 hz1 hk1 hS => ?_)
      subst hr1
      have hP := hP1
      have hR := hR.cg (S' := fun i_ => (mdS ξ 89 0 (ξ 89 0 + nI 1)) (1 + i_)) (fun i hi => by first | rfl | simp (disch := omega) only [mdS_row, mdI_out, upRn] | (simp (disch := omega) only [mdS_row, mdI_out, upRn, *])) (fun _ _ => rfl)
      have ho := oR.b (k := 0) ho (by decide)
      exact x_pi (by first | (rw [sp_come, if_neg (rv_nf c_4)]; done) | (rw [sp_come, if_neg (rv_nf c_4)]; rfl) | (rw [sp_come, if_pos c_4, if_neg (rv_nf c_16)]; done) | (rw [sp_come, if_pos c_4, if_neg (rv_nf c_16)]; rfl)) X hr hlk hS dX0_come_23 (RX.o hP hR ho (hO.at hS) (fun i hi => by first | rfl | simp (disch := omega) only [mdS_row, mdI_out, upRn] | (simp (disch := omega) only [mdS_row, mdI_out, upRn, *])) rfl rfl rfl)
theorem x_X0_divisor (l : Launch) (a1 : Int64) (b1 : Int64) : Met l yX0_divisor (ws_ yX0_divisor cX0_divisor 10 (some .long)) { frames := 1, cells := 0, slots := 0, locals := 60 } (fun v_ _ => v_ = [.long a1, .long b1].toArray) (vp_Sl (fun r_ => r_ = rv_gcd a1 b1)) 0 0 (fun _ => False) := by
  refine rv_inS (by decide) (Nat.le_of_ble_eq_true rfl) (lv := [(0, .long a1), (2, .long b1)]) rfl ?_
  intro p e s m below meth c_ hx hb hml hown hts hr hlk ls hl
  have K6 : ∀ (k6_ : Nat) (a_ : Int64) (b_ : Int64), b_.toInt.natAbs = k6_ → (rv_gcd a_ b_ = rv_gcd a1 b1) → ∀ ls, lv_has ls 10 [(0, .long a1), (2, .long b1), (4, .long a_), (6, .long b_)] → W p l e { frames := 1, cells := 0, slots := 0, locals := 60 } s m [.long a1, .long b1].toArray below meth c_ s.heap [] 0 0 (MQ below (vp_Sl (fun r_ => r_ = rv_gcd a1 b1)) [.long a1, .long b1].toArray s 0 0 (fun _ => False)) (F0 m 6 ls []) := by
    intro k6_
    induction k6_ using Nat.strongRecOn with
    | _ k6_ ih6 =>
      intro a_ b_ hm6_ hg ls hl
      refine lv_lload hx hb dX0_divisor_6 (lv_at hl 3 rfl) ?_
      refine lv_lconst (v := 0) hx hb dX0_divisor_8 rfl ?_
      refine rn_lcmp_eq (tgt := 31) hx hb dX0_divisor_9 dX0_divisor_10 (by decide) (fun c_9 => ?_) (fun c_9 => ?_)
      · refine lv_lload hx hb dX0_divisor_31 (lv_at hl 2 rfl) ?_
        exact rv_rl hx hb hr hlk dX0_divisor_33 (by rw [← hg, c_9]; exact (rv_gcd_0 a_).symm)
      · refine lv_lload hx hb dX0_divisor_13 (lv_at hl 2 rfl) ?_
        refine lv_lload hx hb dX0_divisor_15 (lv_at hl 3 rfl) ?_
        refine lv_lrem hx hb dX0_divisor_17 c_9 ?_
        refine lv_lstore (lv' := [(8, .long (a_ - a_ / b_ * b_)), (0, .long a1), (2, .long b1), (4, .long a_), (6, .long b_)]) hx hb dX0_divisor_18 hl (by decide) rfl (fun ls hl => ?_)
        refine lv_lload hx hb dX0_divisor_20 (lv_at hl 4 rfl) ?_
        refine lv_lstore (lv' := [(4, .long b_), (8, .long (a_ - a_ / b_ * b_)), (0, .long a1), (2, .long b1), (6, .long b_)]) hx hb dX0_divisor_22 hl (by decide) rfl (fun ls hl => ?_)
        refine lv_lload hx hb dX0_divisor_24 (lv_at hl 1 rfl) ?_
        refine lv_lstore (lv' := [(6, .long (a_ - a_ / b_ * b_)), (4, .long b_), (8, .long (a_ - a_ / b_ * b_)), (0, .long a1), (2, .long b1)]) hx hb dX0_divisor_26 hl (by decide) rfl (fun ls hl => ?_)
        refine lv_goto (tgt := 6) hx hb dX0_divisor_28 (by decide) ?_
        exact ih6 _ (by have := rv_rem64_lt (a := a_) (b := b_) c_9; unfold rv_rem64 at this; omega) b_ (a_ - a_ / b_ * b_) rfl (by rw [← hg]; exact (rv_gcd_s c_9).symm) ls (lv_sub hl [3, 4, 1, 0] rfl)
  refine lv_lload_n hx hb dX0_divisor_0 rfl (lv_at hl 0 rfl) ?_
  refine lv_lstore (lv' := [(4, .long a1), (0, .long a1), (2, .long b1)]) hx hb dX0_divisor_1 hl (by decide) rfl (fun ls hl => ?_)
  refine lv_lload_n hx hb dX0_divisor_3 rfl (lv_at hl 2 rfl) ?_
  refine lv_lstore (lv' := [(6, .long b1), (4, .long a1), (0, .long a1), (2, .long b1)]) hx hb dX0_divisor_4 hl (by decide) rfl (fun ls hl => ?_)
  exact K6 _ a1 b1 rfl rfl ls (lv_sub hl [2, 3, 1, 0] rfl)
