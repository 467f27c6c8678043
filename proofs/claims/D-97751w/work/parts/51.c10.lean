set_option maxRecDepth 100000
/-! the component: the best row -/
theorem xkv_X4_52 : xKV RX4 yX1_suits cX1_suits 5 (some .boolean) 52 3 := ⟨q764, q745, q746, q62, q747, by decide +kernel⟩
theorem xkv_X4_32 : xKV RX4 yX4_tries cX4_tries 6 none 32 4 := ⟨q759, q761, qs15, q65, q762, by decide +kernel⟩
/-- the best row so far, in the component's cells -/
def xBst (rent : Nat) (ξ : mdT) (B : rvB) : Prop := ξ 91 0 = B.1 ∧ ξ 91 1 = B.2.1 ∧ ∀ i, i < rent → ξ 93 i = B.2.2 i
theorem xBst.cg {rent : Nat} {ξ ξ' : mdT} {B : rvB} (h : xBst rent ξ B) (h1 : ξ' 91 = ξ 91) (h2 : ξ' 93 = ξ 93) : xBst rent ξ' B := by
  unfold xBst; rw [h1, h2]; exact h
def xTry (ξ : mdT) (rent r : Nat) (B : rvB) (u : mdT) : Prop := (∀ i, i ≠ 91 → i ≠ 92 → i ≠ 93 → u i = ξ i) ∧ u 91 2 = ξ 91 2 ∧ (∀ i, i < r → u 92 i = ξ 92 i) ∧ xBst rent u B
def xGoes (ξ : mdT) (f : Nat → Int32) (many rent : Nat) (ei : Int32) (u : mdT) : Prop := (∀ i, i ≠ 91 → i ≠ 92 → i ≠ 93 → u i = ξ i) ∧ xBst rent u (rv_bestN f many rent ei)
theorem upd_lo {row : Nat → Int32} {r : Nat} {x : Int32} {i : Nat} (h : i < r) : row i = upd row r x i := by unfold upd; rw [if_neg (by omega)]
theorem upd_at {row : Nat → Int32} {r : Nat} {x : Int32} : upd row r x r = x := by unfold upd; rw [if_pos rfl]
theorem rv_tk_up (row : Nat → Int32) (r : Nat) (x : Int32) (v : Nat) : rv_taken (upd row r x) (r + 1) v = (rv_taken row r v || decide (x = nI v)) := by
  rw [rv_taken, ← rv_taken_c (fun i hi => upd_lo hi), upd_at]
theorem rv_cn_up (row : Nat → Int32) (r : Nat) (x : Int32) : rv_cntr (upd row r x) (r + 1) = rv_cntr row r + (if x = -1 then 0 else 1) := by
  rw [rv_cntr, ← rv_cntr_c (fun i hi => upd_lo hi), upd_at]
theorem rv_mn_up {many : Nat} (hm : many ≤ 100) (cost row : Nat → Int32) {r : Nat} (hok : rv_okrow many row r) (x : Int32) : rv_monr cost (upd row r x) (r + 1) = rv_monr cost row r + (if x = -1 then 0 else cost (rv_cl x)) := by
  rw [rv_monr, ← rv_monr_c hm (fun _ _ => rfl) (fun i hi => upd_lo hi) hok, upd_at]
theorem xRow {ξ : mdT} {row : Nat → Int32} {r : Nat} {x : Int32} (h : ∀ i, i < r → ξ 92 i = row i) : ∀ i, i < r + 1 → mdS ξ 92 r x 92 i = upd row r x i := fun i hi => by
  show upd (ξ 92) r x i = upd row r x i
  unfold upd
  by_cases e : i = r
  · rw [if_pos e, if_pos e]
  · rw [if_neg e, if_neg e]; exact h i (by omega)
theorem rv_for_s (F : Nat → rvB → rvB) (n : Nat) (B : rvB) : rv_for F (n + 1) B = F n (rv_for F n B) := rfl
theorem rv_F_t {S : Nat → Nat → Bool} {cost : Nat → Int32} {many k r : Nat} {row : Nat → Int32} {v : Nat} {B : rvB} (h : rv_taken row r v = true) : rv_F S cost many k r row v B = B := by unfold rv_F; rw [h]; rfl
theorem rv_F_n {S : Nat → Nat → Bool} {cost : Nat → Int32} {many k r : Nat} {row : Nat → Int32} {v : Nat} {B : rvB} (h : S v r = false) : rv_F S cost many k r row v B = B := by unfold rv_F; rw [h, Bool.and_false]; rfl
theorem rv_F_y {S : Nat → Nat → Bool} {cost : Nat → Int32} {many k r : Nat} {row : Nat → Int32} {v : Nat} {B : rvB} (h : rv_taken row r v = false) (h2 : S v r = true) : rv_F S cost many k r row v B = rv_try S cost many k (r + 1) (upd row r (nI v)) B := by unfold rv_F; rw [h, h2]; rfl
theorem rv_m1ne {v : Nat} (h : v < 2 ^ 30) : decide ((-1 : Int32) = nI v) = false := decide_eq_false (fun z => rv_nIne v h z.symm)
set_option maxHeartbeats 2000000 in
theorem x_X4_tries_0 (l : Launch) (dC : Nat → ClassId) (dI : Nat → Nat → Nat) (dA : Nat → ClassId) (n : Nat) (ξ : mdT) (V : Nat → Option Nat) (V2 : Nat → Option Nat) (im : Nat → Option Nat) (ab : Int64) (be : Int64) (r : Nat) (us : Int32) (nn : Int32) (sm : Int32) (c : Nat) (many : Nat) (rent : Nat) (rd : Nat) (un : Nat) (hs : Nat) (ev : Nat) (f : Nat → Int32) (hR : shR c many rent rd un hs ev f (fun i_ => ξ (1 + i_))) (T : Nat → Prop) (ei : Int32) (he : ξ 91 2 = ei) (row : Nat → Int32) (hrow : ∀ i_, i_ < r → ξ 92 i_ = row i_) (hok : rv_okrow many row r) (hus : ∀ v_, v_ < many → bt us v_ = rv_taken row r v_) (hnn : nn = rv_cntr row r) (hsm : sm = rv_monr (fun v => rv_cost (f (7 + 6 * v)) (f (7 + 6 * v + 2))) row r) (Bb : rvB) (hB : xBst rent ξ Bb) (hk : r + 0 = rent) : Met l yX4_tries (ws_ yX4_tries cX4_tries 6 none) { frames := 2, cells := 0, slots := 0, locals := 120 } (xPc dC dI dA (fun H => (bkP dC dI n 96 (xE dA n ξ V V2 im ab be) H) ∧ (shV dC dI T many f V H) ∧ (∀ a_, T a_ → a_ < H.size ∧ ¬ bkA n 96 a_)) [.ref (n + 91), .int (nI r), .int us, .int nn, .int sm]) (xQv (S := mdT) (fun u => xTry ξ rent r (rv_try (fun v r => rv_suitN f v r ei) (fun v => rv_cost (f (7 + 6 * v)) (f (7 + 6 * v + 2))) many 0 r row Bb) u) (fun u => (bkP dC dI n 96 (xE dA n u V V2 im ab be))) (bkA n 96)) 0 0 (bkA n 96) := by
  refine x_in (by decide) rfl (Nat.le_of_ble_eq_true rfl) (lv := [(0, .ref (n + 91)), (1, .int (nI r)), (2, .int us), (3, .int nn), (4, .int sm)]) rfl ?_
  intro p e s m below meth c_ X hN hnm hr hlk hP ls hl
  obtain ⟨hP, hV, hT⟩ := hP
  have hm := hR.m6
  have hr6 := hR.r6
  have hd6 := hR.d6
  have hu8 := hR.u8
  have hs12 := hR.h12
  have hS : va_S (bkA n 96) s.heap s.heap [] := va_S.rf
  refine lv_iload_n X.1 X.2.1 dX4_tries_0 rfl (lv_at hl 1 rfl) ?_
  refine lv_aload_n X.1 X.2.1 dX4_tries_1 rfl (lv_at hl 0 rfl) ?_
  refine xb_get (C := RX4) (T := TX4) (v := .ref n) X in_X4 (ci := 4) rfl hP (j := 91) (by decide) (xe_x91 ..) 5 (by decide) q229 rfl rfl dX4_tries_2 ?_
  refine xb_getN (host := "RentedViews") (C := RX0) (T := TX0) (v := .ref (n + 1)) X in_X0 (ci := 0) rfl hP (j := 0) (by decide) (xe_x0 ..) 0 (by decide) (x_nest hN q247 rfl) rfl rfl dX4_tries_5 ?_
  refine xb_getN (host := "RentedViews") (C := RX1) (T := TX1) (v := .int (ξ 1 1)) X in_X1 (ci := 1) rfl hP (j := 1) (by decide) (xe_x1 ..) 5 (by decide) (x_nest hN q152 rfl) rfl rfl dX4_tries_8 ?_
  refine rn_co (y := nI rent) hR.nr ?_
  refine rn_icmp_ne (tgt := 66) X.1 X.2.1 (by omega) (by omega) dX4_tries_11 (by decide) (fun c_11 => ?_) (fun c_11 => ?_)
  · exact absurd (by omega) c_11
  · refine lv_iload_n X.1 X.2.1 dX4_tries_14 rfl (lv_at hl 3 rfl) ?_
    refine lv_aload_n X.1 X.2.1 dX4_tries_15 rfl (lv_at hl 0 rfl) ?_
    refine xb_get (C := RX4) (T := TX4) (v := .int (ξ 91 0)) X in_X4 (ci := 4) rfl hP (j := 91) (by decide) (xe_x91 ..) 2 (by decide) q224 rfl rfl dX4_tries_16 ?_
    refine lv_icmp_gt (tgt := 39) X.1 X.2.1 dX4_tries_19 (by decide) (fun (c_19 : ξ 91 0 < nn) => ?_) (fun (c_19 : ¬ ξ 91 0 < nn) => ?_)
    · refine lv_aload_n X.1 X.2.1 dX4_tries_39 rfl (lv_at hl 0 rfl) ?_
      refine lv_iload_n X.1 X.2.1 dX4_tries_40 rfl (lv_at hl 3 rfl) ?_
      refine xb_put (C := RX4) (T := TX4) (E' := xE dA n (mdS ξ 91 0 nn) V V2 im ab be) X in_X4 tyX4 tyX4_ok nmX4 (ci := 4) rfl hP (fun _ h => h) hS (j := 91) (by decide) (xe_x91 ..) 2 (by decide) q224 rfl rfl rfl rfl rfl (Nat.le_of_ble_eq_true rfl) (fun i_ _ => xE_S dA n ξ V V2 im ab be 91 0 nn i_) dX4_tries_41 (fun H locs hP hS => ?_)
      have hR := xR_S hR (j := 91) (k := 0) (v := nn) (by decide)
      refine lv_aload_n X.1 X.2.1 dX4_tries_44 rfl (lv_at hl 0 rfl) ?_
      refine lv_iload X.1 X.2.1 dX4_tries_45 (lv_at hl 4 rfl) ?_
      refine xb_put (C := RX4) (T := TX4) (E' := xE dA n (mdS (mdS ξ 91 0 nn) 91 1 sm) V V2 im ab be) X in_X4 tyX4 tyX4_ok nmX4 (ci := 4) rfl hP (fun _ h => h) hS (j := 91) (by decide) (xe_x91 ..) 3 (by decide) q226 rfl rfl rfl rfl rfl (Nat.le_of_ble_eq_true rfl) (fun i_ _ => xE_S dA n (mdS ξ 91 0 nn) V V2 im ab be 91 1 sm i_) dX4_tries_47 (fun H locs hP hS => ?_)
      have hR := xR_S hR (j := 91) (k := 1) (v := sm) (by decide)
      refine lv_aload_n X.1 X.2.1 dX4_tries_50 rfl (lv_at hl 0 rfl) ?_
      refine xb_get (C := RX4) (T := TX4) (v := .ref (n + 92)) X in_X4 (ci := 4) rfl hP (j := 91) (by decide) (xe_x91 ..) 0 (by decide) q221 rfl rfl dX4_tries_51 ?_
      refine lv_iconst (v := nI 0) X.1 X.2.1 dX4_tries_54 rfl ?_
      refine lv_aload_n X.1 X.2.1 dX4_tries_55 rfl (lv_at hl 0 rfl) ?_
      refine xb_get (C := RX4) (T := TX4) (v := .ref (n + 93)) X in_X4 (ci := 4) rfl hP (j := 91) (by decide) (xe_x91 ..) 1 (by decide) q222 rfl rfl dX4_tries_56 ?_
      refine lv_iconst (v := nI 0) X.1 X.2.1 dX4_tries_59 rfl ?_
      refine lv_bipush (v := nI 6) X.1 X.2.1 dX4_tries_60 rfl ?_
      refine xb_copyS (E' := xE dA n (mdR (mdS (mdS ξ 91 0 nn) 91 1 sm) 93 (va_cpy ((mdS (mdS ξ 91 0 nn) 91 1 sm) 92) ((mdS (mdS ξ 91 0 nn) 91 1 sm) 93) 0 0 6)) V V2 im ab be) X hl.1 q763 hP (fun _ h => h) hS (j := 93) (j2 := 92) (by decide) (by decide) (n := 6) (n2 := 6) (f := (mdS (mdS ξ 91 0 nn) 91 1 sm) 92) (g := (mdS (mdS ξ 91 0 nn) 91 1 sm) 93) rfl rfl (sp := 0) (dp := 0) (k := 6) (by decide) (by decide) (by decide) (by decide) (rest := []) (by decide) (Nat.le_of_ble_eq_true rfl) (fun i_ _ => xE_R dA n (mdS (mdS ξ 91 0 nn) 91 1 sm) V V2 im ab be 93 (va_cpy ((mdS (mdS ξ 91 0 nn) 91 1 sm) 92) ((mdS (mdS ξ 91 0 nn) 91 1 sm) 93) 0 0 6) i_) dX4_tries_62 (fun H locs hP hS => ?_)
      have hR := hR.cg (S' := fun i_ => (mdR (mdS (mdS ξ 91 0 nn) 91 1 sm) 93 (va_cpy ((mdS (mdS ξ 91 0 nn) 91 1 sm) 92) ((mdS (mdS ξ 91 0 nn) 91 1 sm) 93) 0 0 6)) (1 + i_)) (fun i hi => by first | rfl | simp (disch := omega) only [mdS_row, mdI_out, upRn] | (simp (disch := omega) only [mdS_row, mdI_out, upRn, *])) (fun _ _ => rfl)
      exact x_rv (mdR (mdS (mdS ξ 91 0 nn) 91 1 sm) 93 (va_cpy ((mdS (mdS ξ 91 0 nn) 91 1 sm) 92) ((mdS (mdS ξ 91 0 nn) 91 1 sm) 93) 0 0 6)) X hr hlk hS dX4_tries_65 (by show xTry ξ rent r (rv_judge _ r row Bb) _; obtain ⟨b1, b2, b3⟩ := hB; obtain rfl : r = rent := (by omega); subst hnn; subst hsm; unfold rv_judge; rw [← b1, ← b2]; first | (rw [if_pos c_19]; exact ⟨fun i h1 h2 h3 => by rw [upRn _ _ h3, mdS_row _ _ _ h1, mdS_row _ _ _ h1], rfl, fun i hi => rfl, rfl, rfl, fun i hi => by show va_cpy (ξ 92) (ξ 93) 0 0 6 i = if i < r then row i else 0; rw [va_cpy_in (by omega), if_pos hi]; exact hrow i hi⟩) | (rw [if_neg c_19, if_neg c_27]; exact ⟨fun _ _ _ _ => rfl, rfl, fun _ _ => rfl, b1, b2, b3⟩) | (rw [if_neg c_19, if_pos c_27, if_pos c_36]; exact ⟨fun _ _ _ _ => rfl, rfl, fun _ _ => rfl, b1, b2, b3⟩) | (rw [if_neg c_19, if_pos c_27, if_neg c_36]; exact ⟨fun i h1 h2 h3 => by rw [upRn _ _ h3, mdS_row _ _ _ h1, mdS_row _ _ _ h1], rfl, fun i hi => rfl, rfl, rfl, fun i hi => by show va_cpy (ξ 92) (ξ 93) 0 0 6 i = if i < r then row i else 0; rw [va_cpy_in (by omega), if_pos hi]; exact hrow i hi⟩)) hP
    · refine lv_iload_n X.1 X.2.1 dX4_tries_22 rfl (lv_at hl 3 rfl) ?_
      refine lv_aload_n X.1 X.2.1 dX4_tries_23 rfl (lv_at hl 0 rfl) ?_
      refine xb_get (C := RX4) (T := TX4) (v := .int (ξ 91 0)) X in_X4 (ci := 4) rfl hP (j := 91) (by decide) (xe_x91 ..) 2 (by decide) q224 rfl rfl dX4_tries_24 ?_
      refine lv_icmp_ne (tgt := 65) X.1 X.2.1 dX4_tries_27 (by decide) (fun (c_27 : ¬ nn = ξ 91 0) => ?_) (fun (c_27 : nn = ξ 91 0) => ?_)
      · exact x_rv ξ X hr hlk hS dX4_tries_65 (by show xTry ξ rent r (rv_judge _ r row Bb) _; obtain ⟨b1, b2, b3⟩ := hB; obtain rfl : r = rent := (by omega); subst hnn; subst hsm; unfold rv_judge; rw [← b1, ← b2]; first | (rw [if_pos c_19]; exact ⟨fun i h1 h2 h3 => by rw [upRn _ _ h3, mdS_row _ _ _ h1, mdS_row _ _ _ h1], rfl, fun i hi => rfl, rfl, rfl, fun i hi => by show va_cpy (ξ 92) (ξ 93) 0 0 6 i = if i < r then row i else 0; rw [va_cpy_in (by omega), if_pos hi]; exact hrow i hi⟩) | (rw [if_neg c_19, if_neg c_27]; exact ⟨fun _ _ _ _ => rfl, rfl, fun _ _ => rfl, b1, b2, b3⟩) | (rw [if_neg c_19, if_pos c_27, if_pos c_36]; exact ⟨fun _ _ _ _ => rfl, rfl, fun _ _ => rfl, b1, b2, b3⟩) | (rw [if_neg c_19, if_pos c_27, if_neg c_36]; exact ⟨fun i h1 h2 h3 => by rw [upRn _ _ h3, mdS_row _ _ _ h1, mdS_row _ _ _ h1], rfl, fun i hi => rfl, rfl, rfl, fun i hi => by show va_cpy (ξ 92) (ξ 93) 0 0 6 i = if i < r then row i else 0; rw [va_cpy_in (by omega), if_pos hi]; exact hrow i hi⟩)) hP
      · refine lv_iload X.1 X.2.1 dX4_tries_30 (lv_at hl 4 rfl) ?_
        refine lv_aload_n X.1 X.2.1 dX4_tries_32 rfl (lv_at hl 0 rfl) ?_
        refine xb_get (C := RX4) (T := TX4) (v := .int (ξ 91 1)) X in_X4 (ci := 4) rfl hP (j := 91) (by decide) (xe_x91 ..) 3 (by decide) q226 rfl rfl dX4_tries_33 ?_
        refine lv_icmp_le (tgt := 65) X.1 X.2.1 dX4_tries_36 (by decide) (fun (c_36 : sm ≤ ξ 91 1) => ?_) (fun (c_36 : ¬ sm ≤ ξ 91 1) => ?_)
        · exact x_rv ξ X hr hlk hS dX4_tries_65 (by show xTry ξ rent r (rv_judge _ r row Bb) _; obtain ⟨b1, b2, b3⟩ := hB; obtain rfl : r = rent := (by omega); subst hnn; subst hsm; unfold rv_judge; rw [← b1, ← b2]; first | (rw [if_pos c_19]; exact ⟨fun i h1 h2 h3 => by rw [upRn _ _ h3, mdS_row _ _ _ h1, mdS_row _ _ _ h1], rfl, fun i hi => rfl, rfl, rfl, fun i hi => by show va_cpy (ξ 92) (ξ 93) 0 0 6 i = if i < r then row i else 0; rw [va_cpy_in (by omega), if_pos hi]; exact hrow i hi⟩) | (rw [if_neg c_19, if_neg c_27]; exact ⟨fun _ _ _ _ => rfl, rfl, fun _ _ => rfl, b1, b2, b3⟩) | (rw [if_neg c_19, if_pos c_27, if_pos c_36]; exact ⟨fun _ _ _ _ => rfl, rfl, fun _ _ => rfl, b1, b2, b3⟩) | (rw [if_neg c_19, if_pos c_27, if_neg c_36]; exact ⟨fun i h1 h2 h3 => by rw [upRn _ _ h3, mdS_row _ _ _ h1, mdS_row _ _ _ h1], rfl, fun i hi => rfl, rfl, rfl, fun i hi => by show va_cpy (ξ 92) (ξ 93) 0 0 6 i = if i < r then row i else 0; rw [va_cpy_in (by omega), if_pos hi]; exact hrow i hi⟩)) hP
        · refine lv_aload_n X.1 X.2.1 dX4_tries_39 rfl (lv_at hl 0 rfl) ?_
          refine lv_iload_n X.1 X.2.1 dX4_tries_40 rfl (lv_at hl 3 rfl) ?_
          refine xb_put (C := RX4) (T := TX4) (E' := xE dA n (mdS ξ 91 0 nn) V V2 im ab be) X in_X4 tyX4 tyX4_ok nmX4 (ci := 4) rfl hP (fun _ h => h) hS (j := 91) (by decide) (xe_x91 ..) 2 (by decide) q224 rfl rfl rfl rfl rfl (Nat.le_of_ble_eq_true rfl) (fun i_ _ => xE_S dA n ξ V V2 im ab be 91 0 nn i_) dX4_tries_41 (fun H locs hP hS => ?_)
          have hR := xR_S hR (j := 91) (k := 0) (v := nn) (by decide)
          refine lv_aload_n X.1 X.2.1 dX4_tries_44 rfl (lv_at hl 0 rfl) ?_
          refine lv_iload X.1 X.2.1 dX4_tries_45 (lv_at hl 4 rfl) ?_
          refine xb_put (C := RX4) (T := TX4) (E' := xE dA n (mdS (mdS ξ 91 0 nn) 91 1 sm) V V2 im ab be) X in_X4 tyX4 tyX4_ok nmX4 (ci := 4) rfl hP (fun _ h => h) hS (j := 91) (by decide) (xe_x91 ..) 3 (by decide) q226 rfl rfl rfl rfl rfl (Nat.le_of_ble_eq_true rfl) (fun i_ _ => xE_S dA n (mdS ξ 91 0 nn) V V2 im ab be 91 1 sm i_) dX4_tries_47 (fun H locs hP hS => ?_)
          have hR := xR_S hR (j := 91) (k := 1) (v := sm) (by decide)
          refine lv_aload_n X.1 X.2.1 dX4_tries_50 rfl (lv_at hl 0 rfl) ?_
          refine xb_get (C := RX4) (T := TX4) (v := .ref (n + 92)) X in_X4 (ci := 4) rfl hP (j := 91) (by decide) (xe_x91 ..) 0 (by decide) q221 rfl rfl dX4_tries_51 ?_
          refine lv_iconst (v := nI 0) X.1 X.2.1 dX4_tries_54 rfl ?_
          refine lv_aload_n X.1 X.2.1 dX4_tries_55 rfl (lv_at hl 0 rfl) ?_
          refine xb_get (C := RX4) (T := TX4) (v := .ref (n + 93)) X in_X4 (ci := 4) rfl hP (j := 91) (by decide) (xe_x91 ..) 1 (by decide) q222 rfl rfl dX4_tries_56 ?_
          refine lv_iconst (v := nI 0) X.1 X.2.1 dX4_tries_59 rfl ?_
          refine lv_bipush (v := nI 6) X.1 X.2.1 dX4_tries_60 rfl ?_
          refine xb_copyS (E' := xE dA n (mdR (mdS (mdS ξ 91 0 nn) 91 1 sm) 93 (va_cpy ((mdS (mdS ξ 91 0 nn) 91 1 sm) 92) ((mdS (mdS ξ 91 0 nn) 91 1 sm) 93) 0 0 6)) V V2 im ab be) X hl.1 q763 hP (fun _ h => h) hS (j := 93) (j2 := 92) (by decide) (by decide) (n := 6) (n2 := 6) (f := (mdS (mdS ξ 91 0 nn) 91 1 sm) 92) (g := (mdS (mdS ξ 91 0 nn) 91 1 sm) 93) rfl rfl (sp := 0) (dp := 0) (k := 6) (by decide) (by decide) (by decide) (by decide) (rest := []) (by decide) (Nat.le_of_ble_eq_true rfl) (fun i_ _ => xE_R dA n (mdS (mdS ξ 91 0 nn) 91 1 sm) V V2 im ab be 93 (va_cpy ((mdS (mdS ξ 91 0 nn) 91 1 sm) 92) ((mdS (mdS ξ 91 0 nn) 91 1 sm) 93) 0 0 6) i_) dX4_tries_62 (fun H locs hP hS => ?_)
          have hR := hR.cg (S' := fun i_ => (mdR (mdS (mdS ξ 91 0 nn) 91 1 sm) 93 (va_cpy ((mdS (mdS ξ 91 0 nn) 91 1 sm) 92) ((mdS (mdS ξ 91 0 nn) 91 1 sm) 93) 0 0 6)) (1 + i_)) (fun i hi => by first | rfl | simp (disch := omega) only [mdS_row, mdI_out, upRn] | (simp (disch := omega) only [mdS_row, mdI_out, upRn, *])) (fun _ _ => rfl)
          exact x_rv (mdR (mdS (mdS ξ 91 0 nn) 91 1 sm) 93 (va_cpy ((mdS (mdS ξ 91 0 nn) 91 1 sm) 92) ((mdS (mdS ξ 91 0 nn) 91 1 sm) 93) 0 0 6)) X hr hlk hS dX4_tries_65 (by show xTry ξ rent r (rv_judge _ r row Bb) _; obtain ⟨b1, b2, b3⟩ := hB; obtain rfl : r = rent := (by omega); subst hnn; subst hsm; unfold rv_judge; rw [← b1, ← b2]; first | (rw [if_pos c_19]; exact ⟨fun i h1 h2 h3 => by rw [upRn _ _ h3, mdS_row _ _ _ h1, mdS_row _ _ _ h1], rfl, fun i hi => rfl, rfl, rfl, fun i hi => by show va_cpy (ξ 92) (ξ 93) 0 0 6 i = if i < r then row i else 0; rw [va_cpy_in (by omega), if_pos hi]; exact hrow i hi⟩) | (rw [if_neg c_19, if_neg c_27]; exact ⟨fun _ _ _ _ => rfl, rfl, fun _ _ => rfl, b1, b2, b3⟩) | (rw [if_neg c_19, if_pos c_27, if_pos c_36]; exact ⟨fun _ _ _ _ => rfl, rfl, fun _ _ => rfl, b1, b2, b3⟩) | (rw [if_neg c_19, if_pos c_27, if_neg c_36]; exact ⟨fun i h1 h2 h3 => by rw [upRn _ _ h3, mdS_row _ _ _ h1, mdS_row _ _ _ h1], rfl, fun i hi => rfl, rfl, rfl, fun i hi => by show va_cpy (ξ 92) (ξ 93) 0 0 6 i = if i < r then row i else 0; rw [va_cpy_in (by omega), if_pos hi]; exact hrow i hi⟩)) hP
set_option maxHeartbeats 2000000 in
theorem x_X4_tries_1 (l : Launch) (dC : Nat → ClassId) (dI : Nat → Nat → Nat) (dA : Nat → ClassId) (n : Nat) (ξ : mdT) (V : Nat → Option Nat) (V2 : Nat → Option Nat) (im : Nat → Option Nat) (ab : Int64) (be : Int64) (r : Nat) (us : Int32) (nn : Int32) (sm : Int32) (c : Nat) (many : Nat) (rent : Nat) (rd : Nat) (un : Nat) (hs : Nat) (ev : Nat) (f : Nat → Int32) (hR : shR c many rent rd un hs ev f (fun i_ => ξ (1 + i_))) (T : Nat → Prop) (ei : Int32) (he : ξ 91 2 = ei) (row : Nat → Int32) (hrow : ∀ i_, i_ < r → ξ 92 i_ = row i_) (hok : rv_okrow many row r) (hus : ∀ v_, v_ < many → bt us v_ = rv_taken row r v_) (hnn : nn = rv_cntr row r) (hsm : sm = rv_monr (fun v => rv_cost (f (7 + 6 * v)) (f (7 + 6 * v + 2))) row r) (Bb : rvB) (hB : xBst rent ξ Bb) (hk : r + 1 = rent) : Met l yX4_tries (ws_ yX4_tries cX4_tries 6 none) { frames := 5, cells := 0, slots := 0, locals := 300 } (xPc dC dI dA (fun H => (bkP dC dI n 96 (xE dA n ξ V V2 im ab be) H) ∧ (shV dC dI T many f V H) ∧ (∀ a_, T a_ → a_ < H.size ∧ ¬ bkA n 96 a_)) [.ref (n + 91), .int (nI r), .int us, .int nn, .int sm]) (xQv (S := mdT) (fun u => xTry ξ rent r (rv_try (fun v r => rv_suitN f v r ei) (fun v => rv_cost (f (7 + 6 * v)) (f (7 + 6 * v + 2))) many 1 r row Bb) u) (fun u => (bkP dC dI n 96 (xE dA n u V V2 im ab be))) (bkA n 96)) 0 0 (bkA n 96) := by
  refine x_in (by decide) rfl (Nat.le_of_ble_eq_true rfl) (lv := [(0, .ref (n + 91)), (1, .int (nI r)), (2, .int us), (3, .int nn), (4, .int sm)]) rfl ?_
  intro p e s m below meth c_ X hN hnm hr hlk hP ls hl
  obtain ⟨hP, hV, hT⟩ := hP
  have hm := hR.m6
  have hr6 := hR.r6
  have hd6 := hR.d6
  have hu8 := hR.u8
  have hs12 := hR.h12
  have hS : va_S (bkA n 96) s.heap s.heap [] := va_S.rf
  have K87 : ∀ (k87_ : Nat) (v : Nat) (ξ1 : mdT) (H : Heap) (locs : List Loc), many - v = k87_ → (v ≤ many) → (∀ i, i ≠ 91 → i ≠ 92 → i ≠ 93 → ξ1 i = ξ i) → (ξ1 91 2 = ei) → (∀ i, i < r → ξ1 92 i = row i) → (xBst rent ξ1 (rv_for (rv_F (fun v r => rv_suitN f v r ei) (fun v => rv_cost (f (7 + 6 * v)) (f (7 + 6 * v + 2))) many 0 r row) v (rv_try (fun v r => rv_suitN f v r ei) (fun v => rv_cost (f (7 + 6 * v)) (f (7 + 6 * v + 2))) many 0 (r + 1) (upd row r (-1)) Bb))) → bkP dC dI n 96 (xE dA n ξ1 V V2 im ab be) H → va_S (bkA n 96) s.heap H locs → ∀ ls, lv_has ls 6 [(0, .ref (n + 91)), (1, .int (nI r)), (2, .int us), (3, .int nn), (4, .int sm), (5, .int (nI v))] → W p l e { frames := 5, cells := 0, slots := 0, locals := 300 } s m [.ref (n + 91), .int (nI r), .int us, .int nn, .int sm].toArray below meth c_ H locs 0 0 (MQ below (xQv (S := mdT) (fun u => xTry ξ rent r (rv_try (fun v r => rv_suitN f v r ei) (fun v => rv_cost (f (7 + 6 * v)) (f (7 + 6 * v + 2))) many 1 r row Bb) u) (fun u => (bkP dC dI n 96 (xE dA n u V V2 im ab be))) (bkA n 96)) [.ref (n + 91), .int (nI r), .int us, .int nn, .int sm].toArray s 0 0 (bkA n 96)) (F0 m 87 ls []) := by
    intro k87_
    induction k87_ using Nat.strongRecOn with
    | _ k87_ ih87 =>
      intro v ξ1 H locs hm87_ hv_ hq he1 hrow1 hB1 hP hS ls hl
      have hR := hR.cg (S' := fun i_ => ξ1 (1 + i_)) (fun i hi => hq (1 + i) (by omega) (by omega) (by omega)) (fun _ _ => rfl)
      refine lv_iload X.1 X.2.1 dX4_tries_87 (lv_at hl 5 rfl) ?_
      refine lv_aload_n X.1 X.2.1 dX4_tries_89 rfl (lv_at hl 0 rfl) ?_
      refine xb_get (C := RX4) (T := TX4) (v := .ref n) X in_X4 (ci := 4) rfl hP (j := 91) (by decide) (xe_x91 ..) 5 (by decide) q229 rfl rfl dX4_tries_90 ?_
      refine xb_getN (host := "RentedViews") (C := RX0) (T := TX0) (v := .ref (n + 1)) X in_X0 (ci := 0) rfl hP (j := 0) (by decide) (xe_x0 ..) 0 (by decide) (x_nest hN q247 rfl) rfl rfl dX4_tries_93 ?_
      refine xb_getN (host := "RentedViews") (C := RX1) (T := TX1) (v := .int (ξ1 1 0)) X in_X1 (ci := 1) rfl hP (j := 1) (by decide) (xe_x1 ..) 2 (by decide) (x_nest hN q144 rfl) rfl rfl dX4_tries_96 ?_
      refine rn_co (y := nI many) hR.nm ?_
      refine rn_icmp_ge (tgt := 180) X.1 X.2.1 (by omega) (by omega) dX4_tries_99 (by decide) (fun c_99 => ?_) (fun c_99 => ?_)
      · exact x_rv ξ1 X hr hlk hS dX4_tries_180 (by obtain rfl : v = many := (by omega); exact ⟨hq, he1.trans he.symm, fun i hi => (hrow1 i hi).trans (hrow i hi).symm, hB1⟩) hP
      · refine lv_iload_n X.1 X.2.1 dX4_tries_102 rfl (lv_at hl 2 rfl) ?_
        refine lv_iload X.1 X.2.1 dX4_tries_103 (lv_at hl 5 rfl) ?_
        refine lv_ishr X.1 X.2.1 dX4_tries_105 ?_
        refine lv_iconst (v := nI 1) X.1 X.2.1 dX4_tries_106 rfl ?_
        refine lv_iand X.1 X.2.1 dX4_tries_107 ?_
        refine lv_if_ne (tgt := 174) X.1 X.2.1 dX4_tries_108 (by decide) (fun (c_108 : ¬ (us >>> ((nI v) &&& 31)) &&& 1 = 0) => ?_) (fun (c_108 : (us >>> ((nI v) &&& 31)) &&& 1 = 0) => ?_)
        · refine rn_iinc (lv' := [(5, .int (nI (v + 1))), (0, .ref (n + 91)), (1, .int (nI r)), (2, .int us), (3, .int nn), (4, .int sm)]) X.1 X.2.1 dX4_tries_174 hl (k := 5) rfl (by decide) rfl (fun ls hl => ?_)
          refine lv_goto (tgt := 87) X.1 X.2.1 dX4_tries_177 (by decide) ?_
          exact ih87 _ (by omega) (v + 1) ξ1 _ _ rfl (by omega) (by first | exact hq | exact fun i h1 h2 h3 => ((hu171.1 i h1 h2 h3).trans (mdS_row _ _ _ h2)).trans (hq i h1 h2 h3)) (by first | exact he1 | exact hu171.2.1.trans he1) (by first | exact hrow1 | exact fun i hi => (hu171.2.2.1 i (by omega)).trans ((xRow (x := nI v) hrow1 i (by omega)).trans (upd_lo hi).symm)) (by rw [rv_for_s]; first | (have ht : rv_taken row r v = true := (by rw [← hus v (by omega)]; exact (Bool.not_eq_false _).mp (fun z => c_108 ((b_low0 (show v < 32 by omega)).mpr z))); rw [rv_F_t ht]; exact hB1) | (rw [rv_F_n (S := (fun v r => rv_suitN f v r ei)) c_128]; exact hB1) | (have ht : rv_taken row r v = false := (by rw [← hus v (by omega)]; exact (b_low0 (show v < 32 by omega)).mp c_108); rw [rv_F_y (S := (fun v r => rv_suitN f v r ei)) ht c_128]; exact hu171.2.2.2)) hP hS ls (lv_sub hl [1, 2, 3, 4, 5, 0] rfl)
        · refine lv_aload_n X.1 X.2.1 dX4_tries_111 rfl (lv_at hl 0 rfl) ?_
          refine xb_get (C := RX4) (T := TX4) (v := .ref n) X in_X4 (ci := 4) rfl hP (j := 91) (by decide) (xe_x91 ..) 5 (by decide) q229 rfl rfl dX4_tries_112 ?_
          refine xb_getN (host := "RentedViews") (C := RX0) (T := TX0) (v := .ref (n + 1)) X in_X0 (ci := 0) rfl hP (j := 0) (by decide) (xe_x0 ..) 0 (by decide) (x_nest hN q247 rfl) rfl rfl dX4_tries_115 ?_
          refine lv_iload X.1 X.2.1 dX4_tries_118 (lv_at hl 5 rfl) ?_
          refine lv_iload_n X.1 X.2.1 dX4_tries_120 rfl (lv_at hl 1 rfl) ?_
          refine lv_aload_n X.1 X.2.1 dX4_tries_121 rfl (lv_at hl 0 rfl) ?_
          refine xb_get (C := RX4) (T := TX4) (v := .int (ξ1 91 2)) X in_X4 (ci := 4) rfl hP (j := 91) (by decide) (xe_x91 ..) 4 (by decide) q228 rfl rfl dX4_tries_122 ?_
          refine rn_co (y := ei) he1 ?_
          refine x_cSe (x_runV X hN ⟨(x_shop hP), (hV.at hS hT)⟩ (As := [.int (nI v), .int (nI r), .int ei]) (rest := []) (x_X1_suits l dC dI dA (n + 1) (fun i_ => ξ1 (1 + i_)) V v r ei c many rent rd un hs ev f hR T (by omega) (by omega)) xkv_X4_52 (x_recv (ci := 1) X.2.2.2.2.2 hP (j := 1) (by decide) (xe_x1 ..) rfl) rfl rfl ⟨Nat.le_of_ble_eq_true rfl, Nat.le_of_ble_eq_true rfl⟩ hl.1 (Nat.le_of_ble_eq_true rfl) dX4_tries_125 ⟨Nat.le_of_ble_eq_true rfl, Nat.le_of_ble_eq_true rfl⟩) ?_
          refine rn_zt (tgt := 174) X.1 X.2.1 dX4_tries_128 (by decide) (fun c_128 => ?_) (fun c_128 => ?_)
          · refine rn_iinc (lv' := [(5, .int (nI (v + 1))), (0, .ref (n + 91)), (1, .int (nI r)), (2, .int us), (3, .int nn), (4, .int sm)]) X.1 X.2.1 dX4_tries_174 hl (k := 5) rfl (by decide) rfl (fun ls hl => ?_)
            refine lv_goto (tgt := 87) X.1 X.2.1 dX4_tries_177 (by decide) ?_
            exact ih87 _ (by omega) (v + 1) ξ1 _ _ rfl (by omega) (by first | exact hq | exact fun i h1 h2 h3 => ((hu171.1 i h1 h2 h3).trans (mdS_row _ _ _ h2)).trans (hq i h1 h2 h3)) (by first | exact he1 | exact hu171.2.1.trans he1) (by first | exact hrow1 | exact fun i hi => (hu171.2.2.1 i (by omega)).trans ((xRow (x := nI v) hrow1 i (by omega)).trans (upd_lo hi).symm)) (by rw [rv_for_s]; first | (have ht : rv_taken row r v = true := (by rw [← hus v (by omega)]; exact (Bool.not_eq_false _).mp (fun z => c_108 ((b_low0 (show v < 32 by omega)).mpr z))); rw [rv_F_t ht]; exact hB1) | (rw [rv_F_n (S := (fun v r => rv_suitN f v r ei)) c_128]; exact hB1) | (have ht : rv_taken row r v = false := (by rw [← hus v (by omega)]; exact (b_low0 (show v < 32 by omega)).mp c_108); rw [rv_F_y (S := (fun v r => rv_suitN f v r ei)) ht c_128]; exact hu171.2.2.2)) hP hS ls (lv_sub hl [1, 2, 3, 4, 5, 0] rfl)
          · refine lv_aload_n X.1 X.2.1 dX4_tries_131 rfl (lv_at hl 0 rfl) ?_
            refine xb_get (C := RX4) (T := TX4) (v := .ref (n + 92)) X in_X4 (ci := 4) rfl hP (j := 91) (by decide) (xe_x91 ..) 0 (by decide) q221 rfl rfl dX4_tries_132 ?_
            refine lv_iload_n X.1 X.2.1 dX4_tries_135 rfl (lv_at hl 1 rfl) ?_
            refine lv_iload X.1 X.2.1 dX4_tries_136 (lv_at hl 5 rfl) ?_
            refine xb_iast (E' := xE dA n (mdS ξ1 92 r (nI v)) V V2 im ab be) X hP (fun _ h => h) hS (j := 92) (by decide) (n := 6) (f := ξ1 92) rfl (by omega) (by decide) (fun i_ _ => xE_S dA n ξ1 V V2 im ab be 92 r (nI v) i_) dX4_tries_138 (fun H locs hP hS => ?_)
            have hR := xR_S hR (j := 92) (k := r) (v := nI v) (by decide)
            refine lv_aload_n X.1 X.2.1 dX4_tries_139 rfl (lv_at hl 0 rfl) ?_
            refine lv_iload_n X.1 X.2.1 dX4_tries_140 rfl (lv_at hl 1 rfl) ?_
            refine lv_iconst (v := nI 1) X.1 X.2.1 dX4_tries_141 rfl ?_
            refine rn_iadd X.1 X.2.1 dX4_tries_142 ?_
            refine lv_iload_n X.1 X.2.1 dX4_tries_143 rfl (lv_at hl 2 rfl) ?_
            refine lv_iconst (v := nI 1) X.1 X.2.1 dX4_tries_144 rfl ?_
            refine lv_iload X.1 X.2.1 dX4_tries_145 (lv_at hl 5 rfl) ?_
            refine lv_ishl X.1 X.2.1 dX4_tries_147 ?_
            refine lv_ior X.1 X.2.1 dX4_tries_148 ?_
            refine lv_iload_n X.1 X.2.1 dX4_tries_149 rfl (lv_at hl 3 rfl) ?_
            refine lv_iconst (v := nI 1) X.1 X.2.1 dX4_tries_150 rfl ?_
            refine lv_iadd X.1 X.2.1 dX4_tries_151 ?_
            refine lv_iload X.1 X.2.1 dX4_tries_152 (lv_at hl 4 rfl) ?_
            refine lv_aload_n X.1 X.2.1 dX4_tries_154 rfl (lv_at hl 0 rfl) ?_
            refine xb_get (C := RX4) (T := TX4) (v := .ref n) X in_X4 (ci := 4) rfl hP (j := 91) (by decide) (xe_x91 ..) 5 (by decide) q229 rfl rfl dX4_tries_155 ?_
            refine xb_getN (host := "RentedViews") (C := RX0) (T := TX0) (v := .ref (n + 1)) X in_X0 (ci := 0) rfl hP (j := 0) (by decide) (xe_x0 ..) 0 (by decide) (x_nest hN q247 rfl) rfl rfl dX4_tries_158 ?_
            refine xb_getN (host := "RentedViews") (C := RX1) (T := TX1) (v := .ref (n + 2)) X in_X1 (ci := 1) rfl hP (j := 1) (by decide) (xe_x1 ..) 0 (by decide) (x_nest hN q138 rfl) rfl rfl dX4_tries_161 ?_
            refine lv_iload X.1 X.2.1 dX4_tries_164 (lv_at hl 5 rfl) ?_
            obtain ⟨a166, kd166, hVa166, hTa166, hk166, hf166, hv166⟩ := hV.2 v (by omega)
            refine xb_aald X hP (j := 2) (by decide) (t := 3) (C := RX6) (f := V) rfl rfl (by omega) (by decide) dX4_tries_166 ?_
            refine x_vq hVa166 ?_
            refine vd_X4_lets X hN hk166 (vw_at hv166 hS (hT _ hTa166)) (rest := [.int sm, .int (nn + 1), .int (us ||| (1 <<< ((nI v) &&& 31))), .int (nI (r + 1)), .ref (n + 91)]) ⟨Nat.le_of_ble_eq_true rfl, Nat.le_of_ble_eq_true rfl⟩ hl.1 (Nat.le_of_ble_eq_true rfl) dX4_tries_167 ⟨Nat.le_of_ble_eq_true rfl, Nat.le_of_ble_eq_true rfl⟩ ?_
            refine rn_co (y := rv_cost (f (7 + 6 * v)) (f (7 + 6 * v + 2))) (by rw [hf166]) ?_
            refine lv_iadd X.1 X.2.1 dX4_tries_170 ?_
            refine x_cWv (x_runV X hN ⟨hP, (hV.at hS hT), (tb_sub hT hS)⟩ (As := [.int (nI (r + 1)), .int (us ||| (1 <<< ((nI v) &&& 31))), .int (nn + 1), .int (sm + (rv_cost (f (7 + 6 * v)) (f (7 + 6 * v + 2))))]) (rest := []) (x_X4_tries_0 l dC dI dA n (mdS ξ1 92 r (nI v)) V V2 im ab be (r + 1) (us ||| (1 <<< ((nI v) &&& 31))) (nn + 1) (sm + (rv_cost (f (7 + 6 * v)) (f (7 + 6 * v + 2)))) c many rent rd un hs ev f hR T ei he1 (upd row r (nI v)) (xRow hrow1) (hok.up (Or.inr ⟨v, c_99, rfl⟩)) (fun w hw => by rw [b_or, hus w hw, b_bit (show v < 32 by omega) (by omega), rv_tk_up]; congr 1; exact decide_eq_decide.mpr ⟨fun z => by rw [z], fun z => ((nI_eq (by omega) (by omega)).mp z).symm⟩) (by rw [rv_cn_up, if_neg (rv_nIne v (by omega)), hnn]) (by rw [rv_mn_up (by omega) _ _ hok, if_neg (rv_nIne v (by omega)), rv_cln (by omega), hsm]) (rv_for (rv_F (fun v r => rv_suitN f v r ei) (fun v => rv_cost (f (7 + 6 * v)) (f (7 + 6 * v + 2))) many 0 r row) v (rv_try (fun v r => rv_suitN f v r ei) (fun v => rv_cost (f (7 + 6 * v)) (f (7 + 6 * v + 2))) many 0 (r + 1) (upd row r (-1)) Bb)) (hB1.cg rfl rfl) (by omega)) xkv_X4_32 (x_recv (ci := 4) X.2.2.2.2.2 hP (j := 91) (by decide) (xe_x91 ..) rfl) rfl rfl ⟨Nat.le_of_ble_eq_true rfl, Nat.le_of_ble_eq_true rfl⟩ hl.1 (Nat.le_of_ble_eq_true rfl) dX4_tries_171 ⟨Nat.le_of_ble_eq_true rfl, Nat.le_of_ble_eq_true rfl⟩) hS (fun _ h => h) (fun _ h => h) (fun u171 H locs hu171 hP1 hz1 hk1 hS => ?_)
            have hP := hP1
            have hR := hR.cg (fun i hi => hu171.1 (1 + i) (by omega) (by omega) (by omega) ) (fun _ _ => rfl)
            refine rn_iinc (lv' := [(5, .int (nI (v + 1))), (0, .ref (n + 91)), (1, .int (nI r)), (2, .int us), (3, .int nn), (4, .int sm)]) X.1 X.2.1 dX4_tries_174 hl (k := 5) rfl (by decide) rfl (fun ls hl => ?_)
            refine lv_goto (tgt := 87) X.1 X.2.1 dX4_tries_177 (by decide) ?_
            exact ih87 _ (by omega) (v + 1) u171 _ _ rfl (by omega) (by first | exact hq | exact fun i h1 h2 h3 => ((hu171.1 i h1 h2 h3).trans (mdS_row _ _ _ h2)).trans (hq i h1 h2 h3)) (by first | exact he1 | exact hu171.2.1.trans he1) (by first | exact hrow1 | exact fun i hi => (hu171.2.2.1 i (by omega)).trans ((xRow (x := nI v) hrow1 i (by omega)).trans (upd_lo hi).symm)) (by rw [rv_for_s]; first | (have ht : rv_taken row r v = true := (by rw [← hus v (by omega)]; exact (Bool.not_eq_false _).mp (fun z => c_108 ((b_low0 (show v < 32 by omega)).mpr z))); rw [rv_F_t ht]; exact hB1) | (rw [rv_F_n (S := (fun v r => rv_suitN f v r ei)) c_128]; exact hB1) | (have ht : rv_taken row r v = false := (by rw [← hus v (by omega)]; exact (b_low0 (show v < 32 by omega)).mp c_108); rw [rv_F_y (S := (fun v r => rv_suitN f v r ei)) ht c_128]; exact hu171.2.2.2)) hP hS ls (lv_sub hl [1, 2, 3, 4, 5, 0] rfl)
  refine lv_iload_n X.1 X.2.1 dX4_tries_0 rfl (lv_at hl 1 rfl) ?_
  refine lv_aload_n X.1 X.2.1 dX4_tries_1 rfl (lv_at hl 0 rfl) ?_
  refine xb_get (C := RX4) (T := TX4) (v := .ref n) X in_X4 (ci := 4) rfl hP (j := 91) (by decide) (xe_x91 ..) 5 (by decide) q229 rfl rfl dX4_tries_2 ?_
  refine xb_getN (host := "RentedViews") (C := RX0) (T := TX0) (v := .ref (n + 1)) X in_X0 (ci := 0) rfl hP (j := 0) (by decide) (xe_x0 ..) 0 (by decide) (x_nest hN q247 rfl) rfl rfl dX4_tries_5 ?_
  refine xb_getN (host := "RentedViews") (C := RX1) (T := TX1) (v := .int (ξ 1 1)) X in_X1 (ci := 1) rfl hP (j := 1) (by decide) (xe_x1 ..) 5 (by decide) (x_nest hN q152 rfl) rfl rfl dX4_tries_8 ?_
  refine rn_co (y := nI rent) hR.nr ?_
  refine rn_icmp_ne (tgt := 66) X.1 X.2.1 (by omega) (by omega) dX4_tries_11 (by decide) (fun c_11 => ?_) (fun c_11 => ?_)
  · refine lv_aload_n X.1 X.2.1 dX4_tries_66 rfl (lv_at hl 0 rfl) ?_
    refine xb_get (C := RX4) (T := TX4) (v := .ref (n + 92)) X in_X4 (ci := 4) rfl hP (j := 91) (by decide) (xe_x91 ..) 0 (by decide) q221 rfl rfl dX4_tries_67 ?_
    refine lv_iload_n X.1 X.2.1 dX4_tries_70 rfl (lv_at hl 1 rfl) ?_
    refine lv_iconst (v := (-1)) X.1 X.2.1 dX4_tries_71 rfl ?_
    refine xb_iast (E' := xE dA n (mdS ξ 92 r (-1)) V V2 im ab be) X hP (fun _ h => h) hS (j := 92) (by decide) (n := 6) (f := ξ 92) rfl (by omega) (by decide) (fun i_ _ => xE_S dA n ξ V V2 im ab be 92 r (-1) i_) dX4_tries_72 (fun H locs hP hS => ?_)
    have hR := xR_S hR (j := 92) (k := r) (v := (-1)) (by decide)
    refine lv_aload_n X.1 X.2.1 dX4_tries_73 rfl (lv_at hl 0 rfl) ?_
    refine lv_iload_n X.1 X.2.1 dX4_tries_74 rfl (lv_at hl 1 rfl) ?_
    refine lv_iconst (v := nI 1) X.1 X.2.1 dX4_tries_75 rfl ?_
    refine rn_iadd X.1 X.2.1 dX4_tries_76 ?_
    refine lv_iload_n X.1 X.2.1 dX4_tries_77 rfl (lv_at hl 2 rfl) ?_
    refine lv_iload_n X.1 X.2.1 dX4_tries_78 rfl (lv_at hl 3 rfl) ?_
    refine lv_iload X.1 X.2.1 dX4_tries_79 (lv_at hl 4 rfl) ?_
    refine x_cWv (x_runV X hN ⟨hP, (hV.at hS hT), (tb_sub hT hS)⟩ (As := [.int (nI (r + 1)), .int us, .int nn, .int sm]) (rest := []) (x_X4_tries_0 l dC dI dA n (mdS ξ 92 r (-1)) V V2 im ab be (r + 1) us nn sm c many rent rd un hs ev f hR T ei he (upd row r (-1)) (xRow hrow) (hok.up (Or.inl rfl)) (fun v hv => by rw [hus v hv, rv_tk_up, rv_m1ne (by omega), Bool.or_false]) (by rw [rv_cn_up, if_pos rfl, Int32.add_zero]; exact hnn) (by rw [rv_mn_up (by omega) _ _ hok, if_pos rfl, Int32.add_zero]; exact hsm) Bb (hB.cg rfl rfl) (by omega)) xkv_X4_32 (x_recv (ci := 4) X.2.2.2.2.2 hP (j := 91) (by decide) (xe_x91 ..) rfl) rfl rfl ⟨Nat.le_of_ble_eq_true rfl, Nat.le_of_ble_eq_true rfl⟩ hl.1 (Nat.le_of_ble_eq_true rfl) dX4_tries_81 ⟨Nat.le_of_ble_eq_true rfl, Nat.le_of_ble_eq_true rfl⟩) hS (fun _ h => h) (fun _ h => h) (fun u81 H locs hu81 hP1 hz1 hk1 hS => ?_)
    have hP := hP1
    have hR := hR.cg (fun i hi => hu81.1 (1 + i) (by omega) (by omega) (by omega) ) (fun _ _ => rfl)
    refine lv_iconst (v := nI 0) X.1 X.2.1 dX4_tries_84 rfl ?_
    refine lv_istore (lv' := [(5, .int (nI 0)), (0, .ref (n + 91)), (1, .int (nI r)), (2, .int us), (3, .int nn), (4, .int sm)]) X.1 X.2.1 dX4_tries_85 hl (by decide) rfl (fun ls hl => ?_)
    exact K87 _ 0 u81 _ _ rfl (by omega) (fun i h1 h2 h3 => (hu81.1 i h1 h2 h3).trans (mdS_row _ _ _ h2)) (hu81.2.1.trans he) (fun i hi => (hu81.2.2.1 i (by omega)).trans ((xRow (x := -1) hrow i (by omega)).trans (upd_lo hi).symm)) hu81.2.2.2 hP hS ls (lv_sub hl [1, 2, 3, 4, 5, 0] rfl)
  · exact absurd c_11 (by omega)
set_option maxHeartbeats 2000000 in
theorem x_X4_tries_2 (l : Launch) (dC : Nat → ClassId) (dI : Nat → Nat → Nat) (dA : Nat → ClassId) (n : Nat) (ξ : mdT) (V : Nat → Option Nat) (V2 : Nat → Option Nat) (im : Nat → Option Nat) (ab : Int64) (be : Int64) (r : Nat) (us : Int32) (nn : Int32) (sm : Int32) (c : Nat) (many : Nat) (rent : Nat) (rd : Nat) (un : Nat) (hs : Nat) (ev : Nat) (f : Nat → Int32) (hR : shR c many rent rd un hs ev f (fun i_ => ξ (1 + i_))) (T : Nat → Prop) (ei : Int32) (he : ξ 91 2 = ei) (row : Nat → Int32) (hrow : ∀ i_, i_ < r → ξ 92 i_ = row i_) (hok : rv_okrow many row r) (hus : ∀ v_, v_ < many → bt us v_ = rv_taken row r v_) (hnn : nn = rv_cntr row r) (hsm : sm = rv_monr (fun v => rv_cost (f (7 + 6 * v)) (f (7 + 6 * v + 2))) row r) (Bb : rvB) (hB : xBst rent ξ Bb) (hk : r + 2 = rent) : Met l yX4_tries (ws_ yX4_tries cX4_tries 6 none) { frames := 6, cells := 0, slots := 0, locals := 360 } (xPc dC dI dA (fun H => (bkP dC dI n 96 (xE dA n ξ V V2 im ab be) H) ∧ (shV dC dI T many f V H) ∧ (∀ a_, T a_ → a_ < H.size ∧ ¬ bkA n 96 a_)) [.ref (n + 91), .int (nI r), .int us, .int nn, .int sm]) (xQv (S := mdT) (fun u => xTry ξ rent r (rv_try (fun v r => rv_suitN f v r ei) (fun v => rv_cost (f (7 + 6 * v)) (f (7 + 6 * v + 2))) many 2 r row Bb) u) (fun u => (bkP dC dI n 96 (xE dA n u V V2 im ab be))) (bkA n 96)) 0 0 (bkA n 96) := by
  refine x_in (by decide) rfl (Nat.le_of_ble_eq_true rfl) (lv := [(0, .ref (n + 91)), (1, .int (nI r)), (2, .int us), (3, .int nn), (4, .int sm)]) rfl ?_
  intro p e s m below meth c_ X hN hnm hr hlk hP ls hl
  obtain ⟨hP, hV, hT⟩ := hP
  have hm := hR.m6
  have hr6 := hR.r6
  have hd6 := hR.d6
  have hu8 := hR.u8
  have hs12 := hR.h12
  have hS : va_S (bkA n 96) s.heap s.heap [] := va_S.rf
  have K87 : ∀ (k87_ : Nat) (v : Nat) (ξ1 : mdT) (H : Heap) (locs : List Loc), many - v = k87_ → (v ≤ many) → (∀ i, i ≠ 91 → i ≠ 92 → i ≠ 93 → ξ1 i = ξ i) → (ξ1 91 2 = ei) → (∀ i, i < r → ξ1 92 i = row i) → (xBst rent ξ1 (rv_for (rv_F (fun v r => rv_suitN f v r ei) (fun v => rv_cost (f (7 + 6 * v)) (f (7 + 6 * v + 2))) many 1 r row) v (rv_try (fun v r => rv_suitN f v r ei) (fun v => rv_cost (f (7 + 6 * v)) (f (7 + 6 * v + 2))) many 1 (r + 1) (upd row r (-1)) Bb))) → bkP dC dI n 96 (xE dA n ξ1 V V2 im ab be) H → va_S (bkA n 96) s.heap H locs → ∀ ls, lv_has ls 6 [(0, .ref (n + 91)), (1, .int (nI r)), (2, .int us), (3, .int nn), (4, .int sm), (5, .int (nI v))] → W p l e { frames := 6, cells := 0, slots := 0, locals := 360 } s m [.ref (n + 91), .int (nI r), .int us, .int nn, .int sm].toArray below meth c_ H locs 0 0 (MQ below (xQv (S := mdT) (fun u => xTry ξ rent r (rv_try (fun v r => rv_suitN f v r ei) (fun v => rv_cost (f (7 + 6 * v)) (f (7 + 6 * v + 2))) many 2 r row Bb) u) (fun u => (bkP dC dI n 96 (xE dA n u V V2 im ab be))) (bkA n 96)) [.ref (n + 91), .int (nI r), .int us, .int nn, .int sm].toArray s 0 0 (bkA n 96)) (F0 m 87 ls []) := by
    intro k87_
    induction k87_ using Nat.strongRecOn with
    | _ k87_ ih87 =>
      intro v ξ1 H locs hm87_ hv_ hq he1 hrow1 hB1 hP hS ls hl
      have hR := hR.cg (S' := fun i_ => ξ1 (1 + i_)) (fun i hi => hq (1 + i) (by omega) (by omega) (by omega)) (fun _ _ => rfl)
      refine lv_iload X.1 X.2.1 dX4_tries_87 (lv_at hl 5 rfl) ?_
      refine lv_aload_n X.1 X.2.1 dX4_tries_89 rfl (lv_at hl 0 rfl) ?_
      refine xb_get (C := RX4) (T := TX4) (v := .ref n) X in_X4 (ci := 4) rfl hP (j := 91) (by decide) (xe_x91 ..) 5 (by decide) q229 rfl rfl dX4_tries_90 ?_
      refine xb_getN (host := "RentedViews") (C := RX0) (T := TX0) (v := .ref (n + 1)) X in_X0 (ci := 0) rfl hP (j := 0) (by decide) (xe_x0 ..) 0 (by decide) (x_nest hN q247 rfl) rfl rfl dX4_tries_93 ?_
      refine xb_getN (host := "RentedViews") (C := RX1) (T := TX1) (v := .int (ξ1 1 0)) X in_X1 (ci := 1) rfl hP (j := 1) (by decide) (xe_x1 ..) 2 (by decide) (x_nest hN q144 rfl) rfl rfl dX4_tries_96 ?_
      refine rn_co (y := nI many) hR.nm ?_
      refine rn_icmp_ge (tgt := 180) X.1 X.2.1 (by omega) (by omega) dX4_tries_99 (by decide) (fun c_99 => ?_) (fun c_99 => ?_)
      · exact x_rv ξ1 X hr hlk hS dX4_tries_180 (by obtain rfl : v = many := (by omega); exact ⟨hq, he1.trans he.symm, fun i hi => (hrow1 i hi).trans (hrow i hi).symm, hB1⟩) hP
      · refine lv_iload_n X.1 X.2.1 dX4_tries_102 rfl (lv_at hl 2 rfl) ?_
        refine lv_iload X.1 X.2.1 dX4_tries_103 (lv_at hl 5 rfl) ?_
        refine lv_ishr X.1 X.2.1 dX4_tries_105 ?_
        refine lv_iconst (v := nI 1) X.1 X.2.1 dX4_tries_106 rfl ?_
        refine lv_iand X.1 X.2.1 dX4_tries_107 ?_
        refine lv_if_ne (tgt := 174) X.1 X.2.1 dX4_tries_108 (by decide) (fun (c_108 : ¬ (us >>> ((nI v) &&& 31)) &&& 1 = 0) => ?_) (fun (c_108 : (us >>> ((nI v) &&& 31)) &&& 1 = 0) => ?_)
        · refine rn_iinc (lv' := [(5, .int (nI (v + 1))), (0, .ref (n + 91)), (1, .int (nI r)), (2, .int us), (3, .int nn), (4, .int sm)]) X.1 X.2.1 dX4_tries_174 hl (k := 5) rfl (by decide) rfl (fun ls hl => ?_)
          refine lv_goto (tgt := 87) X.1 X.2.1 dX4_tries_177 (by decide) ?_
          exact ih87 _ (by omega) (v + 1) ξ1 _ _ rfl (by omega) (by first | exact hq | exact fun i h1 h2 h3 => ((hu171.1 i h1 h2 h3).trans (mdS_row _ _ _ h2)).trans (hq i h1 h2 h3)) (by first | exact he1 | exact hu171.2.1.trans he1) (by first | exact hrow1 | exact fun i hi => (hu171.2.2.1 i (by omega)).trans ((xRow (x := nI v) hrow1 i (by omega)).trans (upd_lo hi).symm)) (by rw [rv_for_s]; first | (have ht : rv_taken row r v = true := (by rw [← hus v (by omega)]; exact (Bool.not_eq_false _).mp (fun z => c_108 ((b_low0 (show v < 32 by omega)).mpr z))); rw [rv_F_t ht]; exact hB1) | (rw [rv_F_n (S := (fun v r => rv_suitN f v r ei)) c_128]; exact hB1) | (have ht : rv_taken row r v = false := (by rw [← hus v (by omega)]; exact (b_low0 (show v < 32 by omega)).mp c_108); rw [rv_F_y (S := (fun v r => rv_suitN f v r ei)) ht c_128]; exact hu171.2.2.2)) hP hS ls (lv_sub hl [1, 2, 3, 4, 5, 0] rfl)
        · refine lv_aload_n X.1 X.2.1 dX4_tries_111 rfl (lv_at hl 0 rfl) ?_
          refine xb_get (C := RX4) (T := TX4) (v := .ref n) X in_X4 (ci := 4) rfl hP (j := 91) (by decide) (xe_x91 ..) 5 (by decide) q229 rfl rfl dX4_tries_112 ?_
          refine xb_getN (host := "RentedViews") (C := RX0) (T := TX0) (v := .ref (n + 1)) X in_X0 (ci := 0) rfl hP (j := 0) (by decide) (xe_x0 ..) 0 (by decide) (x_nest hN q247 rfl) rfl rfl dX4_tries_115 ?_
          refine lv_iload X.1 X.2.1 dX4_tries_118 (lv_at hl 5 rfl) ?_
          refine lv_iload_n X.1 X.2.1 dX4_tries_120 rfl (lv_at hl 1 rfl) ?_
          refine lv_aload_n X.1 X.2.1 dX4_tries_121 rfl (lv_at hl 0 rfl) ?_
          refine xb_get (C := RX4) (T := TX4) (v := .int (ξ1 91 2)) X in_X4 (ci := 4) rfl hP (j := 91) (by decide) (xe_x91 ..) 4 (by decide) q228 rfl rfl dX4_tries_122 ?_
          refine rn_co (y := ei) he1 ?_
          refine x_cSe (x_runV X hN ⟨(x_shop hP), (hV.at hS hT)⟩ (As := [.int (nI v), .int (nI r), .int ei]) (rest := []) (x_X1_suits l dC dI dA (n + 1) (fun i_ => ξ1 (1 + i_)) V v r ei c many rent rd un hs ev f hR T (by omega) (by omega)) xkv_X4_52 (x_recv (ci := 1) X.2.2.2.2.2 hP (j := 1) (by decide) (xe_x1 ..) rfl) rfl rfl ⟨Nat.le_of_ble_eq_true rfl, Nat.le_of_ble_eq_true rfl⟩ hl.1 (Nat.le_of_ble_eq_true rfl) dX4_tries_125 ⟨Nat.le_of_ble_eq_true rfl, Nat.le_of_ble_eq_true rfl⟩) ?_
          refine rn_zt (tgt := 174) X.1 X.2.1 dX4_tries_128 (by decide) (fun c_128 => ?_) (fun c_128 => ?_)
          · refine rn_iinc (lv' := [(5, .int (nI (v + 1))), (0, .ref (n + 91)), (1, .int (nI r)), (2, .int us), (3, .int nn), (4, .int sm)]) X.1 X.2.1 dX4_tries_174 hl (k := 5) rfl (by decide) rfl (fun ls hl => ?_)
            refine lv_goto (tgt := 87) X.1 X.2.1 dX4_tries_177 (by decide) ?_
            exact ih87 _ (by omega) (v + 1) ξ1 _ _ rfl (by omega) (by first | exact hq | exact fun i h1 h2 h3 => ((hu171.1 i h1 h2 h3).trans (mdS_row _ _ _ h2)).trans (hq i h1 h2 h3)) (by first | exact he1 | exact hu171.2.1.trans he1) (by first | exact hrow1 | exact fun i hi => (hu171.2.2.1 i (by omega)).trans ((xRow (x := nI v) hrow1 i (by omega)).trans (upd_lo hi).symm)) (by rw [rv_for_s]; first | (have ht : rv_taken row r v = true := (by rw [← hus v (by omega)]; exact (Bool.not_eq_false _).mp (fun z => c_108 ((b_low0 (show v < 32 by omega)).mpr z))); rw [rv_F_t ht]; exact hB1) | (rw [rv_F_n (S := (fun v r => rv_suitN f v r ei)) c_128]; exact hB1) | (have ht : rv_taken row r v = false := (by rw [← hus v (by omega)]; exact (b_low0 (show v < 32 by omega)).mp c_108); rw [rv_F_y (S := (fun v r => rv_suitN f v r ei)) ht c_128]; exact hu171.2.2.2)) hP hS ls (lv_sub hl [1, 2, 3, 4, 5, 0] rfl)
          · refine lv_aload_n X.1 X.2.1 dX4_tries_131 rfl (lv_at hl 0 rfl) ?_
            refine xb_get (C := RX4) (T := TX4) (v := .ref (n + 92)) X in_X4 (ci := 4) rfl hP (j := 91) (by decide) (xe_x91 ..) 0 (by decide) q221 rfl rfl dX4_tries_132 ?_
            refine lv_iload_n X.1 X.2.1 dX4_tries_135 rfl (lv_at hl 1 rfl) ?_
            refine lv_iload X.1 X.2.1 dX4_tries_136 (lv_at hl 5 rfl) ?_
            refine xb_iast (E' := xE dA n (mdS ξ1 92 r (nI v)) V V2 im ab be) X hP (fun _ h => h) hS (j := 92) (by decide) (n := 6) (f := ξ1 92) rfl (by omega) (by decide) (fun i_ _ => xE_S dA n ξ1 V V2 im ab be 92 r (nI v) i_) dX4_tries_138 (fun H locs hP hS => ?_)
            have hR := xR_S hR (j := 92) (k := r) (v := nI v) (by decide)
            refine lv_aload_n X.1 X.2.1 dX4_tries_139 rfl (lv_at hl 0 rfl) ?_
            refine lv_iload_n X.1 X.2.1 dX4_tries_140 rfl (lv_at hl 1 rfl) ?_
            refine lv_iconst (v := nI 1) X.1 X.2.1 dX4_tries_141 rfl ?_
            refine rn_iadd X.1 X.2.1 dX4_tries_142 ?_
            refine lv_iload_n X.1 X.2.1 dX4_tries_143 rfl (lv_at hl 2 rfl) ?_
            refine lv_iconst (v := nI 1) X.1 X.2.1 dX4_tries_144 rfl ?_
            refine lv_iload X.1 X.2.1 dX4_tries_145 (lv_at hl 5 rfl) ?_
            refine lv_ishl X.1 X.2.1 dX4_tries_147 ?_
            refine lv_ior X.1 X.2.1 dX4_tries_148 ?_
            refine lv_iload_n X.1 X.2.1 dX4_tries_149 rfl (lv_at hl 3 rfl) ?_
            refine lv_iconst (v := nI 1) X.1 X.2.1 dX4_tries_150 rfl ?_
            refine lv_iadd X.1 X.2.1 dX4_tries_151 ?_
            refine lv_iload X.1 X.2.1 dX4_tries_152 (lv_at hl 4 rfl) ?_
            refine lv_aload_n X.1 X.2.1 dX4_tries_154 rfl (lv_at hl 0 rfl) ?_
            refine xb_get (C := RX4) (T := TX4) (v := .ref n) X in_X4 (ci := 4) rfl hP (j := 91) (by decide) (xe_x91 ..) 5 (by decide) q229 rfl rfl dX4_tries_155 ?_
            refine xb_getN (host := "RentedViews") (C := RX0) (T := TX0) (v := .ref (n + 1)) X in_X0 (ci := 0) rfl hP (j := 0) (by decide) (xe_x0 ..) 0 (by decide) (x_nest hN q247 rfl) rfl rfl dX4_tries_158 ?_
            refine xb_getN (host := "RentedViews") (C := RX1) (T := TX1) (v := .ref (n + 2)) X in_X1 (ci := 1) rfl hP (j := 1) (by decide) (xe_x1 ..) 0 (by decide) (x_nest hN q138 rfl) rfl rfl dX4_tries_161 ?_
            refine lv_iload X.1 X.2.1 dX4_tries_164 (lv_at hl 5 rfl) ?_
            obtain ⟨a166, kd166, hVa166, hTa166, hk166, hf166, hv166⟩ := hV.2 v (by omega)
            refine xb_aald X hP (j := 2) (by decide) (t := 3) (C := RX6) (f := V) rfl rfl (by omega) (by decide) dX4_tries_166 ?_
            refine x_vq hVa166 ?_
            refine vd_X4_lets X hN hk166 (vw_at hv166 hS (hT _ hTa166)) (rest := [.int sm, .int (nn + 1), .int (us ||| (1 <<< ((nI v) &&& 31))), .int (nI (r + 1)), .ref (n + 91)]) ⟨Nat.le_of_ble_eq_true rfl, Nat.le_of_ble_eq_true rfl⟩ hl.1 (Nat.le_of_ble_eq_true rfl) dX4_tries_167 ⟨Nat.le_of_ble_eq_true rfl, Nat.le_of_ble_eq_true rfl⟩ ?_
            refine rn_co (y := rv_cost (f (7 + 6 * v)) (f (7 + 6 * v + 2))) (by rw [hf166]) ?_
            refine lv_iadd X.1 X.2.1 dX4_tries_170 ?_
            refine x_cWv (x_runV X hN ⟨hP, (hV.at hS hT), (tb_sub hT hS)⟩ (As := [.int (nI (r + 1)), .int (us ||| (1 <<< ((nI v) &&& 31))), .int (nn + 1), .int (sm + (rv_cost (f (7 + 6 * v)) (f (7 + 6 * v + 2))))]) (rest := []) (x_X4_tries_1 l dC dI dA n (mdS ξ1 92 r (nI v)) V V2 im ab be (r + 1) (us ||| (1 <<< ((nI v) &&& 31))) (nn + 1) (sm + (rv_cost (f (7 + 6 * v)) (f (7 + 6 * v + 2)))) c many rent rd un hs ev f hR T ei he1 (upd row r (nI v)) (xRow hrow1) (hok.up (Or.inr ⟨v, c_99, rfl⟩)) (fun w hw => by rw [b_or, hus w hw, b_bit (show v < 32 by omega) (by omega), rv_tk_up]; congr 1; exact decide_eq_decide.mpr ⟨fun z => by rw [z], fun z => ((nI_eq (by omega) (by omega)).mp z).symm⟩) (by rw [rv_cn_up, if_neg (rv_nIne v (by omega)), hnn]) (by rw [rv_mn_up (by omega) _ _ hok, if_neg (rv_nIne v (by omega)), rv_cln (by omega), hsm]) (rv_for (rv_F (fun v r => rv_suitN f v r ei) (fun v => rv_cost (f (7 + 6 * v)) (f (7 + 6 * v + 2))) many 1 r row) v (rv_try (fun v r => rv_suitN f v r ei) (fun v => rv_cost (f (7 + 6 * v)) (f (7 + 6 * v + 2))) many 1 (r + 1) (upd row r (-1)) Bb)) (hB1.cg rfl rfl) (by omega)) xkv_X4_32 (x_recv (ci := 4) X.2.2.2.2.2 hP (j := 91) (by decide) (xe_x91 ..) rfl) rfl rfl ⟨Nat.le_of_ble_eq_true rfl, Nat.le_of_ble_eq_true rfl⟩ hl.1 (Nat.le_of_ble_eq_true rfl) dX4_tries_171 ⟨Nat.le_of_ble_eq_true rfl, Nat.le_of_ble_eq_true rfl⟩) hS (fun _ h => h) (fun _ h => h) (fun u171 H locs hu171 hP1 hz1 hk1 hS => ?_)
            have hP := hP1
            have hR := hR.cg (fun i hi => hu171.1 (1 + i) (by omega) (by omega) (by omega) ) (fun _ _ => rfl)
            refine rn_iinc (lv' := [(5, .int (nI (v + 1))), (0, .ref (n + 91)), (1, .int (nI r)), (2, .int us), (3, .int nn), (4, .int sm)]) X.1 X.2.1 dX4_tries_174 hl (k := 5) rfl (by decide) rfl (fun ls hl => ?_)
            refine lv_goto (tgt := 87) X.1 X.2.1 dX4_tries_177 (by decide) ?_
            exact ih87 _ (by omega) (v + 1) u171 _ _ rfl (by omega) (by first | exact hq | exact fun i h1 h2 h3 => ((hu171.1 i h1 h2 h3).trans (mdS_row _ _ _ h2)).trans (hq i h1 h2 h3)) (by first | exact he1 | exact hu171.2.1.trans he1) (by first | exact hrow1 | exact fun i hi => (hu171.2.2.1 i (by omega)).trans ((xRow (x := nI v) hrow1 i (by omega)).trans (upd_lo hi).symm)) (by rw [rv_for_s]; first | (have ht : rv_taken row r v = true := (by rw [← hus v (by omega)]; exact (Bool.not_eq_false _).mp (fun z => c_108 ((b_low0 (show v < 32 by omega)).mpr z))); rw [rv_F_t ht]; exact hB1) | (rw [rv_F_n (S := (fun v r => rv_suitN f v r ei)) c_128]; exact hB1) | (have ht : rv_taken row r v = false := (by rw [← hus v (by omega)]; exact (b_low0 (show v < 32 by omega)).mp c_108); rw [rv_F_y (S := (fun v r => rv_suitN f v r ei)) ht c_128]; exact hu171.2.2.2)) hP hS ls (lv_sub hl [1, 2, 3, 4, 5, 0] rfl)
  refine lv_iload_n X.1 X.2.1 dX4_tries_0 rfl (lv_at hl 1 rfl) ?_
  refine lv_aload_n X.1 X.2.1 dX4_tries_1 rfl (lv_at hl 0 rfl) ?_
  refine xb_get (C := RX4) (T := TX4) (v := .ref n) X in_X4 (ci := 4) rfl hP (j := 91) (by decide) (xe_x91 ..) 5 (by decide) q229 rfl rfl dX4_tries_2 ?_
  refine xb_getN (host := "RentedViews") (C := RX0) (T := TX0) (v := .ref (n + 1)) X in_X0 (ci := 0) rfl hP (j := 0) (by decide) (xe_x0 ..) 0 (by decide) (x_nest hN q247 rfl) rfl rfl dX4_tries_5 ?_
  refine xb_getN (host := "RentedViews") (C := RX1) (T := TX1) (v := .int (ξ 1 1)) X in_X1 (ci := 1) rfl hP (j := 1) (by decide) (xe_x1 ..) 5 (by decide) (x_nest hN q152 rfl) rfl rfl dX4_tries_8 ?_
  refine rn_co (y := nI rent) hR.nr ?_
  refine rn_icmp_ne (tgt := 66) X.1 X.2.1 (by omega) (by omega) dX4_tries_11 (by decide) (fun c_11 => ?_) (fun c_11 => ?_)
  · refine lv_aload_n X.1 X.2.1 dX4_tries_66 rfl (lv_at hl 0 rfl) ?_
    refine xb_get (C := RX4) (T := TX4) (v := .ref (n + 92)) X in_X4 (ci := 4) rfl hP (j := 91) (by decide) (xe_x91 ..) 0 (by decide) q221 rfl rfl dX4_tries_67 ?_
    refine lv_iload_n X.1 X.2.1 dX4_tries_70 rfl (lv_at hl 1 rfl) ?_
    refine lv_iconst (v := (-1)) X.1 X.2.1 dX4_tries_71 rfl ?_
    refine xb_iast (E' := xE dA n (mdS ξ 92 r (-1)) V V2 im ab be) X hP (fun _ h => h) hS (j := 92) (by decide) (n := 6) (f := ξ 92) rfl (by omega) (by decide) (fun i_ _ => xE_S dA n ξ V V2 im ab be 92 r (-1) i_) dX4_tries_72 (fun H locs hP hS => ?_)
    have hR := xR_S hR (j := 92) (k := r) (v := (-1)) (by decide)
    refine lv_aload_n X.1 X.2.1 dX4_tries_73 rfl (lv_at hl 0 rfl) ?_
    refine lv_iload_n X.1 X.2.1 dX4_tries_74 rfl (lv_at hl 1 rfl) ?_
    refine lv_iconst (v := nI 1) X.1 X.2.1 dX4_tries_75 rfl ?_
    refine rn_iadd X.1 X.2.1 dX4_tries_76 ?_
    refine lv_iload_n X.1 X.2.1 dX4_tries_77 rfl (lv_at hl 2 rfl) ?_
    refine lv_iload_n X.1 X.2.1 dX4_tries_78 rfl (lv_at hl 3 rfl) ?_
    refine lv_iload X.1 X.2.1 dX4_tries_79 (lv_at hl 4 rfl) ?_
    refine x_cWv (x_runV X hN ⟨hP, (hV.at hS hT), (tb_sub hT hS)⟩ (As := [.int (nI (r + 1)), .int us, .int nn, .int sm]) (rest := []) (x_X4_tries_1 l dC dI dA n (mdS ξ 92 r (-1)) V V2 im ab be (r + 1) us nn sm c many rent rd un hs ev f hR T ei he (upd row r (-1)) (xRow hrow) (hok.up (Or.inl rfl)) (fun v hv => by rw [hus v hv, rv_tk_up, rv_m1ne (by omega), Bool.or_false]) (by rw [rv_cn_up, if_pos rfl, Int32.add_zero]; exact hnn) (by rw [rv_mn_up (by omega) _ _ hok, if_pos rfl, Int32.add_zero]; exact hsm) Bb (hB.cg rfl rfl) (by omega)) xkv_X4_32 (x_recv (ci := 4) X.2.2.2.2.2 hP (j := 91) (by decide) (xe_x91 ..) rfl) rfl rfl ⟨Nat.le_of_ble_eq_true rfl, Nat.le_of_ble_eq_true rfl⟩ hl.1 (Nat.le_of_ble_eq_true rfl) dX4_tries_81 ⟨Nat.le_of_ble_eq_true rfl, Nat.le_of_ble_eq_true rfl⟩) hS (fun _ h => h) (fun _ h => h) (fun u81 H locs hu81 hP1 hz1 hk1 hS => ?_)
    have hP := hP1
    have hR := hR.cg (fun i hi => hu81.1 (1 + i) (by omega) (by omega) (by omega) ) (fun _ _ => rfl)
    refine lv_iconst (v := nI 0) X.1 X.2.1 dX4_tries_84 rfl ?_
    refine lv_istore (lv' := [(5, .int (nI 0)), (0, .ref (n + 91)), (1, .int (nI r)), (2, .int us), (3, .int nn), (4, .int sm)]) X.1 X.2.1 dX4_tries_85 hl (by decide) rfl (fun ls hl => ?_)
    exact K87 _ 0 u81 _ _ rfl (by omega) (fun i h1 h2 h3 => (hu81.1 i h1 h2 h3).trans (mdS_row _ _ _ h2)) (hu81.2.1.trans he) (fun i hi => (hu81.2.2.1 i (by omega)).trans ((xRow (x := -1) hrow i (by omega)).trans (upd_lo hi).symm)) hu81.2.2.2 hP hS ls (lv_sub hl [1, 2, 3, 4, 5, 0] rfl)
  · exact absurd c_11 (by omega)
set_option maxHeartbeats 2000000 in
theorem x_X4_tries_3 (l : Launch) (dC : Nat → ClassId) (dI : Nat → Nat → Nat) (dA : Nat → ClassId) (n : Nat) (ξ : mdT) (V : Nat → Option Nat) (V2 : Nat → Option Nat) (im : Nat → Option Nat) (ab : Int64) (be : Int64) (r : Nat) (us : Int32) (nn : Int32) (sm : Int32) (c : Nat) (many : Nat) (rent : Nat) (rd : Nat) (un : Nat) (hs : Nat) (ev : Nat) (f : Nat → Int32) (hR : shR c many rent rd un hs ev f (fun i_ => ξ (1 + i_))) (T : Nat → Prop) (ei : Int32) (he : ξ 91 2 = ei) (row : Nat → Int32) (hrow : ∀ i_, i_ < r → ξ 92 i_ = row i_) (hok : rv_okrow many row r) (hus : ∀ v_, v_ < many → bt us v_ = rv_taken row r v_) (hnn : nn = rv_cntr row r) (hsm : sm = rv_monr (fun v => rv_cost (f (7 + 6 * v)) (f (7 + 6 * v + 2))) row r) (Bb : rvB) (hB : xBst rent ξ Bb) (hk : r + 3 = rent) : Met l yX4_tries (ws_ yX4_tries cX4_tries 6 none) { frames := 7, cells := 0, slots := 0, locals := 420 } (xPc dC dI dA (fun H => (bkP dC dI n 96 (xE dA n ξ V V2 im ab be) H) ∧ (shV dC dI T many f V H) ∧ (∀ a_, T a_ → a_ < H.size ∧ ¬ bkA n 96 a_)) [.ref (n + 91), .int (nI r), .int us, .int nn, .int sm]) (xQv (S := mdT) (fun u => xTry ξ rent r (rv_try (fun v r => rv_suitN f v r ei) (fun v => rv_cost (f (7 + 6 * v)) (f (7 + 6 * v + 2))) many 3 r row Bb) u) (fun u => (bkP dC dI n 96 (xE dA n u V V2 im ab be))) (bkA n 96)) 0 0 (bkA n 96) := by
  refine x_in (by decide) rfl (Nat.le_of_ble_eq_true rfl) (lv := [(0, .ref (n + 91)), (1, .int (nI r)), (2, .int us), (3, .int nn), (4, .int sm)]) rfl ?_
  intro p e s m below meth c_ X hN hnm hr hlk hP ls hl
  obtain ⟨hP, hV, hT⟩ := hP
  have hm := hR.m6
  have hr6 := hR.r6
  have hd6 := hR.d6
  have hu8 := hR.u8
  have hs12 := hR.h12
  have hS : va_S (bkA n 96) s.heap s.heap [] := va_S.rf
  have K87 : ∀ (k87_ : Nat) (v : Nat) (ξ1 : mdT) (H : Heap) (locs : List Loc), many - v = k87_ → (v ≤ many) → (∀ i, i ≠ 91 → i ≠ 92 → i ≠ 93 → ξ1 i = ξ i) → (ξ1 91 2 = ei) → (∀ i, i < r → ξ1 92 i = row i) → (xBst rent ξ1 (rv_for (rv_F (fun v r => rv_suitN f v r ei) (fun v => rv_cost (f (7 + 6 * v)) (f (7 + 6 * v + 2))) many 2 r row) v (rv_try (fun v r => rv_suitN f v r ei) (fun v => rv_cost (f (7 + 6 * v)) (f (7 + 6 * v + 2))) many 2 (r + 1) (upd row r (-1)) Bb))) → bkP dC dI n 96 (xE dA n ξ1 V V2 im ab be) H → va_S (bkA n 96) s.heap H locs → ∀ ls, lv_has ls 6 [(0, .ref (n + 91)), (1, .int (nI r)), (2, .int us), (3, .int nn), (4, .int sm), (5, .int (nI v))] → W p l e { frames := 7, cells := 0, slots := 0, locals := 420 } s m [.ref (n + 91), .int (nI r), .int us, .int nn, .int sm].toArray below meth c_ H locs 0 0 (MQ below (xQv (S := mdT) (fun u => xTry ξ rent r (rv_try (fun v r => rv_suitN f v r ei) (fun v => rv_cost (f (7 + 6 * v)) (f (7 + 6 * v + 2))) many 3 r row Bb) u) (fun u => (bkP dC dI n 96 (xE dA n u V V2 im ab be))) (bkA n 96)) [.ref (n + 91), .int (nI r), .int us, .int nn, .int sm].toArray s 0 0 (bkA n 96)) (F0 m 87 ls []) := by
    intro k87_
    induction k87_ using Nat.strongRecOn with
    | _ k87_ ih87 =>
      intro v ξ1 H locs hm87_ hv_ hq he1 hrow1 hB1 hP hS ls hl
      have hR := hR.cg (S' := fun i_ => ξ1 (1 + i_)) (fun i hi => hq (1 + i) (by omega) (by omega) (by omega)) (fun _ _ => rfl)
      refine lv_iload X.1 X.2.1 dX4_tries_87 (lv_at hl 5 rfl) ?_
      refine lv_aload_n X.1 X.2.1 dX4_tries_89 rfl (lv_at hl 0 rfl) ?_
      refine xb_get (C := RX4) (T := TX4) (v := .ref n) X in_X4 (ci := 4) rfl hP (j := 91) (by decide) (xe_x91 ..) 5 (by decide) q229 rfl rfl dX4_tries_90 ?_
      refine xb_getN (host := "RentedViews") (C := RX0) (T := TX0) (v := .ref (n + 1)) X in_X0 (ci := 0) rfl hP (j := 0) (by decide) (xe_x0 ..) 0 (by decide) (x_nest hN q247 rfl) rfl rfl dX4_tries_93 ?_
      refine xb_getN (host := "RentedViews") (C := RX1) (T := TX1) (v := .int (ξ1 1 0)) X in_X1 (ci := 1) rfl hP (j := 1) (by decide) (xe_x1 ..) 2 (by decide) (x_nest hN q144 rfl) rfl rfl dX4_tries_96 ?_
      refine rn_co (y := nI many) hR.nm ?_
      refine rn_icmp_ge (tgt := 180) X.1 X.2.1 (by omega) (by omega) dX4_tries_99 (by decide) (fun c_99 => ?_) (fun c_99 => ?_)
      · exact x_rv ξ1 X hr hlk hS dX4_tries_180 (by obtain rfl : v = many := (by omega); exact ⟨hq, he1.trans he.symm, fun i hi => (hrow1 i hi).trans (hrow i hi).symm, hB1⟩) hP
      · refine lv_iload_n X.1 X.2.1 dX4_tries_102 rfl (lv_at hl 2 rfl) ?_
        refine lv_iload X.1 X.2.1 dX4_tries_103 (lv_at hl 5 rfl) ?_
        refine lv_ishr X.1 X.2.1 dX4_tries_105 ?_
        refine lv_iconst (v := nI 1) X.1 X.2.1 dX4_tries_106 rfl ?_
        refine lv_iand X.1 X.2.1 dX4_tries_107 ?_
        refine lv_if_ne (tgt := 174) X.1 X.2.1 dX4_tries_108 (by decide) (fun (c_108 : ¬ (us >>> ((nI v) &&& 31)) &&& 1 = 0) => ?_) (fun (c_108 : (us >>> ((nI v) &&& 31)) &&& 1 = 0) => ?_)
        · refine rn_iinc (lv' := [(5, .int (nI (v + 1))), (0, .ref (n + 91)), (1, .int (nI r)), (2, .int us), (3, .int nn), (4, .int sm)]) X.1 X.2.1 dX4_tries_174 hl (k := 5) rfl (by decide) rfl (fun ls hl => ?_)
          refine lv_goto (tgt := 87) X.1 X.2.1 dX4_tries_177 (by decide) ?_
          exact ih87 _ (by omega) (v + 1) ξ1 _ _ rfl (by omega) (by first | exact hq | exact fun i h1 h2 h3 => ((hu171.1 i h1 h2 h3).trans (mdS_row _ _ _ h2)).trans (hq i h1 h2 h3)) (by first | exact he1 | exact hu171.2.1.trans he1) (by first | exact hrow1 | exact fun i hi => (hu171.2.2.1 i (by omega)).trans ((xRow (x := nI v) hrow1 i (by omega)).trans (upd_lo hi).symm)) (by rw [rv_for_s]; first | (have ht : rv_taken row r v = true := (by rw [← hus v (by omega)]; exact (Bool.not_eq_false _).mp (fun z => c_108 ((b_low0 (show v < 32 by omega)).mpr z))); rw [rv_F_t ht]; exact hB1) | (rw [rv_F_n (S := (fun v r => rv_suitN f v r ei)) c_128]; exact hB1) | (have ht : rv_taken row r v = false := (by rw [← hus v (by omega)]; exact (b_low0 (show v < 32 by omega)).mp c_108); rw [rv_F_y (S := (fun v r => rv_suitN f v r ei)) ht c_128]; exact hu171.2.2.2)) hP hS ls (lv_sub hl [1, 2, 3, 4, 5, 0] rfl)
        · refine lv_aload_n X.1 X.2.1 dX4_tries_111 rfl (lv_at hl 0 rfl) ?_
          refine xb_get (C := RX4) (T := TX4) (v := .ref n) X in_X4 (ci := 4) rfl hP (j := 91) (by decide) (xe_x91 ..) 5 (by decide) q229 rfl rfl dX4_tries_112 ?_
          refine xb_getN (host := "RentedViews") (C := RX0) (T := TX0) (v := .ref (n + 1)) X in_X0 (ci := 0) rfl hP (j := 0) (by decide) (xe_x0 ..) 0 (by decide) (x_nest hN q247 rfl) rfl rfl dX4_tries_115 ?_
          refine lv_iload X.1 X.2.1 dX4_tries_118 (lv_at hl 5 rfl) ?_
          refine lv_iload_n X.1 X.2.1 dX4_tries_120 rfl (lv_at hl 1 rfl) ?_
          refine lv_aload_n X.1 X.2.1 dX4_tries_121 rfl (lv_at hl 0 rfl) ?_
          refine xb_get (C := RX4) (T := TX4) (v := .int (ξ1 91 2)) X in_X4 (ci := 4) rfl hP (j := 91) (by decide) (xe_x91 ..) 4 (by decide) q228 rfl rfl dX4_tries_122 ?_
          refine rn_co (y := ei) he1 ?_
          refine x_cSe (x_runV X hN ⟨(x_shop hP), (hV.at hS hT)⟩ (As := [.int (nI v), .int (nI r), .int ei]) (rest := []) (x_X1_suits l dC dI dA (n + 1) (fun i_ => ξ1 (1 + i_)) V v r ei c many rent rd un hs ev f hR T (by omega) (by omega)) xkv_X4_52 (x_recv (ci := 1) X.2.2.2.2.2 hP (j := 1) (by decide) (xe_x1 ..) rfl) rfl rfl ⟨Nat.le_of_ble_eq_true rfl, Nat.le_of_ble_eq_true rfl⟩ hl.1 (Nat.le_of_ble_eq_true rfl) dX4_tries_125 ⟨Nat.le_of_ble_eq_true rfl, Nat.le_of_ble_eq_true rfl⟩) ?_
          refine rn_zt (tgt := 174) X.1 X.2.1 dX4_tries_128 (by decide) (fun c_128 => ?_) (fun c_128 => ?_)
          · refine rn_iinc (lv' := [(5, .int (nI (v + 1))), (0, .ref (n + 91)), (1, .int (nI r)), (2, .int us), (3, .int nn), (4, .int sm)]) X.1 X.2.1 dX4_tries_174 hl (k := 5) rfl (by decide) rfl (fun ls hl => ?_)
            refine lv_goto (tgt := 87) X.1 X.2.1 dX4_tries_177 (by decide) ?_
            exact ih87 _ (by omega) (v + 1) ξ1 _ _ rfl (by omega) (by first | exact hq | exact fun i h1 h2 h3 => ((hu171.1 i h1 h2 h3).trans (mdS_row _ _ _ h2)).trans (hq i h1 h2 h3)) (by first | exact he1 | exact hu171.2.1.trans he1) (by first | exact hrow1 | exact fun i hi => (hu171.2.2.1 i (by omega)).trans ((xRow (x := nI v) hrow1 i (by omega)).trans (upd_lo hi).symm)) (by rw [rv_for_s]; first | (have ht : rv_taken row r v = true := (by rw [← hus v (by omega)]; exact (Bool.not_eq_false _).mp (fun z => c_108 ((b_low0 (show v < 32 by omega)).mpr z))); rw [rv_F_t ht]; exact hB1) | (rw [rv_F_n (S := (fun v r => rv_suitN f v r ei)) c_128]; exact hB1) | (have ht : rv_taken row r v = false := (by rw [← hus v (by omega)]; exact (b_low0 (show v < 32 by omega)).mp c_108); rw [rv_F_y (S := (fun v r => rv_suitN f v r ei)) ht c_128]; exact hu171.2.2.2)) hP hS ls (lv_sub hl [1, 2, 3, 4, 5, 0] rfl)
          · refine lv_aload_n X.1 X.2.1 dX4_tries_131 rfl (lv_at hl 0 rfl) ?_
            refine xb_get (C := RX4) (T := TX4) (v := .ref (n + 92)) X in_X4 (ci := 4) rfl hP (j := 91) (by decide) (xe_x91 ..) 0 (by decide) q221 rfl rfl dX4_tries_132 ?_
            refine lv_iload_n X.1 X.2.1 dX4_tries_135 rfl (lv_at hl 1 rfl) ?_
            refine lv_iload X.1 X.2.1 dX4_tries_136 (lv_at hl 5 rfl) ?_
            refine xb_iast (E' := xE dA n (mdS ξ1 92 r (nI v)) V V2 im ab be) X hP (fun _ h => h) hS (j := 92) (by decide) (n := 6) (f := ξ1 92) rfl (by omega) (by decide) (fun i_ _ => xE_S dA n ξ1 V V2 im ab be 92 r (nI v) i_) dX4_tries_138 (fun H locs hP hS => ?_)
            have hR := xR_S hR (j := 92) (k := r) (v := nI v) (by decide)
            refine lv_aload_n X.1 X.2.1 dX4_tries_139 rfl (lv_at hl 0 rfl) ?_
            refine lv_iload_n X.1 X.2.1 dX4_tries_140 rfl (lv_at hl 1 rfl) ?_
            refine lv_iconst (v := nI 1) X.1 X.2.1 dX4_tries_141 rfl ?_
            refine rn_iadd X.1 X.2.1 dX4_tries_142 ?_
            refine lv_iload_n X.1 X.2.1 dX4_tries_143 rfl (lv_at hl 2 rfl) ?_
            refine lv_iconst (v := nI 1) X.1 X.2.1 dX4_tries_144 rfl ?_
            refine lv_iload X.1 X.2.1 dX4_tries_145 (lv_at hl 5 rfl) ?_
            refine lv_ishl X.1 X.2.1 dX4_tries_147 ?_
            refine lv_ior X.1 X.2.1 dX4_tries_148 ?_
            refine lv_iload_n X.1 X.2.1 dX4_tries_149 rfl (lv_at hl 3 rfl) ?_
            refine lv_iconst (v := nI 1) X.1 X.2.1 dX4_tries_150 rfl ?_
            refine lv_iadd X.1 X.2.1 dX4_tries_151 ?_
            refine lv_iload X.1 X.2.1 dX4_tries_152 (lv_at hl 4 rfl) ?_
            refine lv_aload_n X.1 X.2.1 dX4_tries_154 rfl (lv_at hl 0 rfl) ?_
            refine xb_get (C := RX4) (T := TX4) (v := .ref n) X in_X4 (ci := 4) rfl hP (j := 91) (by decide) (xe_x91 ..) 5 (by decide) q229 rfl rfl dX4_tries_155 ?_
            refine xb_getN (host := "RentedViews") (C := RX0) (T := TX0) (v := .ref (n + 1)) X in_X0 (ci := 0) rfl hP (j := 0) (by decide) (xe_x0 ..) 0 (by decide) (x_nest hN q247 rfl) rfl rfl dX4_tries_158 ?_
            refine xb_getN (host := "RentedViews") (C := RX1) (T := TX1) (v := .ref (n + 2)) X in_X1 (ci := 1) rfl hP (j := 1) (by decide) (xe_x1 ..) 0 (by decide) (x_nest hN q138 rfl) rfl rfl dX4_tries_161 ?_
            refine lv_iload X.1 X.2.1 dX4_tries_164 (lv_at hl 5 rfl) ?_
            obtain ⟨a166, kd166, hVa166, hTa166, hk166, hf166, hv166⟩ := hV.2 v (by omega)
            refine xb_aald X hP (j := 2) (by decide) (t := 3) (C := RX6) (f := V) rfl rfl (by omega) (by decide) dX4_tries_166 ?_
            refine x_vq hVa166 ?_
            refine vd_X4_lets X hN hk166 (vw_at hv166 hS (hT _ hTa166)) (rest := [.int sm, .int (nn + 1), .int (us ||| (1 <<< ((nI v) &&& 31))), .int (nI (r + 1)), .ref (n + 91)]) ⟨Nat.le_of_ble_eq_true rfl, Nat.le_of_ble_eq_true rfl⟩ hl.1 (Nat.le_of_ble_eq_true rfl) dX4_tries_167 ⟨Nat.le_of_ble_eq_true rfl, Nat.le_of_ble_eq_true rfl⟩ ?_
            refine rn_co (y := rv_cost (f (7 + 6 * v)) (f (7 + 6 * v + 2))) (by rw [hf166]) ?_
            refine lv_iadd X.1 X.2.1 dX4_tries_170 ?_
            refine x_cWv (x_runV X hN ⟨hP, (hV.at hS hT), (tb_sub hT hS)⟩ (As := [.int (nI (r + 1)), .int (us ||| (1 <<< ((nI v) &&& 31))), .int (nn + 1), .int (sm + (rv_cost (f (7 + 6 * v)) (f (7 + 6 * v + 2))))]) (rest := []) (x_X4_tries_2 l dC dI dA n (mdS ξ1 92 r (nI v)) V V2 im ab be (r + 1) (us ||| (1 <<< ((nI v) &&& 31))) (nn + 1) (sm + (rv_cost (f (7 + 6 * v)) (f (7 + 6 * v + 2)))) c many rent rd un hs ev f hR T ei he1 (upd row r (nI v)) (xRow hrow1) (hok.up (Or.inr ⟨v, c_99, rfl⟩)) (fun w hw => by rw [b_or, hus w hw, b_bit (show v < 32 by omega) (by omega), rv_tk_up]; congr 1; exact decide_eq_decide.mpr ⟨fun z => by rw [z], fun z => ((nI_eq (by omega) (by omega)).mp z).symm⟩) (by rw [rv_cn_up, if_neg (rv_nIne v (by omega)), hnn]) (by rw [rv_mn_up (by omega) _ _ hok, if_neg (rv_nIne v (by omega)), rv_cln (by omega), hsm]) (rv_for (rv_F (fun v r => rv_suitN f v r ei) (fun v => rv_cost (f (7 + 6 * v)) (f (7 + 6 * v + 2))) many 2 r row) v (rv_try (fun v r => rv_suitN f v r ei) (fun v => rv_cost (f (7 + 6 * v)) (f (7 + 6 * v + 2))) many 2 (r + 1) (upd row r (-1)) Bb)) (hB1.cg rfl rfl) (by omega)) xkv_X4_32 (x_recv (ci := 4) X.2.2.2.2.2 hP (j := 91) (by decide) (xe_x91 ..) rfl) rfl rfl ⟨Nat.le_of_ble_eq_true rfl, Nat.le_of_ble_eq_true rfl⟩ hl.1 (Nat.le_of_ble_eq_true rfl) dX4_tries_171 ⟨Nat.le_of_ble_eq_true rfl, Nat.le_of_ble_eq_true rfl⟩) hS (fun _ h => h) (fun _ h => h) (fun u171 H locs hu171 hP1 hz1 hk1 hS => ?_)
            have hP := hP1
            have hR := hR.cg (fun i hi => hu171.1 (1 + i) (by omega) (by omega) (by omega) ) (fun _ _ => rfl)
            refine rn_iinc (lv' := [(5, .int (nI (v + 1))), (0, .ref (n + 91)), (1, .int (nI r)), (2, .int us), (3, .int nn), (4, .int sm)]) X.1 X.2.1 dX4_tries_174 hl (k := 5) rfl (by decide) rfl (fun ls hl => ?_)
            refine lv_goto (tgt := 87) X.1 X.2.1 dX4_tries_177 (by decide) ?_
            exact ih87 _ (by omega) (v + 1) u171 _ _ rfl (by omega) (by first | exact hq | exact fun i h1 h2 h3 => ((hu171.1 i h1 h2 h3).trans (mdS_row _ _ _ h2)).trans (hq i h1 h2 h3)) (by first | exact he1 | exact hu171.2.1.trans he1) (by first | exact hrow1 | exact fun i hi => (hu171.2.2.1 i (by omega)).trans ((xRow (x := nI v) hrow1 i (by omega)).trans (upd_lo hi).symm)) (by rw [rv_for_s]; first | (have ht : rv_taken row r v = true := (by rw [← hus v (by omega)]; exact (Bool.not_eq_false _).mp (fun z => c_108 ((b_low0 (show v < 32 by omega)).mpr z))); rw [rv_F_t ht]; exact hB1) | (rw [rv_F_n (S := (fun v r => rv_suitN f v r ei)) c_128]; exact hB1) | (have ht : rv_taken row r v = false := (by rw [← hus v (by omega)]; exact (b_low0 (show v < 32 by omega)).mp c_108); rw [rv_F_y (S := (fun v r => rv_suitN f v r ei)) ht c_128]; exact hu171.2.2.2)) hP hS ls (lv_sub hl [1, 2, 3, 4, 5, 0] rfl)
  refine lv_iload_n X.1 X.2.1 dX4_tries_0 rfl (lv_at hl 1 rfl) ?_
  refine lv_aload_n X.1 X.2.1 dX4_tries_1 rfl (lv_at hl 0 rfl) ?_
  refine xb_get (C := RX4) (T := TX4) (v := .ref n) X in_X4 (ci := 4) rfl hP (j := 91) (by decide) (xe_x91 ..) 5 (by decide) q229 rfl rfl dX4_tries_2 ?_
  refine xb_getN (host := "RentedViews") (C := RX0) (T := TX0) (v := .ref (n + 1)) X in_X0 (ci := 0) rfl hP (j := 0) (by decide) (xe_x0 ..) 0 (by decide) (x_nest hN q247 rfl) rfl rfl dX4_tries_5 ?_
  refine xb_getN (host := "RentedViews") (C := RX1) (T := TX1) (v := .int (ξ 1 1)) X in_X1 (ci := 1) rfl hP (j := 1) (by decide) (xe_x1 ..) 5 (by decide) (x_nest hN q152 rfl) rfl rfl dX4_tries_8 ?_
  refine rn_co (y := nI rent) hR.nr ?_
  refine rn_icmp_ne (tgt := 66) X.1 X.2.1 (by omega) (by omega) dX4_tries_11 (by decide) (fun c_11 => ?_) (fun c_11 => ?_)
  · refine lv_aload_n X.1 X.2.1 dX4_tries_66 rfl (lv_at hl 0 rfl) ?_
    refine xb_get (C := RX4) (T := TX4) (v := .ref (n + 92)) X in_X4 (ci := 4) rfl hP (j := 91) (by decide) (xe_x91 ..) 0 (by decide) q221 rfl rfl dX4_tries_67 ?_
    refine lv_iload_n X.1 X.2.1 dX4_tries_70 rfl (lv_at hl 1 rfl) ?_
    refine lv_iconst (v := (-1)) X.1 X.2.1 dX4_tries_71 rfl ?_
    refine xb_iast (E' := xE dA n (mdS ξ 92 r (-1)) V V2 im ab be) X hP (fun _ h => h) hS (j := 92) (by decide) (n := 6) (f := ξ 92) rfl (by omega) (by decide) (fun i_ _ => xE_S dA n ξ V V2 im ab be 92 r (-1) i_) dX4_tries_72 (fun H locs hP hS => ?_)
    have hR := xR_S hR (j := 92) (k := r) (v := (-1)) (by decide)
    refine lv_aload_n X.1 X.2.1 dX4_tries_73 rfl (lv_at hl 0 rfl) ?_
    refine lv_iload_n X.1 X.2.1 dX4_tries_74 rfl (lv_at hl 1 rfl) ?_
    refine lv_iconst (v := nI 1) X.1 X.2.1 dX4_tries_75 rfl ?_
    refine rn_iadd X.1 X.2.1 dX4_tries_76 ?_
    refine lv_iload_n X.1 X.2.1 dX4_tries_77 rfl (lv_at hl 2 rfl) ?_
    refine lv_iload_n X.1 X.2.1 dX4_tries_78 rfl (lv_at hl 3 rfl) ?_
    refine lv_iload X.1 X.2.1 dX4_tries_79 (lv_at hl 4 rfl) ?_
    refine x_cWv (x_runV X hN ⟨hP, (hV.at hS hT), (tb_sub hT hS)⟩ (As := [.int (nI (r + 1)), .int us, .int nn, .int sm]) (rest := []) (x_X4_tries_2 l dC dI dA n (mdS ξ 92 r (-1)) V V2 im ab be (r + 1) us nn sm c many rent rd un hs ev f hR T ei he (upd row r (-1)) (xRow hrow) (hok.up (Or.inl rfl)) (fun v hv => by rw [hus v hv, rv_tk_up, rv_m1ne (by omega), Bool.or_false]) (by rw [rv_cn_up, if_pos rfl, Int32.add_zero]; exact hnn) (by rw [rv_mn_up (by omega) _ _ hok, if_pos rfl, Int32.add_zero]; exact hsm) Bb (hB.cg rfl rfl) (by omega)) xkv_X4_32 (x_recv (ci := 4) X.2.2.2.2.2 hP (j := 91) (by decide) (xe_x91 ..) rfl) rfl rfl ⟨Nat.le_of_ble_eq_true rfl, Nat.le_of_ble_eq_true rfl⟩ hl.1 (Nat.le_of_ble_eq_true rfl) dX4_tries_81 ⟨Nat.le_of_ble_eq_true rfl, Nat.le_of_ble_eq_true rfl⟩) hS (fun _ h => h) (fun _ h => h) (fun u81 H locs hu81 hP1 hz1 hk1 hS => ?_)
    have hP := hP1
    have hR := hR.cg (fun i hi => hu81.1 (1 + i) (by omega) (by omega) (by omega) ) (fun _ _ => rfl)
    refine lv_iconst (v := nI 0) X.1 X.2.1 dX4_tries_84 rfl ?_
    refine lv_istore (lv' := [(5, .int (nI 0)), (0, .ref (n + 91)), (1, .int (nI r)), (2, .int us), (3, .int nn), (4, .int sm)]) X.1 X.2.1 dX4_tries_85 hl (by decide) rfl (fun ls hl => ?_)
    exact K87 _ 0 u81 _ _ rfl (by omega) (fun i h1 h2 h3 => (hu81.1 i h1 h2 h3).trans (mdS_row _ _ _ h2)) (hu81.2.1.trans he) (fun i hi => (hu81.2.2.1 i (by omega)).trans ((xRow (x := -1) hrow i (by omega)).trans (upd_lo hi).symm)) hu81.2.2.2 hP hS ls (lv_sub hl [1, 2, 3, 4, 5, 0] rfl)
  · exact absurd c_11 (by omega)
set_option maxHeartbeats 2000000 in
theorem x_X4_tries_4 (l : Launch) (dC : Nat → ClassId) (dI : Nat → Nat → Nat) (dA : Nat → ClassId) (n : Nat) (ξ : mdT) (V : Nat → Option Nat) (V2 : Nat → Option Nat) (im : Nat → Option Nat) (ab : Int64) (be : Int64) (r : Nat) (us : Int32) (nn : Int32) (sm : Int32) (c : Nat) (many : Nat) (rent : Nat) (rd : Nat) (un : Nat) (hs : Nat) (ev : Nat) (f : Nat → Int32) (hR : shR c many rent rd un hs ev f (fun i_ => ξ (1 + i_))) (T : Nat → Prop) (ei : Int32) (he : ξ 91 2 = ei) (row : Nat → Int32) (hrow : ∀ i_, i_ < r → ξ 92 i_ = row i_) (hok : rv_okrow many row r) (hus : ∀ v_, v_ < many → bt us v_ = rv_taken row r v_) (hnn : nn = rv_cntr row r) (hsm : sm = rv_monr (fun v => rv_cost (f (7 + 6 * v)) (f (7 + 6 * v + 2))) row r) (Bb : rvB) (hB : xBst rent ξ Bb) (hk : r + 4 = rent) : Met l yX4_tries (ws_ yX4_tries cX4_tries 6 none) { frames := 8, cells := 0, slots := 0, locals := 480 } (xPc dC dI dA (fun H => (bkP dC dI n 96 (xE dA n ξ V V2 im ab be) H) ∧ (shV dC dI T many f V H) ∧ (∀ a_, T a_ → a_ < H.size ∧ ¬ bkA n 96 a_)) [.ref (n + 91), .int (nI r), .int us, .int nn, .int sm]) (xQv (S := mdT) (fun u => xTry ξ rent r (rv_try (fun v r => rv_suitN f v r ei) (fun v => rv_cost (f (7 + 6 * v)) (f (7 + 6 * v + 2))) many 4 r row Bb) u) (fun u => (bkP dC dI n 96 (xE dA n u V V2 im ab be))) (bkA n 96)) 0 0 (bkA n 96) := by
  refine x_in (by decide) rfl (Nat.le_of_ble_eq_true rfl) (lv := [(0, .ref (n + 91)), (1, .int (nI r)), (2, .int us), (3, .int nn), (4, .int sm)]) rfl ?_
  intro p e s m below meth c_ X hN hnm hr hlk hP ls hl
  obtain ⟨hP, hV, hT⟩ := hP
  have hm := hR.m6
  have hr6 := hR.r6
  have hd6 := hR.d6
  have hu8 := hR.u8
  have hs12 := hR.h12
  have hS : va_S (bkA n 96) s.heap s.heap [] := va_S.rf
  have K87 : ∀ (k87_ : Nat) (v : Nat) (ξ1 : mdT) (H : Heap) (locs : List Loc), many - v = k87_ → (v ≤ many) → (∀ i, i ≠ 91 → i ≠ 92 → i ≠ 93 → ξ1 i = ξ i) → (ξ1 91 2 = ei) → (∀ i, i < r → ξ1 92 i = row i) → (xBst rent ξ1 (rv_for (rv_F (fun v r => rv_suitN f v r ei) (fun v => rv_cost (f (7 + 6 * v)) (f (7 + 6 * v + 2))) many 3 r row) v (rv_try (fun v r => rv_suitN f v r ei) (fun v => rv_cost (f (7 + 6 * v)) (f (7 + 6 * v + 2))) many 3 (r + 1) (upd row r (-1)) Bb))) → bkP dC dI n 96 (xE dA n ξ1 V V2 im ab be) H → va_S (bkA n 96) s.heap H locs → ∀ ls, lv_has ls 6 [(0, .ref (n + 91)), (1, .int (nI r)), (2, .int us), (3, .int nn), (4, .int sm), (5, .int (nI v))] → W p l e { frames := 8, cells := 0, slots := 0, locals := 480 } s m [.ref (n + 91), .int (nI r), .int us, .int nn, .int sm].toArray below meth c_ H locs 0 0 (MQ below (xQv (S := mdT) (fun u => xTry ξ rent r (rv_try (fun v r => rv_suitN f v r ei) (fun v => rv_cost (f (7 + 6 * v)) (f (7 + 6 * v + 2))) many 4 r row Bb) u) (fun u => (bkP dC dI n 96 (xE dA n u V V2 im ab be))) (bkA n 96)) [.ref (n + 91), .int (nI r), .int us, .int nn, .int sm].toArray s 0 0 (bkA n 96)) (F0 m 87 ls []) := by
    intro k87_
    induction k87_ using Nat.strongRecOn with
    | _ k87_ ih87 =>
      intro v ξ1 H locs hm87_ hv_ hq he1 hrow1 hB1 hP hS ls hl
      have hR := hR.cg (S' := fun i_ => ξ1 (1 + i_)) (fun i hi => hq (1 + i) (by omega) (by omega) (by omega)) (fun _ _ => rfl)
      refine lv_iload X.1 X.2.1 dX4_tries_87 (lv_at hl 5 rfl) ?_
      refine lv_aload_n X.1 X.2.1 dX4_tries_89 rfl (lv_at hl 0 rfl) ?_
      refine xb_get (C := RX4) (T := TX4) (v := .ref n) X in_X4 (ci := 4) rfl hP (j := 91) (by decide) (xe_x91 ..) 5 (by decide) q229 rfl rfl dX4_tries_90 ?_
      refine xb_getN (host := "RentedViews") (C := RX0) (T := TX0) (v := .ref (n + 1)) X in_X0 (ci := 0) rfl hP (j := 0) (by decide) (xe_x0 ..) 0 (by decide) (x_nest hN q247 rfl) rfl rfl dX4_tries_93 ?_
      refine xb_getN (host := "RentedViews") (C := RX1) (T := TX1) (v := .int (ξ1 1 0)) X in_X1 (ci := 1) rfl hP (j := 1) (by decide) (xe_x1 ..) 2 (by decide) (x_nest hN q144 rfl) rfl rfl dX4_tries_96 ?_
      refine rn_co (y := nI many) hR.nm ?_
      refine rn_icmp_ge (tgt := 180) X.1 X.2.1 (by omega) (by omega) dX4_tries_99 (by decide) (fun c_99 => ?_) (fun c_99 => ?_)
      · exact x_rv ξ1 X hr hlk hS dX4_tries_180 (by obtain rfl : v = many := (by omega); exact ⟨hq, he1.trans he.symm, fun i hi => (hrow1 i hi).trans (hrow i hi).symm, hB1⟩) hP
      · refine lv_iload_n X.1 X.2.1 dX4_tries_102 rfl (lv_at hl 2 rfl) ?_
        refine lv_iload X.1 X.2.1 dX4_tries_103 (lv_at hl 5 rfl) ?_
        refine lv_ishr X.1 X.2.1 dX4_tries_105 ?_
        refine lv_iconst (v := nI 1) X.1 X.2.1 dX4_tries_106 rfl ?_
        refine lv_iand X.1 X.2.1 dX4_tries_107 ?_
        refine lv_if_ne (tgt := 174) X.1 X.2.1 dX4_tries_108 (by decide) (fun (c_108 : ¬ (us >>> ((nI v) &&& 31)) &&& 1 = 0) => ?_) (fun (c_108 : (us >>> ((nI v) &&& 31)) &&& 1 = 0) => ?_)
        · refine rn_iinc (lv' := [(5, .int (nI (v + 1))), (0, .ref (n + 91)), (1, .int (nI r)), (2, .int us), (3, .int nn), (4, .int sm)]) X.1 X.2.1 dX4_tries_174 hl (k := 5) rfl (by decide) rfl (fun ls hl => ?_)
          refine lv_goto (tgt := 87) X.1 X.2.1 dX4_tries_177 (by decide) ?_
          exact ih87 _ (by omega) (v + 1) ξ1 _ _ rfl (by omega) (by first | exact hq | exact fun i h1 h2 h3 => ((hu171.1 i h1 h2 h3).trans (mdS_row _ _ _ h2)).trans (hq i h1 h2 h3)) (by first | exact he1 | exact hu171.2.1.trans he1) (by first | exact hrow1 | exact fun i hi => (hu171.2.2.1 i (by omega)).trans ((xRow (x := nI v) hrow1 i (by omega)).trans (upd_lo hi).symm)) (by rw [rv_for_s]; first | (have ht : rv_taken row r v = true := (by rw [← hus v (by omega)]; exact (Bool.not_eq_false _).mp (fun z => c_108 ((b_low0 (show v < 32 by omega)).mpr z))); rw [rv_F_t ht]; exact hB1) | (rw [rv_F_n (S := (fun v r => rv_suitN f v r ei)) c_128]; exact hB1) | (have ht : rv_taken row r v = false := (by rw [← hus v (by omega)]; exact (b_low0 (show v < 32 by omega)).mp c_108); rw [rv_F_y (S := (fun v r => rv_suitN f v r ei)) ht c_128]; exact hu171.2.2.2)) hP hS ls (lv_sub hl [1, 2, 3, 4, 5, 0] rfl)
        · refine lv_aload_n X.1 X.2.1 dX4_tries_111 rfl (lv_at hl 0 rfl) ?_
          refine xb_get (C := RX4) (T := TX4) (v := .ref n) X in_X4 (ci := 4) rfl hP (j := 91) (by decide) (xe_x91 ..) 5 (by decide) q229 rfl rfl dX4_tries_112 ?_
          refine xb_getN (host := "RentedViews") (C := RX0) (T := TX0) (v := .ref (n + 1)) X in_X0 (ci := 0) rfl hP (j := 0) (by decide) (xe_x0 ..) 0 (by decide) (x_nest hN q247 rfl) rfl rfl dX4_tries_115 ?_
          refine lv_iload X.1 X.2.1 dX4_tries_118 (lv_at hl 5 rfl) ?_
          refine lv_iload_n X.1 X.2.1 dX4_tries_120 rfl (lv_at hl 1 rfl) ?_
          refine lv_aload_n X.1 X.2.1 dX4_tries_121 rfl (lv_at hl 0 rfl) ?_
          refine xb_get (C := RX4) (T := TX4) (v := .int (ξ1 91 2)) X in_X4 (ci := 4) rfl hP (j := 91) (by decide) (xe_x91 ..) 4 (by decide) q228 rfl rfl dX4_tries_122 ?_
          refine rn_co (y := ei) he1 ?_
          refine x_cSe (x_runV X hN ⟨(x_shop hP), (hV.at hS hT)⟩ (As := [.int (nI v), .int (nI r), .int ei]) (rest := []) (x_X1_suits l dC dI dA (n + 1) (fun i_ => ξ1 (1 + i_)) V v r ei c many rent rd un hs ev f hR T (by omega) (by omega)) xkv_X4_52 (x_recv (ci := 1) X.2.2.2.2.2 hP (j := 1) (by decide) (xe_x1 ..) rfl) rfl rfl ⟨Nat.le_of_ble_eq_true rfl, Nat.le_of_ble_eq_true rfl⟩ hl.1 (Nat.le_of_ble_eq_true rfl) dX4_tries_125 ⟨Nat.le_of_ble_eq_true rfl, Nat.le_of_ble_eq_true rfl⟩) ?_
          refine rn_zt (tgt := 174) X.1 X.2.1 dX4_tries_128 (by decide) (fun c_128 => ?_) (fun c_128 => ?_)
          · refine rn_iinc (lv' := [(5, .int (nI (v + 1))), (0, .ref (n + 91)), (1, .int (nI r)), (2, .int us), (3, .int nn), (4, .int sm)]) X.1 X.2.1 dX4_tries_174 hl (k := 5) rfl (by decide) rfl (fun ls hl => ?_)
            refine lv_goto (tgt := 87) X.1 X.2.1 dX4_tries_177 (by decide) ?_
            exact ih87 _ (by omega) (v + 1) ξ1 _ _ rfl (by omega) (by first | exact hq | exact fun i h1 h2 h3 => ((hu171.1 i h1 h2 h3).trans (mdS_row _ _ _ h2)).trans (hq i h1 h2 h3)) (by first | exact he1 | exact hu171.2.1.trans he1) (by first | exact hrow1 | exact fun i hi => (hu171.2.2.1 i (by omega)).trans ((xRow (x := nI v) hrow1 i (by omega)).trans (upd_lo hi).symm)) (by rw [rv_for_s]; first | (have ht : rv_taken row r v = true := (by rw [← hus v (by omega)]; exact (Bool.not_eq_false _).mp (fun z => c_108 ((b_low0 (show v < 32 by omega)).mpr z))); rw [rv_F_t ht]; exact hB1) | (rw [rv_F_n (S := (fun v r => rv_suitN f v r ei)) c_128]; exact hB1) | (have ht : rv_taken row r v = false := (by rw [← hus v (by omega)]; exact (b_low0 (show v < 32 by omega)).mp c_108); rw [rv_F_y (S := (fun v r => rv_suitN f v r ei)) ht c_128]; exact hu171.2.2.2)) hP hS ls (lv_sub hl [1, 2, 3, 4, 5, 0] rfl)
          · refine lv_aload_n X.1 X.2.1 dX4_tries_131 rfl (lv_at hl 0 rfl) ?_
            refine xb_get (C := RX4) (T := TX4) (v := .ref (n + 92)) X in_X4 (ci := 4) rfl hP (j := 91) (by decide) (xe_x91 ..) 0 (by decide) q221 rfl rfl dX4_tries_132 ?_
            refine lv_iload_n X.1 X.2.1 dX4_tries_135 rfl (lv_at hl 1 rfl) ?_
            refine lv_iload X.1 X.2.1 dX4_tries_136 (lv_at hl 5 rfl) ?_
            refine xb_iast (E' := xE dA n (mdS ξ1 92 r (nI v)) V V2 im ab be) X hP (fun _ h => h) hS (j := 92) (by decide) (n := 6) (f := ξ1 92) rfl (by omega) (by decide) (fun i_ _ => xE_S dA n ξ1 V V2 im ab be 92 r (nI v) i_) dX4_tries_138 (fun H locs hP hS => ?_)
            have hR := xR_S hR (j := 92) (k := r) (v := nI v) (by decide)
            refine lv_aload_n X.1 X.2.1 dX4_tries_139 rfl (lv_at hl 0 rfl) ?_
            refine lv_iload_n X.1 X.2.1 dX4_tries_140 rfl (lv_at hl 1 rfl) ?_
            refine lv_iconst (v := nI 1) X.1 X.2.1 dX4_tries_141 rfl ?_
            refine rn_iadd X.1 X.2.1 dX4_tries_142 ?_
            refine lv_iload_n X.1 X.2.1 dX4_tries_143 rfl (lv_at hl 2 rfl) ?_
            refine lv_iconst (v := nI 1) X.1 X.2.1 dX4_tries_144 rfl ?_
            refine lv_iload X.1 X.2.1 dX4_tries_145 (lv_at hl 5 rfl) ?_
            refine lv_ishl X.1 X.2.1 dX4_tries_147 ?_
            refine lv_ior X.1 X.2.1 dX4_tries_148 ?_
            refine lv_iload_n X.1 X.2.1 dX4_tries_149 rfl (lv_at hl 3 rfl) ?_
            refine lv_iconst (v := nI 1) X.1 X.2.1 dX4_tries_150 rfl ?_
            refine lv_iadd X.1 X.2.1 dX4_tries_151 ?_
            refine lv_iload X.1 X.2.1 dX4_tries_152 (lv_at hl 4 rfl) ?_
            refine lv_aload_n X.1 X.2.1 dX4_tries_154 rfl (lv_at hl 0 rfl) ?_
            refine xb_get (C := RX4) (T := TX4) (v := .ref n) X in_X4 (ci := 4) rfl hP (j := 91) (by decide) (xe_x91 ..) 5 (by decide) q229 rfl rfl dX4_tries_155 ?_
            refine xb_getN (host := "RentedViews") (C := RX0) (T := TX0) (v := .ref (n + 1)) X in_X0 (ci := 0) rfl hP (j := 0) (by decide) (xe_x0 ..) 0 (by decide) (x_nest hN q247 rfl) rfl rfl dX4_tries_158 ?_
            refine xb_getN (host := "RentedViews") (C := RX1) (T := TX1) (v := .ref (n + 2)) X in_X1 (ci := 1) rfl hP (j := 1) (by decide) (xe_x1 ..) 0 (by decide) (x_nest hN q138 rfl) rfl rfl dX4_tries_161 ?_
            refine lv_iload X.1 X.2.1 dX4_tries_164 (lv_at hl 5 rfl) ?_
            obtain ⟨a166, kd166, hVa166, hTa166, hk166, hf166, hv166⟩ := hV.2 v (by omega)
            refine xb_aald X hP (j := 2) (by decide) (t := 3) (C := RX6) (f := V) rfl rfl (by omega) (by decide) dX4_tries_166 ?_
            refine x_vq hVa166 ?_
            refine vd_X4_lets X hN hk166 (vw_at hv166 hS (hT _ hTa166)) (rest := [.int sm, .int (nn + 1), .int (us ||| (1 <<< ((nI v) &&& 31))), .int (nI (r + 1)), .ref (n + 91)]) ⟨Nat.le_of_ble_eq_true rfl, Nat.le_of_ble_eq_true rfl⟩ hl.1 (Nat.le_of_ble_eq_true rfl) dX4_tries_167 ⟨Nat.le_of_ble_eq_true rfl, Nat.le_of_ble_eq_true rfl⟩ ?_
            refine rn_co (y := rv_cost (f (7 + 6 * v)) (f (7 + 6 * v + 2))) (by rw [hf166]) ?_
            refine lv_iadd X.1 X.2.1 dX4_tries_170 ?_
            refine x_cWv (x_runV X hN ⟨hP, (hV.at hS hT), (tb_sub hT hS)⟩ (As := [.int (nI (r + 1)), .int (us ||| (1 <<< ((nI v) &&& 31))), .int (nn + 1), .int (sm + (rv_cost (f (7 + 6 * v)) (f (7 + 6 * v + 2))))]) (rest := []) (x_X4_tries_3 l dC dI dA n (mdS ξ1 92 r (nI v)) V V2 im ab be (r + 1) (us ||| (1 <<< ((nI v) &&& 31))) (nn + 1) (sm + (rv_cost (f (7 + 6 * v)) (f (7 + 6 * v + 2)))) c many rent rd un hs ev f hR T ei he1 (upd row r (nI v)) (xRow hrow1) (hok.up (Or.inr ⟨v, c_99, rfl⟩)) (fun w hw => by rw [b_or, hus w hw, b_bit (show v < 32 by omega) (by omega), rv_tk_up]; congr 1; exact decide_eq_decide.mpr ⟨fun z => by rw [z], fun z => ((nI_eq (by omega) (by omega)).mp z).symm⟩) (by rw [rv_cn_up, if_neg (rv_nIne v (by omega)), hnn]) (by rw [rv_mn_up (by omega) _ _ hok, if_neg (rv_nIne v (by omega)), rv_cln (by omega), hsm]) (rv_for (rv_F (fun v r => rv_suitN f v r ei) (fun v => rv_cost (f (7 + 6 * v)) (f (7 + 6 * v + 2))) many 3 r row) v (rv_try (fun v r => rv_suitN f v r ei) (fun v => rv_cost (f (7 + 6 * v)) (f (7 + 6 * v + 2))) many 3 (r + 1) (upd row r (-1)) Bb)) (hB1.cg rfl rfl) (by omega)) xkv_X4_32 (x_recv (ci := 4) X.2.2.2.2.2 hP (j := 91) (by decide) (xe_x91 ..) rfl) rfl rfl ⟨Nat.le_of_ble_eq_true rfl, Nat.le_of_ble_eq_true rfl⟩ hl.1 (Nat.le_of_ble_eq_true rfl) dX4_tries_171 ⟨Nat.le_of_ble_eq_true rfl, Nat.le_of_ble_eq_true rfl⟩) hS (fun _ h => h) (fun _ h => h) (fun u171 H locs hu171 hP1 hz1 hk1 hS => ?_)
            have hP := hP1
            have hR := hR.cg (fun i hi => hu171.1 (1 + i) (by omega) (by omega) (by omega) ) (fun _ _ => rfl)
            refine rn_iinc (lv' := [(5, .int (nI (v + 1))), (0, .ref (n + 91)), (1, .int (nI r)), (2, .int us), (3, .int nn), (4, .int sm)]) X.1 X.2.1 dX4_tries_174 hl (k := 5) rfl (by decide) rfl (fun ls hl => ?_)
            refine lv_goto (tgt := 87) X.1 X.2.1 dX4_tries_177 (by decide) ?_
            exact ih87 _ (by omega) (v + 1) u171 _ _ rfl (by omega) (by first | exact hq | exact fun i h1 h2 h3 => ((hu171.1 i h1 h2 h3).trans (mdS_row _ _ _ h2)).trans (hq i h1 h2 h3)) (by first | exact he1 | exact hu171.2.1.trans he1) (by first | exact hrow1 | exact fun i hi => (hu171.2.2.1 i (by omega)).trans ((xRow (x := nI v) hrow1 i (by omega)).trans (upd_lo hi).symm)) (by rw [rv_for_s]; first | (have ht : rv_taken row r v = true := (by rw [← hus v (by omega)]; exact (Bool.not_eq_false _).mp (fun z => c_108 ((b_low0 (show v < 32 by omega)).mpr z))); rw [rv_F_t ht]; exact hB1) | (rw [rv_F_n (S := (fun v r => rv_suitN f v r ei)) c_128]; exact hB1) | (have ht : rv_taken row r v = false := (by rw [← hus v (by omega)]; exact (b_low0 (show v < 32 by omega)).mp c_108); rw [rv_F_y (S := (fun v r => rv_suitN f v r ei)) ht c_128]; exact hu171.2.2.2)) hP hS ls (lv_sub hl [1, 2, 3, 4, 5, 0] rfl)
  refine lv_iload_n X.1 X.2.1 dX4_tries_0 rfl (lv_at hl 1 rfl) ?_
  refine lv_aload_n X.1 X.2.1 dX4_tries_1 rfl (lv_at hl 0 rfl) ?_
  refine xb_get (C := RX4) (T := TX4) (v := .ref n) X in_X4 (ci := 4) rfl hP (j := 91) (by decide) (xe_x91 ..) 5 (by decide) q229 rfl rfl dX4_tries_2 ?_
  refine xb_getN (host := "RentedViews") (C := RX0) (T := TX0) (v := .ref (n + 1)) X in_X0 (ci := 0) rfl hP (j := 0) (by decide) (xe_x0 ..) 0 (by decide) (x_nest hN q247 rfl) rfl rfl dX4_tries_5 ?_
  refine xb_getN (host := "RentedViews") (C := RX1) (T := TX1) (v := .int (ξ 1 1)) X in_X1 (ci := 1) rfl hP (j := 1) (by decide) (xe_x1 ..) 5 (by decide) (x_nest hN q152 rfl) rfl rfl dX4_tries_8 ?_
  refine rn_co (y := nI rent) hR.nr ?_
  refine rn_icmp_ne (tgt := 66) X.1 X.2.1 (by omega) (by omega) dX4_tries_11 (by decide) (fun c_11 => ?_) (fun c_11 => ?_)
  · refine lv_aload_n X.1 X.2.1 dX4_tries_66 rfl (lv_at hl 0 rfl) ?_
    refine xb_get (C := RX4) (T := TX4) (v := .ref (n + 92)) X in_X4 (ci := 4) rfl hP (j := 91) (by decide) (xe_x91 ..) 0 (by decide) q221 rfl rfl dX4_tries_67 ?_
    refine lv_iload_n X.1 X.2.1 dX4_tries_70 rfl (lv_at hl 1 rfl) ?_
    refine lv_iconst (v := (-1)) X.1 X.2.1 dX4_tries_71 rfl ?_
    refine xb_iast (E' := xE dA n (mdS ξ 92 r (-1)) V V2 im ab be) X hP (fun _ h => h) hS (j := 92) (by decide) (n := 6) (f := ξ 92) rfl (by omega) (by decide) (fun i_ _ => xE_S dA n ξ V V2 im ab be 92 r (-1) i_) dX4_tries_72 (fun H locs hP hS => ?_)
    have hR := xR_S hR (j := 92) (k := r) (v := (-1)) (by decide)
    refine lv_aload_n X.1 X.2.1 dX4_tries_73 rfl (lv_at hl 0 rfl) ?_
    refine lv_iload_n X.1 X.2.1 dX4_tries_74 rfl (lv_at hl 1 rfl) ?_
    refine lv_iconst (v := nI 1) X.1 X.2.1 dX4_tries_75 rfl ?_
    refine rn_iadd X.1 X.2.1 dX4_tries_76 ?_
    refine lv_iload_n X.1 X.2.1 dX4_tries_77 rfl (lv_at hl 2 rfl) ?_
    refine lv_iload_n X.1 X.2.1 dX4_tries_78 rfl (lv_at hl 3 rfl) ?_
    refine lv_iload X.1 X.2.1 dX4_tries_79 (lv_at hl 4 rfl) ?_
    refine x_cWv (x_runV X hN ⟨hP, (hV.at hS hT), (tb_sub hT hS)⟩ (As := [.int (nI (r + 1)), .int us, .int nn, .int sm]) (rest := []) (x_X4_tries_3 l dC dI dA n (mdS ξ 92 r (-1)) V V2 im ab be (r + 1) us nn sm c many rent rd un hs ev f hR T ei he (upd row r (-1)) (xRow hrow) (hok.up (Or.inl rfl)) (fun v hv => by rw [hus v hv, rv_tk_up, rv_m1ne (by omega), Bool.or_false]) (by rw [rv_cn_up, if_pos rfl, Int32.add_zero]; exact hnn) (by rw [rv_mn_up (by omega) _ _ hok, if_pos rfl, Int32.add_zero]; exact hsm) Bb (hB.cg rfl rfl) (by omega)) xkv_X4_32 (x_recv (ci := 4) X.2.2.2.2.2 hP (j := 91) (by decide) (xe_x91 ..) rfl) rfl rfl ⟨Nat.le_of_ble_eq_true rfl, Nat.le_of_ble_eq_true rfl⟩ hl.1 (Nat.le_of_ble_eq_true rfl) dX4_tries_81 ⟨Nat.le_of_ble_eq_true rfl, Nat.le_of_ble_eq_true rfl⟩) hS (fun _ h => h) (fun _ h => h) (fun u81 H locs hu81 hP1 hz1 hk1 hS => ?_)
    have hP := hP1
    have hR := hR.cg (fun i hi => hu81.1 (1 + i) (by omega) (by omega) (by omega) ) (fun _ _ => rfl)
    refine lv_iconst (v := nI 0) X.1 X.2.1 dX4_tries_84 rfl ?_
    refine lv_istore (lv' := [(5, .int (nI 0)), (0, .ref (n + 91)), (1, .int (nI r)), (2, .int us), (3, .int nn), (4, .int sm)]) X.1 X.2.1 dX4_tries_85 hl (by decide) rfl (fun ls hl => ?_)
    exact K87 _ 0 u81 _ _ rfl (by omega) (fun i h1 h2 h3 => (hu81.1 i h1 h2 h3).trans (mdS_row _ _ _ h2)) (hu81.2.1.trans he) (fun i hi => (hu81.2.2.1 i (by omega)).trans ((xRow (x := -1) hrow i (by omega)).trans (upd_lo hi).symm)) hu81.2.2.2 hP hS ls (lv_sub hl [1, 2, 3, 4, 5, 0] rfl)
  · exact absurd c_11 (by omega)
set_option maxHeartbeats 2000000 in
theorem x_X4_tries_5 (l : Launch) (dC : Nat → ClassId) (dI : Nat → Nat → Nat) (dA : Nat → ClassId) (n : Nat) (ξ : mdT) (V : Nat → Option Nat) (V2 : Nat → Option Nat) (im : Nat → Option Nat) (ab : Int64) (be : Int64) (r : Nat) (us : Int32) (nn : Int32) (sm : Int32) (c : Nat) (many : Nat) (rent : Nat) (rd : Nat) (un : Nat) (hs : Nat) (ev : Nat) (f : Nat → Int32) (hR : shR c many rent rd un hs ev f (fun i_ => ξ (1 + i_))) (T : Nat → Prop) (ei : Int32) (he : ξ 91 2 = ei) (row : Nat → Int32) (hrow : ∀ i_, i_ < r → ξ 92 i_ = row i_) (hok : rv_okrow many row r) (hus : ∀ v_, v_ < many → bt us v_ = rv_taken row r v_) (hnn : nn = rv_cntr row r) (hsm : sm = rv_monr (fun v => rv_cost (f (7 + 6 * v)) (f (7 + 6 * v + 2))) row r) (Bb : rvB) (hB : xBst rent ξ Bb) (hk : r + 5 = rent) : Met l yX4_tries (ws_ yX4_tries cX4_tries 6 none) { frames := 9, cells := 0, slots := 0, locals := 540 } (xPc dC dI dA (fun H => (bkP dC dI n 96 (xE dA n ξ V V2 im ab be) H) ∧ (shV dC dI T many f V H) ∧ (∀ a_, T a_ → a_ < H.size ∧ ¬ bkA n 96 a_)) [.ref (n + 91), .int (nI r), .int us, .int nn, .int sm]) (xQv (S := mdT) (fun u => xTry ξ rent r (rv_try (fun v r => rv_suitN f v r ei) (fun v => rv_cost (f (7 + 6 * v)) (f (7 + 6 * v + 2))) many 5 r row Bb) u) (fun u => (bkP dC dI n 96 (xE dA n u V V2 im ab be))) (bkA n 96)) 0 0 (bkA n 96) := by
  refine x_in (by decide) rfl (Nat.le_of_ble_eq_true rfl) (lv := [(0, .ref (n + 91)), (1, .int (nI r)), (2, .int us), (3, .int nn), (4, .int sm)]) rfl ?_
  intro p e s m below meth c_ X hN hnm hr hlk hP ls hl
  obtain ⟨hP, hV, hT⟩ := hP
  have hm := hR.m6
  have hr6 := hR.r6
  have hd6 := hR.d6
  have hu8 := hR.u8
  have hs12 := hR.h12
  have hS : va_S (bkA n 96) s.heap s.heap [] := va_S.rf
  have K87 : ∀ (k87_ : Nat) (v : Nat) (ξ1 : mdT) (H : Heap) (locs : List Loc), many - v = k87_ → (v ≤ many) → (∀ i, i ≠ 91 → i ≠ 92 → i ≠ 93 → ξ1 i = ξ i) → (ξ1 91 2 = ei) → (∀ i, i < r → ξ1 92 i = row i) → (xBst rent ξ1 (rv_for (rv_F (fun v r => rv_suitN f v r ei) (fun v => rv_cost (f (7 + 6 * v)) (f (7 + 6 * v + 2))) many 4 r row) v (rv_try (fun v r => rv_suitN f v r ei) (fun v => rv_cost (f (7 + 6 * v)) (f (7 + 6 * v + 2))) many 4 (r + 1) (upd row r (-1)) Bb))) → bkP dC dI n 96 (xE dA n ξ1 V V2 im ab be) H → va_S (bkA n 96) s.heap H locs → ∀ ls, lv_has ls 6 [(0, .ref (n + 91)), (1, .int (nI r)), (2, .int us), (3, .int nn), (4, .int sm), (5, .int (nI v))] → W p l e { frames := 9, cells := 0, slots := 0, locals := 540 } s m [.ref (n + 91), .int (nI r), .int us, .int nn, .int sm].toArray below meth c_ H locs 0 0 (MQ below (xQv (S := mdT) (fun u => xTry ξ rent r (rv_try (fun v r => rv_suitN f v r ei) (fun v => rv_cost (f (7 + 6 * v)) (f (7 + 6 * v + 2))) many 5 r row Bb) u) (fun u => (bkP dC dI n 96 (xE dA n u V V2 im ab be))) (bkA n 96)) [.ref (n + 91), .int (nI r), .int us, .int nn, .int sm].toArray s 0 0 (bkA n 96)) (F0 m 87 ls []) := by
    intro k87_
    induction k87_ using Nat.strongRecOn with
    | _ k87_ ih87 =>
      intro v ξ1 H locs hm87_ hv_ hq he1 hrow1 hB1 hP hS ls hl
      have hR := hR.cg (S' := fun i_ => ξ1 (1 + i_)) (fun i hi => hq (1 + i) (by omega) (by omega) (by omega)) (fun _ _ => rfl)
      refine lv_iload X.1 X.2.1 dX4_tries_87 (lv_at hl 5 rfl) ?_
      refine lv_aload_n X.1 X.2.1 dX4_tries_89 rfl (lv_at hl 0 rfl) ?_
      refine xb_get (C := RX4) (T := TX4) (v := .ref n) X in_X4 (ci := 4) rfl hP (j := 91) (by decide) (xe_x91 ..) 5 (by decide) q229 rfl rfl dX4_tries_90 ?_
      refine xb_getN (host := "RentedViews") (C := RX0) (T := TX0) (v := .ref (n + 1)) X in_X0 (ci := 0) rfl hP (j := 0) (by decide) (xe_x0 ..) 0 (by decide) (x_nest hN q247 rfl) rfl rfl dX4_tries_93 ?_
      refine xb_getN (host := "RentedViews") (C := RX1) (T := TX1) (v := .int (ξ1 1 0)) X in_X1 (ci := 1) rfl hP (j := 1) (by decide) (xe_x1 ..) 2 (by decide) (x_nest hN q144 rfl) rfl rfl dX4_tries_96 ?_
      refine rn_co (y := nI many) hR.nm ?_
      refine rn_icmp_ge (tgt := 180) X.1 X.2.1 (by omega) (by omega) dX4_tries_99 (by decide) (fun c_99 => ?_) (fun c_99 => ?_)
      · exact x_rv ξ1 X hr hlk hS dX4_tries_180 (by obtain rfl : v = many := (by omega); exact ⟨hq, he1.trans he.symm, fun i hi => (hrow1 i hi).trans (hrow i hi).symm, hB1⟩) hP
      · refine lv_iload_n X.1 X.2.1 dX4_tries_102 rfl (lv_at hl 2 rfl) ?_
        refine lv_iload X.1 X.2.1 dX4_tries_103 (lv_at hl 5 rfl) ?_
        refine lv_ishr X.1 X.2.1 dX4_tries_105 ?_
        refine lv_iconst (v := nI 1) X.1 X.2.1 dX4_tries_106 rfl ?_
        refine lv_iand X.1 X.2.1 dX4_tries_107 ?_
        refine lv_if_ne (tgt := 174) X.1 X.2.1 dX4_tries_108 (by decide) (fun (c_108 : ¬ (us >>> ((nI v) &&& 31)) &&& 1 = 0) => ?_) (fun (c_108 : (us >>> ((nI v) &&& 31)) &&& 1 = 0) => ?_)
        · refine rn_iinc (lv' := [(5, .int (nI (v + 1))), (0, .ref (n + 91)), (1, .int (nI r)), (2, .int us), (3, .int nn), (4, .int sm)]) X.1 X.2.1 dX4_tries_174 hl (k := 5) rfl (by decide) rfl (fun ls hl => ?_)
          refine lv_goto (tgt := 87) X.1 X.2.1 dX4_tries_177 (by decide) ?_
          exact ih87 _ (by omega) (v + 1) ξ1 _ _ rfl (by omega) (by first | exact hq | exact fun i h1 h2 h3 => ((hu171.1 i h1 h2 h3).trans (mdS_row _ _ _ h2)).trans (hq i h1 h2 h3)) (by first | exact he1 | exact hu171.2.1.trans he1) (by first | exact hrow1 | exact fun i hi => (hu171.2.2.1 i (by omega)).trans ((xRow (x := nI v) hrow1 i (by omega)).trans (upd_lo hi).symm)) (by rw [rv_for_s]; first | (have ht : rv_taken row r v = true := (by rw [← hus v (by omega)]; exact (Bool.not_eq_false _).mp (fun z => c_108 ((b_low0 (show v < 32 by omega)).mpr z))); rw [rv_F_t ht]; exact hB1) | (rw [rv_F_n (S := (fun v r => rv_suitN f v r ei)) c_128]; exact hB1) | (have ht : rv_taken row r v = false := (by rw [← hus v (by omega)]; exact (b_low0 (show v < 32 by omega)).mp c_108); rw [rv_F_y (S := (fun v r => rv_suitN f v r ei)) ht c_128]; exact hu171.2.2.2)) hP hS ls (lv_sub hl [1, 2, 3, 4, 5, 0] rfl)
        · refine lv_aload_n X.1 X.2.1 dX4_tries_111 rfl (lv_at hl 0 rfl) ?_
          refine xb_get (C := RX4) (T := TX4) (v := .ref n) X in_X4 (ci := 4) rfl hP (j := 91) (by decide) (xe_x91 ..) 5 (by decide) q229 rfl rfl dX4_tries_112 ?_
          refine xb_getN (host := "RentedViews") (C := RX0) (T := TX0) (v := .ref (n + 1)) X in_X0 (ci := 0) rfl hP (j := 0) (by decide) (xe_x0 ..) 0 (by decide) (x_nest hN q247 rfl) rfl rfl dX4_tries_115 ?_
          refine lv_iload X.1 X.2.1 dX4_tries_118 (lv_at hl 5 rfl) ?_
          refine lv_iload_n X.1 X.2.1 dX4_tries_120 rfl (lv_at hl 1 rfl) ?_
          refine lv_aload_n X.1 X.2.1 dX4_tries_121 rfl (lv_at hl 0 rfl) ?_
          refine xb_get (C := RX4) (T := TX4) (v := .int (ξ1 91 2)) X in_X4 (ci := 4) rfl hP (j := 91) (by decide) (xe_x91 ..) 4 (by decide) q228 rfl rfl dX4_tries_122 ?_
          refine rn_co (y := ei) he1 ?_
          refine x_cSe (x_runV X hN ⟨(x_shop hP), (hV.at hS hT)⟩ (As := [.int (nI v), .int (nI r), .int ei]) (rest := []) (x_X1_suits l dC dI dA (n + 1) (fun i_ => ξ1 (1 + i_)) V v r ei c many rent rd un hs ev f hR T (by omega) (by omega)) xkv_X4_52 (x_recv (ci := 1) X.2.2.2.2.2 hP (j := 1) (by decide) (xe_x1 ..) rfl) rfl rfl ⟨Nat.le_of_ble_eq_true rfl, Nat.le_of_ble_eq_true rfl⟩ hl.1 (Nat.le_of_ble_eq_true rfl) dX4_tries_125 ⟨Nat.le_of_ble_eq_true rfl, Nat.le_of_ble_eq_true rfl⟩) ?_
          refine rn_zt (tgt := 174) X.1 X.2.1 dX4_tries_128 (by decide) (fun c_128 => ?_) (fun c_128 => ?_)
          · refine rn_iinc (lv' := [(5, .int (nI (v + 1))), (0, .ref (n + 91)), (1, .int (nI r)), (2, .int us), (3, .int nn), (4, .int sm)]) X.1 X.2.1 dX4_tries_174 hl (k := 5) rfl (by decide) rfl (fun ls hl => ?_)
            refine lv_goto (tgt := 87) X.1 X.2.1 dX4_tries_177 (by decide) ?_
            exact ih87 _ (by omega) (v + 1) ξ1 _ _ rfl (by omega) (by first | exact hq | exact fun i h1 h2 h3 => ((hu171.1 i h1 h2 h3).trans (mdS_row _ _ _ h2)).trans (hq i h1 h2 h3)) (by first | exact he1 | exact hu171.2.1.trans he1) (by first | exact hrow1 | exact fun i hi => (hu171.2.2.1 i (by omega)).trans ((xRow (x := nI v) hrow1 i (by omega)).trans (upd_lo hi).symm)) (by rw [rv_for_s]; first | (have ht : rv_taken row r v = true := (by rw [← hus v (by omega)]; exact (Bool.not_eq_false _).mp (fun z => c_108 ((b_low0 (show v < 32 by omega)).mpr z))); rw [rv_F_t ht]; exact hB1) | (rw [rv_F_n (S := (fun v r => rv_suitN f v r ei)) c_128]; exact hB1) | (have ht : rv_taken row r v = false := (by rw [← hus v (by omega)]; exact (b_low0 (show v < 32 by omega)).mp c_108); rw [rv_F_y (S := (fun v r => rv_suitN f v r ei)) ht c_128]; exact hu171.2.2.2)) hP hS ls (lv_sub hl [1, 2, 3, 4, 5, 0] rfl)
          · refine lv_aload_n X.1 X.2.1 dX4_tries_131 rfl (lv_at hl 0 rfl) ?_
            refine xb_get (C := RX4) (T := TX4) (v := .ref (n + 92)) X in_X4 (ci := 4) rfl hP (j := 91) (by decide) (xe_x91 ..) 0 (by decide) q221 rfl rfl dX4_tries_132 ?_
            refine lv_iload_n X.1 X.2.1 dX4_tries_135 rfl (lv_at hl 1 rfl) ?_
            refine lv_iload X.1 X.2.1 dX4_tries_136 (lv_at hl 5 rfl) ?_
            refine xb_iast (E' := xE dA n (mdS ξ1 92 r (nI v)) V V2 im ab be) X hP (fun _ h => h) hS (j := 92) (by decide) (n := 6) (f := ξ1 92) rfl (by omega) (by decide) (fun i_ _ => xE_S dA n ξ1 V V2 im ab be 92 r (nI v) i_) dX4_tries_138 (fun H locs hP hS => ?_)
            have hR := xR_S hR (j := 92) (k := r) (v := nI v) (by decide)
            refine lv_aload_n X.1 X.2.1 dX4_tries_139 rfl (lv_at hl 0 rfl) ?_
            refine lv_iload_n X.1 X.2.1 dX4_tries_140 rfl (lv_at hl 1 rfl) ?_
            refine lv_iconst (v := nI 1) X.1 X.2.1 dX4_tries_141 rfl ?_
            refine rn_iadd X.1 X.2.1 dX4_tries_142 ?_
            refine lv_iload_n X.1 X.2.1 dX4_tries_143 rfl (lv_at hl 2 rfl) ?_
            refine lv_iconst (v := nI 1) X.1 X.2.1 dX4_tries_144 rfl ?_
            refine lv_iload X.1 X.2.1 dX4_tries_145 (lv_at hl 5 rfl) ?_
            refine lv_ishl X.1 X.2.1 dX4_tries_147 ?_
            refine lv_ior X.1 X.2.1 dX4_tries_148 ?_
            refine lv_iload_n X.1 X.2.1 dX4_tries_149 rfl (lv_at hl 3 rfl) ?_
            refine lv_iconst (v := nI 1) X.1 X.2.1 dX4_tries_150 rfl ?_
            refine lv_iadd X.1 X.2.1 dX4_tries_151 ?_
            refine lv_iload X.1 X.2.1 dX4_tries_152 (lv_at hl 4 rfl) ?_
            refine lv_aload_n X.1 X.2.1 dX4_tries_154 rfl (lv_at hl 0 rfl) ?_
            refine xb_get (C := RX4) (T := TX4) (v := .ref n) X in_X4 (ci := 4) rfl hP (j := 91) (by decide) (xe_x91 ..) 5 (by decide) q229 rfl rfl dX4_tries_155 ?_
            refine xb_getN (host := "RentedViews") (C := RX0) (T := TX0) (v := .ref (n + 1)) X in_X0 (ci := 0) rfl hP (j := 0) (by decide) (xe_x0 ..) 0 (by decide) (x_nest hN q247 rfl) rfl rfl dX4_tries_158 ?_
            refine xb_getN (host := "RentedViews") (C := RX1) (T := TX1) (v := .ref (n + 2)) X in_X1 (ci := 1) rfl hP (j := 1) (by decide) (xe_x1 ..) 0 (by decide) (x_nest hN q138 rfl) rfl rfl dX4_tries_161 ?_
            refine lv_iload X.1 X.2.1 dX4_tries_164 (lv_at hl 5 rfl) ?_
            obtain ⟨a166, kd166, hVa166, hTa166, hk166, hf166, hv166⟩ := hV.2 v (by omega)
            refine xb_aald X hP (j := 2) (by decide) (t := 3) (C := RX6) (f := V) rfl rfl (by omega) (by decide) dX4_tries_166 ?_
            refine x_vq hVa166 ?_
            refine vd_X4_lets X hN hk166 (vw_at hv166 hS (hT _ hTa166)) (rest := [.int sm, .int (nn + 1), .int (us ||| (1 <<< ((nI v) &&& 31))), .int (nI (r + 1)), .ref (n + 91)]) ⟨Nat.le_of_ble_eq_true rfl, Nat.le_of_ble_eq_true rfl⟩ hl.1 (Nat.le_of_ble_eq_true rfl) dX4_tries_167 ⟨Nat.le_of_ble_eq_true rfl, Nat.le_of_ble_eq_true rfl⟩ ?_
            refine rn_co (y := rv_cost (f (7 + 6 * v)) (f (7 + 6 * v + 2))) (by rw [hf166]) ?_
            refine lv_iadd X.1 X.2.1 dX4_tries_170 ?_
            refine x_cWv (x_runV X hN ⟨hP, (hV.at hS hT), (tb_sub hT hS)⟩ (As := [.int (nI (r + 1)), .int (us ||| (1 <<< ((nI v) &&& 31))), .int (nn + 1), .int (sm + (rv_cost (f (7 + 6 * v)) (f (7 + 6 * v + 2))))]) (rest := []) (x_X4_tries_4 l dC dI dA n (mdS ξ1 92 r (nI v)) V V2 im ab be (r + 1) (us ||| (1 <<< ((nI v) &&& 31))) (nn + 1) (sm + (rv_cost (f (7 + 6 * v)) (f (7 + 6 * v + 2)))) c many rent rd un hs ev f hR T ei he1 (upd row r (nI v)) (xRow hrow1) (hok.up (Or.inr ⟨v, c_99, rfl⟩)) (fun w hw => by rw [b_or, hus w hw, b_bit (show v < 32 by omega) (by omega), rv_tk_up]; congr 1; exact decide_eq_decide.mpr ⟨fun z => by rw [z], fun z => ((nI_eq (by omega) (by omega)).mp z).symm⟩) (by rw [rv_cn_up, if_neg (rv_nIne v (by omega)), hnn]) (by rw [rv_mn_up (by omega) _ _ hok, if_neg (rv_nIne v (by omega)), rv_cln (by omega), hsm]) (rv_for (rv_F (fun v r => rv_suitN f v r ei) (fun v => rv_cost (f (7 + 6 * v)) (f (7 + 6 * v + 2))) many 4 r row) v (rv_try (fun v r => rv_suitN f v r ei) (fun v => rv_cost (f (7 + 6 * v)) (f (7 + 6 * v + 2))) many 4 (r + 1) (upd row r (-1)) Bb)) (hB1.cg rfl rfl) (by omega)) xkv_X4_32 (x_recv (ci := 4) X.2.2.2.2.2 hP (j := 91) (by decide) (xe_x91 ..) rfl) rfl rfl ⟨Nat.le_of_ble_eq_true rfl, Nat.le_of_ble_eq_true rfl⟩ hl.1 (Nat.le_of_ble_eq_true rfl) dX4_tries_171 ⟨Nat.le_of_ble_eq_true rfl, Nat.le_of_ble_eq_true rfl⟩) hS (fun _ h => h) (fun _ h => h) (fun u171 H locs hu171 hP1 hz1 hk1 hS => ?_)
            have hP := hP1
            have hR := hR.cg (fun i hi => hu171.1 (1 + i) (by omega) (by omega) (by omega) ) (fun _ _ => rfl)
            refine rn_iinc (lv' := [(5, .int (nI (v + 1))), (0, .ref (n + 91)), (1, .int (nI r)), (2, .int us), (3, .int nn), (4, .int sm)]) X.1 X.2.1 dX4_tries_174 hl (k := 5) rfl (by decide) rfl (fun ls hl => ?_)
            refine lv_goto (tgt := 87) X.1 X.2.1 dX4_tries_177 (by decide) ?_
            exact ih87 _ (by omega) (v + 1) u171 _ _ rfl (by omega) (by first | exact hq | exact fun i h1 h2 h3 => ((hu171.1 i h1 h2 h3).trans (mdS_row _ _ _ h2)).trans (hq i h1 h2 h3)) (by first | exact he1 | exact hu171.2.1.trans he1) (by first | exact hrow1 | exact fun i hi => (hu171.2.2.1 i (by omega)).trans ((xRow (x := nI v) hrow1 i (by omega)).trans (upd_lo hi).symm)) (by rw [rv_for_s]; first | (have ht : rv_taken row r v = true := (by rw [← hus v (by omega)]; exact (Bool.not_eq_false _).mp (fun z => c_108 ((b_low0 (show v < 32 by omega)).mpr z))); rw [rv_F_t ht]; exact hB1) | (rw [rv_F_n (S := (fun v r => rv_suitN f v r ei)) c_128]; exact hB1) | (have ht : rv_taken row r v = false := (by rw [← hus v (by omega)]; exact (b_low0 (show v < 32 by omega)).mp c_108); rw [rv_F_y (S := (fun v r => rv_suitN f v r ei)) ht c_128]; exact hu171.2.2.2)) hP hS ls (lv_sub hl [1, 2, 3, 4, 5, 0] rfl)
  refine lv_iload_n X.1 X.2.1 dX4_tries_0 rfl (lv_at hl 1 rfl) ?_
  refine lv_aload_n X.1 X.2.1 dX4_tries_1 rfl (lv_at hl 0 rfl) ?_
  refine xb_get (C := RX4) (T := TX4) (v := .ref n) X in_X4 (ci := 4) rfl hP (j := 91) (by decide) (xe_x91 ..) 5 (by decide) q229 rfl rfl dX4_tries_2 ?_
  refine xb_getN (host := "RentedViews") (C := RX0) (T := TX0) (v := .ref (n + 1)) X in_X0 (ci := 0) rfl hP (j := 0) (by decide) (xe_x0 ..) 0 (by decide) (x_nest hN q247 rfl) rfl rfl dX4_tries_5 ?_
  refine xb_getN (host := "RentedViews") (C := RX1) (T := TX1) (v := .int (ξ 1 1)) X in_X1 (ci := 1) rfl hP (j := 1) (by decide) (xe_x1 ..) 5 (by decide) (x_nest hN q152 rfl) rfl rfl dX4_tries_8 ?_
  refine rn_co (y := nI rent) hR.nr ?_
  refine rn_icmp_ne (tgt := 66) X.1 X.2.1 (by omega) (by omega) dX4_tries_11 (by decide) (fun c_11 => ?_) (fun c_11 => ?_)
  · refine lv_aload_n X.1 X.2.1 dX4_tries_66 rfl (lv_at hl 0 rfl) ?_
    refine xb_get (C := RX4) (T := TX4) (v := .ref (n + 92)) X in_X4 (ci := 4) rfl hP (j := 91) (by decide) (xe_x91 ..) 0 (by decide) q221 rfl rfl dX4_tries_67 ?_
    refine lv_iload_n X.1 X.2.1 dX4_tries_70 rfl (lv_at hl 1 rfl) ?_
    refine lv_iconst (v := (-1)) X.1 X.2.1 dX4_tries_71 rfl ?_
    refine xb_iast (E' := xE dA n (mdS ξ 92 r (-1)) V V2 im ab be) X hP (fun _ h => h) hS (j := 92) (by decide) (n := 6) (f := ξ 92) rfl (by omega) (by decide) (fun i_ _ => xE_S dA n ξ V V2 im ab be 92 r (-1) i_) dX4_tries_72 (fun H locs hP hS => ?_)
    have hR := xR_S hR (j := 92) (k := r) (v := (-1)) (by decide)
    refine lv_aload_n X.1 X.2.1 dX4_tries_73 rfl (lv_at hl 0 rfl) ?_
    refine lv_iload_n X.1 X.2.1 dX4_tries_74 rfl (lv_at hl 1 rfl) ?_
    refine lv_iconst (v := nI 1) X.1 X.2.1 dX4_tries_75 rfl ?_
    refine rn_iadd X.1 X.2.1 dX4_tries_76 ?_
    refine lv_iload_n X.1 X.2.1 dX4_tries_77 rfl (lv_at hl 2 rfl) ?_
    refine lv_iload_n X.1 X.2.1 dX4_tries_78 rfl (lv_at hl 3 rfl) ?_
    refine lv_iload X.1 X.2.1 dX4_tries_79 (lv_at hl 4 rfl) ?_
    refine x_cWv (x_runV X hN ⟨hP, (hV.at hS hT), (tb_sub hT hS)⟩ (As := [.int (nI (r + 1)), .int us, .int nn, .int sm]) (rest := []) (x_X4_tries_4 l dC dI dA n (mdS ξ 92 r (-1)) V V2 im ab be (r + 1) us nn sm c many rent rd un hs ev f hR T ei he (upd row r (-1)) (xRow hrow) (hok.up (Or.inl rfl)) (fun v hv => by rw [hus v hv, rv_tk_up, rv_m1ne (by omega), Bool.or_false]) (by rw [rv_cn_up, if_pos rfl, Int32.add_zero]; exact hnn) (by rw [rv_mn_up (by omega) _ _ hok, if_pos rfl, Int32.add_zero]; exact hsm) Bb (hB.cg rfl rfl) (by omega)) xkv_X4_32 (x_recv (ci := 4) X.2.2.2.2.2 hP (j := 91) (by decide) (xe_x91 ..) rfl) rfl rfl ⟨Nat.le_of_ble_eq_true rfl, Nat.le_of_ble_eq_true rfl⟩ hl.1 (Nat.le_of_ble_eq_true rfl) dX4_tries_81 ⟨Nat.le_of_ble_eq_true rfl, Nat.le_of_ble_eq_true rfl⟩) hS (fun _ h => h) (fun _ h => h) (fun u81 H locs hu81 hP1 hz1 hk1 hS => ?_)
    have hP := hP1
    have hR := hR.cg (fun i hi => hu81.1 (1 + i) (by omega) (by omega) (by omega) ) (fun _ _ => rfl)
    refine lv_iconst (v := nI 0) X.1 X.2.1 dX4_tries_84 rfl ?_
    refine lv_istore (lv' := [(5, .int (nI 0)), (0, .ref (n + 91)), (1, .int (nI r)), (2, .int us), (3, .int nn), (4, .int sm)]) X.1 X.2.1 dX4_tries_85 hl (by decide) rfl (fun ls hl => ?_)
    exact K87 _ 0 u81 _ _ rfl (by omega) (fun i h1 h2 h3 => (hu81.1 i h1 h2 h3).trans (mdS_row _ _ _ h2)) (hu81.2.1.trans he) (fun i hi => (hu81.2.2.1 i (by omega)).trans ((xRow (x := -1) hrow i (by omega)).trans (upd_lo hi).symm)) hu81.2.2.2 hP hS ls (lv_sub hl [1, 2, 3, 4, 5, 0] rfl)
  · exact absurd c_11 (by omega)
set_option maxHeartbeats 2000000 in
theorem x_X4_tries_6 (l : Launch) (dC : Nat → ClassId) (dI : Nat → Nat → Nat) (dA : Nat → ClassId) (n : Nat) (ξ : mdT) (V : Nat → Option Nat) (V2 : Nat → Option Nat) (im : Nat → Option Nat) (ab : Int64) (be : Int64) (r : Nat) (us : Int32) (nn : Int32) (sm : Int32) (c : Nat) (many : Nat) (rent : Nat) (rd : Nat) (un : Nat) (hs : Nat) (ev : Nat) (f : Nat → Int32) (hR : shR c many rent rd un hs ev f (fun i_ => ξ (1 + i_))) (T : Nat → Prop) (ei : Int32) (he : ξ 91 2 = ei) (row : Nat → Int32) (hrow : ∀ i_, i_ < r → ξ 92 i_ = row i_) (hok : rv_okrow many row r) (hus : ∀ v_, v_ < many → bt us v_ = rv_taken row r v_) (hnn : nn = rv_cntr row r) (hsm : sm = rv_monr (fun v => rv_cost (f (7 + 6 * v)) (f (7 + 6 * v + 2))) row r) (Bb : rvB) (hB : xBst rent ξ Bb) (hk : r + 6 = rent) : Met l yX4_tries (ws_ yX4_tries cX4_tries 6 none) { frames := 10, cells := 0, slots := 0, locals := 600 } (xPc dC dI dA (fun H => (bkP dC dI n 96 (xE dA n ξ V V2 im ab be) H) ∧ (shV dC dI T many f V H) ∧ (∀ a_, T a_ → a_ < H.size ∧ ¬ bkA n 96 a_)) [.ref (n + 91), .int (nI r), .int us, .int nn, .int sm]) (xQv (S := mdT) (fun u => xTry ξ rent r (rv_try (fun v r => rv_suitN f v r ei) (fun v => rv_cost (f (7 + 6 * v)) (f (7 + 6 * v + 2))) many 6 r row Bb) u) (fun u => (bkP dC dI n 96 (xE dA n u V V2 im ab be))) (bkA n 96)) 0 0 (bkA n 96) := by
  refine x_in (by decide) rfl (Nat.le_of_ble_eq_true rfl) (lv := [(0, .ref (n + 91)), (1, .int (nI r)), (2, .int us), (3, .int nn), (4, .int sm)]) rfl ?_
  intro p e s m below meth c_ X hN hnm hr hlk hP ls hl
  obtain ⟨hP, hV, hT⟩ := hP
  have hm := hR.m6
  have hr6 := hR.r6
  have hd6 := hR.d6
  have hu8 := hR.u8
  have hs12 := hR.h12
  have hS : va_S (bkA n 96) s.heap s.heap [] := va_S.rf
  have K87 : ∀ (k87_ : Nat) (v : Nat) (ξ1 : mdT) (H : Heap) (locs : List Loc), many - v = k87_ → (v ≤ many) → (∀ i, i ≠ 91 → i ≠ 92 → i ≠ 93 → ξ1 i = ξ i) → (ξ1 91 2 = ei) → (∀ i, i < r → ξ1 92 i = row i) → (xBst rent ξ1 (rv_for (rv_F (fun v r => rv_suitN f v r ei) (fun v => rv_cost (f (7 + 6 * v)) (f (7 + 6 * v + 2))) many 5 r row) v (rv_try (fun v r => rv_suitN f v r ei) (fun v => rv_cost (f (7 + 6 * v)) (f (7 + 6 * v + 2))) many 5 (r + 1) (upd row r (-1)) Bb))) → bkP dC dI n 96 (xE dA n ξ1 V V2 im ab be) H → va_S (bkA n 96) s.heap H locs → ∀ ls, lv_has ls 6 [(0, .ref (n + 91)), (1, .int (nI r)), (2, .int us), (3, .int nn), (4, .int sm), (5, .int (nI v))] → W p l e { frames := 10, cells := 0, slots := 0, locals := 600 } s m [.ref (n + 91), .int (nI r), .int us, .int nn, .int sm].toArray below meth c_ H locs 0 0 (MQ below (xQv (S := mdT) (fun u => xTry ξ rent r (rv_try (fun v r => rv_suitN f v r ei) (fun v => rv_cost (f (7 + 6 * v)) (f (7 + 6 * v + 2))) many 6 r row Bb) u) (fun u => (bkP dC dI n 96 (xE dA n u V V2 im ab be))) (bkA n 96)) [.ref (n + 91), .int (nI r), .int us, .int nn, .int sm].toArray s 0 0 (bkA n 96)) (F0 m 87 ls []) := by
    intro k87_
    induction k87_ using Nat.strongRecOn with
    | _ k87_ ih87 =>
      intro v ξ1 H locs hm87_ hv_ hq he1 hrow1 hB1 hP hS ls hl
      have hR := hR.cg (S' := fun i_ => ξ1 (1 + i_)) (fun i hi => hq (1 + i) (by omega) (by omega) (by omega)) (fun _ _ => rfl)
      refine lv_iload X.1 X.2.1 dX4_tries_87 (lv_at hl 5 rfl) ?_
      refine lv_aload_n X.1 X.2.1 dX4_tries_89 rfl (lv_at hl 0 rfl) ?_
      refine xb_get (C := RX4) (T := TX4) (v := .ref n) X in_X4 (ci := 4) rfl hP (j := 91) (by decide) (xe_x91 ..) 5 (by decide) q229 rfl rfl dX4_tries_90 ?_
      refine xb_getN (host := "RentedViews") (C := RX0) (T := TX0) (v := .ref (n + 1)) X in_X0 (ci := 0) rfl hP (j := 0) (by decide) (xe_x0 ..) 0 (by decide) (x_nest hN q247 rfl) rfl rfl dX4_tries_93 ?_
      refine xb_getN (host := "RentedViews") (C := RX1) (T := TX1) (v := .int (ξ1 1 0)) X in_X1 (ci := 1) rfl hP (j := 1) (by decide) (xe_x1 ..) 2 (by decide) (x_nest hN q144 rfl) rfl rfl dX4_tries_96 ?_
      refine rn_co (y := nI many) hR.nm ?_
      refine rn_icmp_ge (tgt := 180) X.1 X.2.1 (by omega) (by omega) dX4_tries_99 (by decide) (fun c_99 => ?_) (fun c_99 => ?_)
      · exact x_rv ξ1 X hr hlk hS dX4_tries_180 (by obtain rfl : v = many := (by omega); exact ⟨hq, he1.trans he.symm, fun i hi => (hrow1 i hi).trans (hrow i hi).symm, hB1⟩) hP
      · refine lv_iload_n X.1 X.2.1 dX4_tries_102 rfl (lv_at hl 2 rfl) ?_
        refine lv_iload X.1 X.2.1 dX4_tries_103 (lv_at hl 5 rfl) ?_
        refine lv_ishr X.1 X.2.1 dX4_tries_105 ?_
        refine lv_iconst (v := nI 1) X.1 X.2.1 dX4_tries_106 rfl ?_
        refine lv_iand X.1 X.2.1 dX4_tries_107 ?_
        refine lv_if_ne (tgt := 174) X.1 X.2.1 dX4_tries_108 (by decide) (fun (c_108 : ¬ (us >>> ((nI v) &&& 31)) &&& 1 = 0) => ?_) (fun (c_108 : (us >>> ((nI v) &&& 31)) &&& 1 = 0) => ?_)
        · refine rn_iinc (lv' := [(5, .int (nI (v + 1))), (0, .ref (n + 91)), (1, .int (nI r)), (2, .int us), (3, .int nn), (4, .int sm)]) X.1 X.2.1 dX4_tries_174 hl (k := 5) rfl (by decide) rfl (fun ls hl => ?_)
          refine lv_goto (tgt := 87) X.1 X.2.1 dX4_tries_177 (by decide) ?_
          exact ih87 _ (by omega) (v + 1) ξ1 _ _ rfl (by omega) (by first | exact hq | exact fun i h1 h2 h3 => ((hu171.1 i h1 h2 h3).trans (mdS_row _ _ _ h2)).trans (hq i h1 h2 h3)) (by first | exact he1 | exact hu171.2.1.trans he1) (by first | exact hrow1 | exact fun i hi => (hu171.2.2.1 i (by omega)).trans ((xRow (x := nI v) hrow1 i (by omega)).trans (upd_lo hi).symm)) (by rw [rv_for_s]; first | (have ht : rv_taken row r v = true := (by rw [← hus v (by omega)]; exact (Bool.not_eq_false _).mp (fun z => c_108 ((b_low0 (show v < 32 by omega)).mpr z))); rw [rv_F_t ht]; exact hB1) | (rw [rv_F_n (S := (fun v r => rv_suitN f v r ei)) c_128]; exact hB1) | (have ht : rv_taken row r v = false := (by rw [← hus v (by omega)]; exact (b_low0 (show v < 32 by omega)).mp c_108); rw [rv_F_y (S := (fun v r => rv_suitN f v r ei)) ht c_128]; exact hu171.2.2.2)) hP hS ls (lv_sub hl [1, 2, 3, 4, 5, 0] rfl)
        · refine lv_aload_n X.1 X.2.1 dX4_tries_111 rfl (lv_at hl 0 rfl) ?_
          refine xb_get (C := RX4) (T := TX4) (v := .ref n) X in_X4 (ci := 4) rfl hP (j := 91) (by decide) (xe_x91 ..) 5 (by decide) q229 rfl rfl dX4_tries_112 ?_
          refine xb_getN (host := "RentedViews") (C := RX0) (T := TX0) (v := .ref (n + 1)) X in_X0 (ci := 0) rfl hP (j := 0) (by decide) (xe_x0 ..) 0 (by decide) (x_nest hN q247 rfl) rfl rfl dX4_tries_115 ?_
          refine lv_iload X.1 X.2.1 dX4_tries_118 (lv_at hl 5 rfl) ?_
          refine lv_iload_n X.1 X.2.1 dX4_tries_120 rfl (lv_at hl 1 rfl) ?_
          refine lv_aload_n X.1 X.2.1 dX4_tries_121 rfl (lv_at hl 0 rfl) ?_
          refine xb_get (C := RX4) (T := TX4) (v := .int (ξ1 91 2)) X in_X4 (ci := 4) rfl hP (j := 91) (by decide) (xe_x91 ..) 4 (by decide) q228 rfl rfl dX4_tries_122 ?_
          refine rn_co (y := ei) he1 ?_
          refine x_cSe (x_runV X hN ⟨(x_shop hP), (hV.at hS hT)⟩ (As := [.int (nI v), .int (nI r), .int ei]) (rest := []) (x_X1_suits l dC dI dA (n + 1) (fun i_ => ξ1 (1 + i_)) V v r ei c many rent rd un hs ev f hR T (by omega) (by omega)) xkv_X4_52 (x_recv (ci := 1) X.2.2.2.2.2 hP (j := 1) (by decide) (xe_x1 ..) rfl) rfl rfl ⟨Nat.le_of_ble_eq_true rfl, Nat.le_of_ble_eq_true rfl⟩ hl.1 (Nat.le_of_ble_eq_true rfl) dX4_tries_125 ⟨Nat.le_of_ble_eq_true rfl, Nat.le_of_ble_eq_true rfl⟩) ?_
          refine rn_zt (tgt := 174) X.1 X.2.1 dX4_tries_128 (by decide) (fun c_128 => ?_) (fun c_128 => ?_)
          · refine rn_iinc (lv' := [(5, .int (nI (v + 1))), (0, .ref (n + 91)), (1, .int (nI r)), (2, .int us), (3, .int nn), (4, .int sm)]) X.1 X.2.1 dX4_tries_174 hl (k := 5) rfl (by decide) rfl (fun ls hl => ?_)
            refine lv_goto (tgt := 87) X.1 X.2.1 dX4_tries_177 (by decide) ?_
            exact ih87 _ (by omega) (v + 1) ξ1 _ _ rfl (by omega) (by first | exact hq | exact fun i h1 h2 h3 => ((hu171.1 i h1 h2 h3).trans (mdS_row _ _ _ h2)).trans (hq i h1 h2 h3)) (by first | exact he1 | exact hu171.2.1.trans he1) (by first | exact hrow1 | exact fun i hi => (hu171.2.2.1 i (by omega)).trans ((xRow (x := nI v) hrow1 i (by omega)).trans (upd_lo hi).symm)) (by rw [rv_for_s]; first | (have ht : rv_taken row r v = true := (by rw [← hus v (by omega)]; exact (Bool.not_eq_false _).mp (fun z => c_108 ((b_low0 (show v < 32 by omega)).mpr z))); rw [rv_F_t ht]; exact hB1) | (rw [rv_F_n (S := (fun v r => rv_suitN f v r ei)) c_128]; exact hB1) | (have ht : rv_taken row r v = false := (by rw [← hus v (by omega)]; exact (b_low0 (show v < 32 by omega)).mp c_108); rw [rv_F_y (S := (fun v r => rv_suitN f v r ei)) ht c_128]; exact hu171.2.2.2)) hP hS ls (lv_sub hl [1, 2, 3, 4, 5, 0] rfl)
          · refine lv_aload_n X.1 X.2.1 dX4_tries_131 rfl (lv_at hl 0 rfl) ?_
            refine xb_get (C := RX4) (T := TX4) (v := .ref (n + 92)) X in_X4 (ci := 4) rfl hP (j := 91) (by decide) (xe_x91 ..) 0 (by decide) q221 rfl rfl dX4_tries_132 ?_
            refine lv_iload_n X.1 X.2.1 dX4_tries_135 rfl (lv_at hl 1 rfl) ?_
            refine lv_iload X.1 X.2.1 dX4_tries_136 (lv_at hl 5 rfl) ?_
            refine xb_iast (E' := xE dA n (mdS ξ1 92 r (nI v)) V V2 im ab be) X hP (fun _ h => h) hS (j := 92) (by decide) (n := 6) (f := ξ1 92) rfl (by omega) (by decide) (fun i_ _ => xE_S dA n ξ1 V V2 im ab be 92 r (nI v) i_) dX4_tries_138 (fun H locs hP hS => ?_)
            have hR := xR_S hR (j := 92) (k := r) (v := nI v) (by decide)
            refine lv_aload_n X.1 X.2.1 dX4_tries_139 rfl (lv_at hl 0 rfl) ?_
            refine lv_iload_n X.1 X.2.1 dX4_tries_140 rfl (lv_at hl 1 rfl) ?_
            refine lv_iconst (v := nI 1) X.1 X.2.1 dX4_tries_141 rfl ?_
            refine rn_iadd X.1 X.2.1 dX4_tries_142 ?_
            refine lv_iload_n X.1 X.2.1 dX4_tries_143 rfl (lv_at hl 2 rfl) ?_
            refine lv_iconst (v := nI 1) X.1 X.2.1 dX4_tries_144 rfl ?_
            refine lv_iload X.1 X.2.1 dX4_tries_145 (lv_at hl 5 rfl) ?_
            refine lv_ishl X.1 X.2.1 dX4_tries_147 ?_
            refine lv_ior X.1 X.2.1 dX4_tries_148 ?_
            refine lv_iload_n X.1 X.2.1 dX4_tries_149 rfl (lv_at hl 3 rfl) ?_
            refine lv_iconst (v := nI 1) X.1 X.2.1 dX4_tries_150 rfl ?_
            refine lv_iadd X.1 X.2.1 dX4_tries_151 ?_
            refine lv_iload X.1 X.2.1 dX4_tries_152 (lv_at hl 4 rfl) ?_
            refine lv_aload_n X.1 X.2.1 dX4_tries_154 rfl (lv_at hl 0 rfl) ?_
            refine xb_get (C := RX4) (T := TX4) (v := .ref n) X in_X4 (ci := 4) rfl hP (j := 91) (by decide) (xe_x91 ..) 5 (by decide) q229 rfl rfl dX4_tries_155 ?_
            refine xb_getN (host := "RentedViews") (C := RX0) (T := TX0) (v := .ref (n + 1)) X in_X0 (ci := 0) rfl hP (j := 0) (by decide) (xe_x0 ..) 0 (by decide) (x_nest hN q247 rfl) rfl rfl dX4_tries_158 ?_
            refine xb_getN (host := "RentedViews") (C := RX1) (T := TX1) (v := .ref (n + 2)) X in_X1 (ci := 1) rfl hP (j := 1) (by decide) (xe_x1 ..) 0 (by decide) (x_nest hN q138 rfl) rfl rfl dX4_tries_161 ?_
            refine lv_iload X.1 X.2.1 dX4_tries_164 (lv_at hl 5 rfl) ?_
            obtain ⟨a166, kd166, hVa166, hTa166, hk166, hf166, hv166⟩ := hV.2 v (by omega)
            refine xb_aald X hP (j := 2) (by decide) (t := 3) (C := RX6) (f := V) rfl rfl (by omega) (by decide) dX4_tries_166 ?_
            refine x_vq hVa166 ?_
            refine vd_X4_lets X hN hk166 (vw_at hv166 hS (hT _ hTa166)) (rest := [.int sm, .int (nn + 1), .int (us ||| (1 <<< ((nI v) &&& 31))), .int (nI (r + 1)), .ref (n + 91)]) ⟨Nat.le_of_ble_eq_true rfl, Nat.le_of_ble_eq_true rfl⟩ hl.1 (Nat.le_of_ble_eq_true rfl) dX4_tries_167 ⟨Nat.le_of_ble_eq_true rfl, Nat.le_of_ble_eq_true rfl⟩ ?_
            refine rn_co (y := rv_cost (f (7 + 6 * v)) (f (7 + 6 * v + 2))) (by rw [hf166]) ?_
            refine lv_iadd X.1 X.2.1 dX4_tries_170 ?_
            refine x_cWv (x_runV X hN ⟨hP, (hV.at hS hT), (tb_sub hT hS)⟩ (As := [.int (nI (r + 1)), .int (us ||| (1 <<< ((nI v) &&& 31))), .int (nn + 1), .int (sm + (rv_cost (f (7 + 6 * v)) (f (7 + 6 * v + 2))))]) (rest := []) (x_X4_tries_5 l dC dI dA n (mdS ξ1 92 r (nI v)) V V2 im ab be (r + 1) (us ||| (1 <<< ((nI v) &&& 31))) (nn + 1) (sm + (rv_cost (f (7 + 6 * v)) (f (7 + 6 * v + 2)))) c many rent rd un hs ev f hR T ei he1 (upd row r (nI v)) (xRow hrow1) (hok.up (Or.inr ⟨v, c_99, rfl⟩)) (fun w hw => by rw [b_or, hus w hw, b_bit (show v < 32 by omega) (by omega), rv_tk_up]; congr 1; exact decide_eq_decide.mpr ⟨fun z => by rw [z], fun z => ((nI_eq (by omega) (by omega)).mp z).symm⟩) (by rw [rv_cn_up, if_neg (rv_nIne v (by omega)), hnn]) (by rw [rv_mn_up (by omega) _ _ hok, if_neg (rv_nIne v (by omega)), rv_cln (by omega), hsm]) (rv_for (rv_F (fun v r => rv_suitN f v r ei) (fun v => rv_cost (f (7 + 6 * v)) (f (7 + 6 * v + 2))) many 5 r row) v (rv_try (fun v r => rv_suitN f v r ei) (fun v => rv_cost (f (7 + 6 * v)) (f (7 + 6 * v + 2))) many 5 (r + 1) (upd row r (-1)) Bb)) (hB1.cg rfl rfl) (by omega)) xkv_X4_32 (x_recv (ci := 4) X.2.2.2.2.2 hP (j := 91) (by decide) (xe_x91 ..) rfl) rfl rfl ⟨Nat.le_of_ble_eq_true rfl, Nat.le_of_ble_eq_true rfl⟩ hl.1 (Nat.le_of_ble_eq_true rfl) dX4_tries_171 ⟨Nat.le_of_ble_eq_true rfl, Nat.le_of_ble_eq_true rfl⟩) hS (fun _ h => h) (fun _ h => h) (fun u171 H locs hu171 hP1 hz1 hk1 hS => ?_)
            have hP := hP1
            have hR := hR.cg (fun i hi => hu171.1 (1 + i) (by omega) (by omega) (by omega) ) (fun _ _ => rfl)
            refine rn_iinc (lv' := [(5, .int (nI (v + 1))), (0, .ref (n + 91)), (1, .int (nI r)), (2, .int us), (3, .int nn), (4, .int sm)]) X.1 X.2.1 dX4_tries_174 hl (k := 5) rfl (by decide) rfl (fun ls hl => ?_)
            refine lv_goto (tgt := 87) X.1 X.2.1 dX4_tries_177 (by decide) ?_
            exact ih87 _ (by omega) (v + 1) u171 _ _ rfl (by omega) (by first | exact hq | exact fun i h1 h2 h3 => ((hu171.1 i h1 h2 h3).trans (mdS_row _ _ _ h2)).trans (hq i h1 h2 h3)) (by first | exact he1 | exact hu171.2.1.trans he1) (by first | exact hrow1 | exact fun i hi => (hu171.2.2.1 i (by omega)).trans ((xRow (x := nI v) hrow1 i (by omega)).trans (upd_lo hi).symm)) (by rw [rv_for_s]; first | (have ht : rv_taken row r v = true := (by rw [← hus v (by omega)]; exact (Bool.not_eq_false _).mp (fun z => c_108 ((b_low0 (show v < 32 by omega)).mpr z))); rw [rv_F_t ht]; exact hB1) | (rw [rv_F_n (S := (fun v r => rv_suitN f v r ei)) c_128]; exact hB1) | (have ht : rv_taken row r v = false := (by rw [← hus v (by omega)]; exact (b_low0 (show v < 32 by omega)).mp c_108); rw [rv_F_y (S := (fun v r => rv_suitN f v r ei)) ht c_128]; exact hu171.2.2.2)) hP hS ls (lv_sub hl [1, 2, 3, 4, 5, 0] rfl)
  refine lv_iload_n X.1 X.2.1 dX4_tries_0 rfl (lv_at hl 1 rfl) ?_
  refine lv_aload_n X.1 X.2.1 dX4_tries_1 rfl (lv_at hl 0 rfl) ?_
  refine xb_get (C := RX4) (T := TX4) (v := .ref n) X in_X4 (ci := 4) rfl hP (j := 91) (by decide) (xe_x91 ..) 5 (by decide) q229 rfl rfl dX4_tries_2 ?_
  refine xb_getN (host := "RentedViews") (C := RX0) (T := TX0) (v := .ref (n + 1)) X in_X0 (ci := 0) rfl hP (j := 0) (by decide) (xe_x0 ..) 0 (by decide) (x_nest hN q247 rfl) rfl rfl dX4_tries_5 ?_
  refine xb_getN (host := "RentedViews") (C := RX1) (T := TX1) (v := .int (ξ 1 1)) X in_X1 (ci := 1) rfl hP (j := 1) (by decide) (xe_x1 ..) 5 (by decide) (x_nest hN q152 rfl) rfl rfl dX4_tries_8 ?_
  refine rn_co (y := nI rent) hR.nr ?_
  refine rn_icmp_ne (tgt := 66) X.1 X.2.1 (by omega) (by omega) dX4_tries_11 (by decide) (fun c_11 => ?_) (fun c_11 => ?_)
  · refine lv_aload_n X.1 X.2.1 dX4_tries_66 rfl (lv_at hl 0 rfl) ?_
    refine xb_get (C := RX4) (T := TX4) (v := .ref (n + 92)) X in_X4 (ci := 4) rfl hP (j := 91) (by decide) (xe_x91 ..) 0 (by decide) q221 rfl rfl dX4_tries_67 ?_
    refine lv_iload_n X.1 X.2.1 dX4_tries_70 rfl (lv_at hl 1 rfl) ?_
    refine lv_iconst (v := (-1)) X.1 X.2.1 dX4_tries_71 rfl ?_
    refine xb_iast (E' := xE dA n (mdS ξ 92 r (-1)) V V2 im ab be) X hP (fun _ h => h) hS (j := 92) (by decide) (n := 6) (f := ξ 92) rfl (by omega) (by decide) (fun i_ _ => xE_S dA n ξ V V2 im ab be 92 r (-1) i_) dX4_tries_72 (fun H locs hP hS => ?_)
    have hR := xR_S hR (j := 92) (k := r) (v := (-1)) (by decide)
    refine lv_aload_n X.1 X.2.1 dX4_tries_73 rfl (lv_at hl 0 rfl) ?_
    refine lv_iload_n X.1 X.2.1 dX4_tries_74 rfl (lv_at hl 1 rfl) ?_
    refine lv_iconst (v := nI 1) X.1 X.2.1 dX4_tries_75 rfl ?_
    refine rn_iadd X.1 X.2.1 dX4_tries_76 ?_
    refine lv_iload_n X.1 X.2.1 dX4_tries_77 rfl (lv_at hl 2 rfl) ?_
    refine lv_iload_n X.1 X.2.1 dX4_tries_78 rfl (lv_at hl 3 rfl) ?_
    refine lv_iload X.1 X.2.1 dX4_tries_79 (lv_at hl 4 rfl) ?_
    refine x_cWv (x_runV X hN ⟨hP, (hV.at hS hT), (tb_sub hT hS)⟩ (As := [.int (nI (r + 1)), .int us, .int nn, .int sm]) (rest := []) (x_X4_tries_5 l dC dI dA n (mdS ξ 92 r (-1)) V V2 im ab be (r + 1) us nn sm c many rent rd un hs ev f hR T ei he (upd row r (-1)) (xRow hrow) (hok.up (Or.inl rfl)) (fun v hv => by rw [hus v hv, rv_tk_up, rv_m1ne (by omega), Bool.or_false]) (by rw [rv_cn_up, if_pos rfl, Int32.add_zero]; exact hnn) (by rw [rv_mn_up (by omega) _ _ hok, if_pos rfl, Int32.add_zero]; exact hsm) Bb (hB.cg rfl rfl) (by omega)) xkv_X4_32 (x_recv (ci := 4) X.2.2.2.2.2 hP (j := 91) (by decide) (xe_x91 ..) rfl) rfl rfl ⟨Nat.le_of_ble_eq_true rfl, Nat.le_of_ble_eq_true rfl⟩ hl.1 (Nat.le_of_ble_eq_true rfl) dX4_tries_81 ⟨Nat.le_of_ble_eq_true rfl, Nat.le_of_ble_eq_true rfl⟩) hS (fun _ h => h) (fun _ h => h) (fun u81 H locs hu81 hP1 hz1 hk1 hS => ?_)
    have hP := hP1
    have hR := hR.cg (fun i hi => hu81.1 (1 + i) (by omega) (by omega) (by omega) ) (fun _ _ => rfl)
    refine lv_iconst (v := nI 0) X.1 X.2.1 dX4_tries_84 rfl ?_
    refine lv_istore (lv' := [(5, .int (nI 0)), (0, .ref (n + 91)), (1, .int (nI r)), (2, .int us), (3, .int nn), (4, .int sm)]) X.1 X.2.1 dX4_tries_85 hl (by decide) rfl (fun ls hl => ?_)
    exact K87 _ 0 u81 _ _ rfl (by omega) (fun i h1 h2 h3 => (hu81.1 i h1 h2 h3).trans (mdS_row _ _ _ h2)) (hu81.2.1.trans he) (fun i hi => (hu81.2.2.1 i (by omega)).trans ((xRow (x := -1) hrow i (by omega)).trans (upd_lo hi).symm)) hu81.2.2.2 hP hS ls (lv_sub hl [1, 2, 3, 4, 5, 0] rfl)
  · exact absurd c_11 (by omega)
theorem x_X4_goes (l : Launch) (dC : Nat → ClassId) (dI : Nat → Nat → Nat) (dA : Nat → ClassId) (n : Nat) (ξ : mdT) (V : Nat → Option Nat) (V2 : Nat → Option Nat) (im : Nat → Option Nat) (ab : Int64) (be : Int64) (ei : Int32) (c : Nat) (many : Nat) (rent : Nat) (rd : Nat) (un : Nat) (hs : Nat) (ev : Nat) (f : Nat → Int32) (hR : shR c many rent rd un hs ev f (fun i_ => ξ (1 + i_))) (T : Nat → Prop) : Met l yX4_goes (ws_ yX4_goes cX4_goes 2 none) { frames := 11, cells := 0, slots := 0, locals := 660 } (xPc dC dI dA (fun H => (bkP dC dI n 96 (xE dA n ξ V V2 im ab be) H) ∧ (shV dC dI T many f V H) ∧ (∀ a_, T a_ → a_ < H.size ∧ ¬ bkA n 96 a_)) [.ref (n + 91), .int ei]) (xQv (S := mdT) (fun u => xGoes ξ f many rent ei u) (fun u => (bkP dC dI n 96 (xE dA n u V V2 im ab be))) (bkA n 96)) 0 0 (bkA n 96) := by
  refine x_in (by decide) rfl (Nat.le_of_ble_eq_true rfl) (lv := [(0, .ref (n + 91)), (1, .int ei)]) rfl ?_
  intro p e s m below meth c_ X hN hnm hr hlk hP ls hl
  obtain ⟨hP, hV, hT⟩ := hP
  have hm := hR.m6
  have hr6 := hR.r6
  have hd6 := hR.d6
  have hu8 := hR.u8
  have hs12 := hR.h12
  have hS : va_S (bkA n 96) s.heap s.heap [] := va_S.rf
  refine lv_aload_n X.1 X.2.1 dX4_goes_0 rfl (lv_at hl 0 rfl) ?_
  refine lv_iload_n X.1 X.2.1 dX4_goes_1 rfl (lv_at hl 1 rfl) ?_
  refine xb_put (C := RX4) (T := TX4) (E' := xE dA n (mdS ξ 91 2 ei) V V2 im ab be) X in_X4 tyX4 tyX4_ok nmX4 (ci := 4) rfl hP (fun _ h => h) hS (j := 91) (by decide) (xe_x91 ..) 4 (by decide) q228 rfl rfl rfl rfl rfl (Nat.le_of_ble_eq_true rfl) (fun i_ _ => xE_S dA n ξ V V2 im ab be 91 2 ei i_) dX4_goes_2 (fun H locs hP hS => ?_)
  have hR := xR_S hR (j := 91) (k := 2) (v := ei) (by decide)
  refine lv_aload_n X.1 X.2.1 dX4_goes_5 rfl (lv_at hl 0 rfl) ?_
  refine lv_iconst (v := (-1)) X.1 X.2.1 dX4_goes_6 rfl ?_
  refine xb_put (C := RX4) (T := TX4) (E' := xE dA n (mdS (mdS ξ 91 2 ei) 91 0 (-1)) V V2 im ab be) X in_X4 tyX4 tyX4_ok nmX4 (ci := 4) rfl hP (fun _ h => h) hS (j := 91) (by decide) (xe_x91 ..) 2 (by decide) q224 rfl rfl rfl rfl rfl (Nat.le_of_ble_eq_true rfl) (fun i_ _ => xE_S dA n (mdS ξ 91 2 ei) V V2 im ab be 91 0 (-1) i_) dX4_goes_7 (fun H locs hP hS => ?_)
  have hR := xR_S hR (j := 91) (k := 0) (v := (-1)) (by decide)
  refine lv_aload_n X.1 X.2.1 dX4_goes_10 rfl (lv_at hl 0 rfl) ?_
  refine lv_iconst (v := (-1)) X.1 X.2.1 dX4_goes_11 rfl ?_
  refine xb_put (C := RX4) (T := TX4) (E' := xE dA n (mdS (mdS (mdS ξ 91 2 ei) 91 0 (-1)) 91 1 (-1)) V V2 im ab be) X in_X4 tyX4 tyX4_ok nmX4 (ci := 4) rfl hP (fun _ h => h) hS (j := 91) (by decide) (xe_x91 ..) 3 (by decide) q226 rfl rfl rfl rfl rfl (Nat.le_of_ble_eq_true rfl) (fun i_ _ => xE_S dA n (mdS (mdS ξ 91 2 ei) 91 0 (-1)) V V2 im ab be 91 1 (-1) i_) dX4_goes_12 (fun H locs hP hS => ?_)
  have hR := xR_S hR (j := 91) (k := 1) (v := (-1)) (by decide)
  refine lv_aload_n X.1 X.2.1 dX4_goes_15 rfl (lv_at hl 0 rfl) ?_
  refine lv_iconst (v := nI 0) X.1 X.2.1 dX4_goes_16 rfl ?_
  refine lv_iconst (v := nI 0) X.1 X.2.1 dX4_goes_17 rfl ?_
  refine lv_iconst (v := nI 0) X.1 X.2.1 dX4_goes_18 rfl ?_
  refine lv_iconst (v := nI 0) X.1 X.2.1 dX4_goes_19 rfl ?_
  rcases (show rent = 0 ∨ rent = 1 ∨ rent = 2 ∨ rent = 3 ∨ rent = 4 ∨ rent = 5 ∨ rent = 6 by omega) with hk | hk | hk | hk | hk | hk | hk
  · subst hk
    refine x_cWv (x_runV X hN ⟨hP, hV.at hS hT, tb_sub hT hS⟩ (As := [.int (nI 0), .int (nI 0), .int (nI 0), .int (nI 0)]) (rest := []) (x_X4_tries_0 l dC dI dA n (mdS (mdS (mdS ξ 91 2 ei) 91 0 (-1)) 91 1 (-1)) V V2 im ab be 0 (nI 0) (nI 0) (nI 0) c many 0 rd un hs ev f hR T ei rfl (fun _ => 0) (fun i hi => absurd hi (by omega)) (fun i hi => absurd hi (by omega)) (fun v hv => b_0 v) rfl rfl (-1, -1, (mdS (mdS (mdS ξ 91 2 ei) 91 0 (-1)) 91 1 (-1)) 93) ⟨rfl, rfl, fun _ _ => rfl⟩ rfl) xkv_X4_32 (x_recv (ci := 4) X.2.2.2.2.2 hP (j := 91) (by decide) (xe_x91 ..) rfl) rfl rfl ⟨Nat.le_of_ble_eq_true rfl, Nat.le_of_ble_eq_true rfl⟩ hl.1 (Nat.le_of_ble_eq_true rfl) dX4_goes_20 ⟨Nat.le_of_ble_eq_true rfl, Nat.le_of_ble_eq_true rfl⟩) hS (fun q h => h) (fun q h => h) (fun u H locs hu hP hz1 hk1 hS => ?_)
    exact x_rv u X hr hlk hS dX4_goes_23 ⟨fun i h1 h2 h3 => (hu.1 i h1 h2 h3).trans (by rw [mdS_row _ _ _ h1, mdS_row _ _ _ h1, mdS_row _ _ _ h1]), by have := hu.2.2.2; rw [rv_try_first (by omega) (-1) 0 _ (fun _ => 0)] at this; exact this⟩ hP
  · subst hk
    refine x_cWv (x_runV X hN ⟨hP, hV.at hS hT, tb_sub hT hS⟩ (As := [.int (nI 0), .int (nI 0), .int (nI 0), .int (nI 0)]) (rest := []) (x_X4_tries_1 l dC dI dA n (mdS (mdS (mdS ξ 91 2 ei) 91 0 (-1)) 91 1 (-1)) V V2 im ab be 0 (nI 0) (nI 0) (nI 0) c many 1 rd un hs ev f hR T ei rfl (fun _ => 0) (fun i hi => absurd hi (by omega)) (fun i hi => absurd hi (by omega)) (fun v hv => b_0 v) rfl rfl (-1, -1, (mdS (mdS (mdS ξ 91 2 ei) 91 0 (-1)) 91 1 (-1)) 93) ⟨rfl, rfl, fun _ _ => rfl⟩ rfl) xkv_X4_32 (x_recv (ci := 4) X.2.2.2.2.2 hP (j := 91) (by decide) (xe_x91 ..) rfl) rfl rfl ⟨Nat.le_of_ble_eq_true rfl, Nat.le_of_ble_eq_true rfl⟩ hl.1 (Nat.le_of_ble_eq_true rfl) dX4_goes_20 ⟨Nat.le_of_ble_eq_true rfl, Nat.le_of_ble_eq_true rfl⟩) hS (fun q h => h) (fun q h => h) (fun u H locs hu hP hz1 hk1 hS => ?_)
    exact x_rv u X hr hlk hS dX4_goes_23 ⟨fun i h1 h2 h3 => (hu.1 i h1 h2 h3).trans (by rw [mdS_row _ _ _ h1, mdS_row _ _ _ h1, mdS_row _ _ _ h1]), by have := hu.2.2.2; rw [rv_try_first (by omega) (-1) 0 _ (fun _ => 0)] at this; exact this⟩ hP
  · subst hk
    refine x_cWv (x_runV X hN ⟨hP, hV.at hS hT, tb_sub hT hS⟩ (As := [.int (nI 0), .int (nI 0), .int (nI 0), .int (nI 0)]) (rest := []) (x_X4_tries_2 l dC dI dA n (mdS (mdS (mdS ξ 91 2 ei) 91 0 (-1)) 91 1 (-1)) V V2 im ab be 0 (nI 0) (nI 0) (nI 0) c many 2 rd un hs ev f hR T ei rfl (fun _ => 0) (fun i hi => absurd hi (by omega)) (fun i hi => absurd hi (by omega)) (fun v hv => b_0 v) rfl rfl (-1, -1, (mdS (mdS (mdS ξ 91 2 ei) 91 0 (-1)) 91 1 (-1)) 93) ⟨rfl, rfl, fun _ _ => rfl⟩ rfl) xkv_X4_32 (x_recv (ci := 4) X.2.2.2.2.2 hP (j := 91) (by decide) (xe_x91 ..) rfl) rfl rfl ⟨Nat.le_of_ble_eq_true rfl, Nat.le_of_ble_eq_true rfl⟩ hl.1 (Nat.le_of_ble_eq_true rfl) dX4_goes_20 ⟨Nat.le_of_ble_eq_true rfl, Nat.le_of_ble_eq_true rfl⟩) hS (fun q h => h) (fun q h => h) (fun u H locs hu hP hz1 hk1 hS => ?_)
    exact x_rv u X hr hlk hS dX4_goes_23 ⟨fun i h1 h2 h3 => (hu.1 i h1 h2 h3).trans (by rw [mdS_row _ _ _ h1, mdS_row _ _ _ h1, mdS_row _ _ _ h1]), by have := hu.2.2.2; rw [rv_try_first (by omega) (-1) 0 _ (fun _ => 0)] at this; exact this⟩ hP
  · subst hk
    refine x_cWv (x_runV X hN ⟨hP, hV.at hS hT, tb_sub hT hS⟩ (As := [.int (nI 0), .int (nI 0), .int (nI 0), .int (nI 0)]) (rest := []) (x_X4_tries_3 l dC dI dA n (mdS (mdS (mdS ξ 91 2 ei) 91 0 (-1)) 91 1 (-1)) V V2 im ab be 0 (nI 0) (nI 0) (nI 0) c many 3 rd un hs ev f hR T ei rfl (fun _ => 0) (fun i hi => absurd hi (by omega)) (fun i hi => absurd hi (by omega)) (fun v hv => b_0 v) rfl rfl (-1, -1, (mdS (mdS (mdS ξ 91 2 ei) 91 0 (-1)) 91 1 (-1)) 93) ⟨rfl, rfl, fun _ _ => rfl⟩ rfl) xkv_X4_32 (x_recv (ci := 4) X.2.2.2.2.2 hP (j := 91) (by decide) (xe_x91 ..) rfl) rfl rfl ⟨Nat.le_of_ble_eq_true rfl, Nat.le_of_ble_eq_true rfl⟩ hl.1 (Nat.le_of_ble_eq_true rfl) dX4_goes_20 ⟨Nat.le_of_ble_eq_true rfl, Nat.le_of_ble_eq_true rfl⟩) hS (fun q h => h) (fun q h => h) (fun u H locs hu hP hz1 hk1 hS => ?_)
    exact x_rv u X hr hlk hS dX4_goes_23 ⟨fun i h1 h2 h3 => (hu.1 i h1 h2 h3).trans (by rw [mdS_row _ _ _ h1, mdS_row _ _ _ h1, mdS_row _ _ _ h1]), by have := hu.2.2.2; rw [rv_try_first (by omega) (-1) 0 _ (fun _ => 0)] at this; exact this⟩ hP
  · subst hk
    refine x_cWv (x_runV X hN ⟨hP, hV.at hS hT, tb_sub hT hS⟩ (As := [.int (nI 0), .int (nI 0), .int (nI 0), .int (nI 0)]) (rest := []) (x_X4_tries_4 l dC dI dA n (mdS (mdS (mdS ξ 91 2 ei) 91 0 (-1)) 91 1 (-1)) V V2 im ab be 0 (nI 0) (nI 0) (nI 0) c many 4 rd un hs ev f hR T ei rfl (fun _ => 0) (fun i hi => absurd hi (by omega)) (fun i hi => absurd hi (by omega)) (fun v hv => b_0 v) rfl rfl (-1, -1, (mdS (mdS (mdS ξ 91 2 ei) 91 0 (-1)) 91 1 (-1)) 93) ⟨rfl, rfl, fun _ _ => rfl⟩ rfl) xkv_X4_32 (x_recv (ci := 4) X.2.2.2.2.2 hP (j := 91) (by decide) (xe_x91 ..) rfl) rfl rfl ⟨Nat.le_of_ble_eq_true rfl, Nat.le_of_ble_eq_true rfl⟩ hl.1 (Nat.le_of_ble_eq_true rfl) dX4_goes_20 ⟨Nat.le_of_ble_eq_true rfl, Nat.le_of_ble_eq_true rfl⟩) hS (fun q h => h) (fun q h => h) (fun u H locs hu hP hz1 hk1 hS => ?_)
    exact x_rv u X hr hlk hS dX4_goes_23 ⟨fun i h1 h2 h3 => (hu.1 i h1 h2 h3).trans (by rw [mdS_row _ _ _ h1, mdS_row _ _ _ h1, mdS_row _ _ _ h1]), by have := hu.2.2.2; rw [rv_try_first (by omega) (-1) 0 _ (fun _ => 0)] at this; exact this⟩ hP
  · subst hk
    refine x_cWv (x_runV X hN ⟨hP, hV.at hS hT, tb_sub hT hS⟩ (As := [.int (nI 0), .int (nI 0), .int (nI 0), .int (nI 0)]) (rest := []) (x_X4_tries_5 l dC dI dA n (mdS (mdS (mdS ξ 91 2 ei) 91 0 (-1)) 91 1 (-1)) V V2 im ab be 0 (nI 0) (nI 0) (nI 0) c many 5 rd un hs ev f hR T ei rfl (fun _ => 0) (fun i hi => absurd hi (by omega)) (fun i hi => absurd hi (by omega)) (fun v hv => b_0 v) rfl rfl (-1, -1, (mdS (mdS (mdS ξ 91 2 ei) 91 0 (-1)) 91 1 (-1)) 93) ⟨rfl, rfl, fun _ _ => rfl⟩ rfl) xkv_X4_32 (x_recv (ci := 4) X.2.2.2.2.2 hP (j := 91) (by decide) (xe_x91 ..) rfl) rfl rfl ⟨Nat.le_of_ble_eq_true rfl, Nat.le_of_ble_eq_true rfl⟩ hl.1 (Nat.le_of_ble_eq_true rfl) dX4_goes_20 ⟨Nat.le_of_ble_eq_true rfl, Nat.le_of_ble_eq_true rfl⟩) hS (fun q h => h) (fun q h => h) (fun u H locs hu hP hz1 hk1 hS => ?_)
    exact x_rv u X hr hlk hS dX4_goes_23 ⟨fun i h1 h2 h3 => (hu.1 i h1 h2 h3).trans (by rw [mdS_row _ _ _ h1, mdS_row _ _ _ h1, mdS_row _ _ _ h1]), by have := hu.2.2.2; rw [rv_try_first (by omega) (-1) 0 _ (fun _ => 0)] at this; exact this⟩ hP
  · subst hk
    refine x_cWv (x_runV X hN ⟨hP, hV.at hS hT, tb_sub hT hS⟩ (As := [.int (nI 0), .int (nI 0), .int (nI 0), .int (nI 0)]) (rest := []) (x_X4_tries_6 l dC dI dA n (mdS (mdS (mdS ξ 91 2 ei) 91 0 (-1)) 91 1 (-1)) V V2 im ab be 0 (nI 0) (nI 0) (nI 0) c many 6 rd un hs ev f hR T ei rfl (fun _ => 0) (fun i hi => absurd hi (by omega)) (fun i hi => absurd hi (by omega)) (fun v hv => b_0 v) rfl rfl (-1, -1, (mdS (mdS (mdS ξ 91 2 ei) 91 0 (-1)) 91 1 (-1)) 93) ⟨rfl, rfl, fun _ _ => rfl⟩ rfl) xkv_X4_32 (x_recv (ci := 4) X.2.2.2.2.2 hP (j := 91) (by decide) (xe_x91 ..) rfl) rfl rfl ⟨Nat.le_of_ble_eq_true rfl, Nat.le_of_ble_eq_true rfl⟩ hl.1 (Nat.le_of_ble_eq_true rfl) dX4_goes_20 ⟨Nat.le_of_ble_eq_true rfl, Nat.le_of_ble_eq_true rfl⟩) hS (fun q h => h) (fun q h => h) (fun u H locs hu hP hz1 hk1 hS => ?_)
    exact x_rv u X hr hlk hS dX4_goes_23 ⟨fun i h1 h2 h3 => (hu.1 i h1 h2 h3).trans (by rw [mdS_row _ _ _ h1, mdS_row _ _ _ h1, mdS_row _ _ _ h1]), by have := hu.2.2.2; rw [rv_try_first (by omega) (-1) 0 _ (fun _ => 0)] at this; exact this⟩ hP
