/-! what a view shows, for how much it is let, whether it fits -/
set_option maxRecDepth 100000
theorem xku_X7_7 : xKU RX7 ⟨"RentedViews$View", "shows", "(I)I"⟩ yX6_shows cX6_shows 2 (some .int) 7 1 := ⟨q726, q703, q348, Or.inl rfl, q701, q67, q727, ⟨rfl, rfl, by decide⟩, by decide +kernel⟩
theorem xku_X8_11 : xKU RX8 ⟨"RentedViews$View", "lets", "()I"⟩ yX6_lets cX6_lets 1 (some .int) 11 0 := ⟨q635, q627, q358, Or.inl rfl, q625, q67, q647, ⟨rfl, rfl, by decide⟩, by decide +kernel⟩
theorem xku_X8_7 : xKU RX8 ⟨"RentedViews$View", "shows", "(I)I"⟩ yX6_shows cX6_shows 2 (some .int) 7 1 := ⟨q708, q703, q358, Or.inl rfl, q701, q67, q727, ⟨rfl, rfl, by decide⟩, by decide +kernel⟩
theorem xku_X9_13 : xKU RX9 ⟨"RentedViews$Street", "lets", "()I"⟩ yX6_lets cX6_lets 1 (some .int) 13 0 := ⟨q642, q643, q368, Or.inr q348, q625, q67, q647, ⟨rfl, rfl, by decide⟩, by decide +kernel⟩
theorem xko_X9_7_X9 : xKO RX9 RX9 "RentedViews$View" ⟨"RentedViews$Kitchen", "first", "()I"⟩ yX6_first cX6_first 1 (some .int) 7 0 := ⟨q715, q716, Or.inl q717, q719, q720, q67, q721, by decide +kernel⟩
theorem xko_X9_7_X11 : xKO RX9 RX11 "RentedViews$View" ⟨"RentedViews$Kitchen", "first", "()I"⟩ yX6_first cX6_first 1 (some .int) 7 0 := ⟨q715, q716, Or.inl q717, q718, q720, q67, q721, by decide +kernel⟩
theorem xku_X10_7 : xKU RX10 ⟨"RentedViews$View", "lets", "()I"⟩ yX6_lets cX6_lets 1 (some .int) 7 0 := ⟨q631, q627, q378, Or.inl rfl, q625, q67, q647, ⟨rfl, rfl, by decide⟩, by decide +kernel⟩
theorem xku_X11_11 : xKU RX11 ⟨"RentedViews$Kitchen", "lets", "()I"⟩ yX9_lets cX9_lets 1 (some .int) 11 0 := ⟨q639, q1334, q388, Or.inl rfl, q640, q70, q641, ⟨rfl, rfl, by decide⟩, by decide +kernel⟩
theorem xku_X11_7 : xKU RX11 ⟨"RentedViews$Kitchen", "shows", "(I)I"⟩ yX9_shows cX9_shows 2 (some .int) 7 1 := ⟨q712, q1335, q388, Or.inl rfl, q713, q70, q714, ⟨rfl, rfl, by decide⟩, by decide +kernel⟩
theorem vw_X6_kind (l : Launch) (dC : Nat → ClassId) (dI : Nat → Nat → Nat) (dA : Nat → ClassId) (a : Nat) {kd : Nat} {C : String} {T : u_T} (K : vwK kd C T) (sz pr we : Int32) : Met l yX6_kind (ws_ yX6_kind cX6_kind 1 (some .int)) { frames := 1, cells := 0, slots := 0, locals := 60 } (xPc dC dI dA (vwP dC dI a kd sz pr we) [.ref a]) (vp_Si (fun r_ => r_ = 0)) 0 0 (fun _ => False) := by
  refine x_in (by decide) rfl (Nat.le_of_ble_eq_true rfl) (lv := [(0, .ref a)]) rfl ?_
  intro p e s m below meth c X hN hnm hr hlk hV ls hl
  refine lv_iconst (v := nI 0) X.1 X.2.1 dX6_kind_0 rfl ?_
  exact rv_ri X.1 X.2.1 hr hlk dX6_kind_1 rfl
theorem vw_X6_lets (l : Launch) (dC : Nat → ClassId) (dI : Nat → Nat → Nat) (dA : Nat → ClassId) (a : Nat) {kd : Nat} {C : String} {T : u_T} (K : vwK kd C T) (sz pr we : Int32) : Met l yX6_lets (ws_ yX6_lets cX6_lets 1 (some .int)) { frames := 1, cells := 0, slots := 0, locals := 60 } (xPc dC dI dA (vwP dC dI a kd sz pr we) [.ref a]) (vp_Si (fun r_ => r_ = pr)) 0 0 (fun _ => False) := by
  refine x_in (by decide) rfl (Nat.le_of_ble_eq_true rfl) (lv := [(0, .ref a)]) rfl ?_
  intro p e s m below meth c X hN hnm hr hlk hV ls hl
  refine lv_aload_n X.1 X.2.1 dX6_lets_0 rfl (lv_at hl 0 rfl) ?_
  refine vw_get X K hV 1 (by decide) q338 rfl dX6_lets_1 ?_
  exact rv_ri X.1 X.2.1 hr hlk dX6_lets_4 rfl
theorem vw_X6_first (l : Launch) (dC : Nat → ClassId) (dI : Nat → Nat → Nat) (dA : Nat → ClassId) (a : Nat) {kd : Nat} {C : String} {T : u_T} (K : vwK kd C T) (sz pr we : Int32) : Met l yX6_first (ws_ yX6_first cX6_first 1 (some .int)) { frames := 1, cells := 0, slots := 0, locals := 60 } (xPc dC dI dA (vwP dC dI a kd sz pr we) [.ref a]) (vp_Si (fun r_ => r_ = we)) 0 0 (fun _ => False) := by
  refine x_in (by decide) rfl (Nat.le_of_ble_eq_true rfl) (lv := [(0, .ref a)]) rfl ?_
  intro p e s m below meth c X hN hnm hr hlk hV ls hl
  refine lv_aload_n X.1 X.2.1 dX6_first_0 rfl (lv_at hl 0 rfl) ?_
  refine vw_get X K hV 2 (by decide) q340 rfl dX6_first_1 ?_
  exact rv_ri X.1 X.2.1 hr hlk dX6_first_4 rfl
theorem vw_X6_fits (l : Launch) (dC : Nat → ClassId) (dI : Nat → Nat → Nat) (dA : Nat → ClassId) (a : Nat) {kd : Nat} {C : String} {T : u_T} (K : vwK kd C T) (sz pr we : Int32) (wl : Int32) : Met l yX6_fits (ws_ yX6_fits cX6_fits 2 (some .boolean)) { frames := 1, cells := 0, slots := 0, locals := 60 } (xPc dC dI dA (vwP dC dI a kd sz pr we) [.ref a, .int wl]) (vp_Si (fun r_ => r_ = (rb_i (decide (sz ≤ wl))))) 0 0 (fun _ => False) := by
  refine x_in (by decide) rfl (Nat.le_of_ble_eq_true rfl) (lv := [(0, .ref a), (1, .int wl)]) rfl ?_
  intro p e s m below meth c X hN hnm hr hlk hV ls hl
  refine lv_aload_n X.1 X.2.1 dX6_fits_0 rfl (lv_at hl 0 rfl) ?_
  refine vw_get X K hV 0 (by decide) q336 rfl dX6_fits_1 ?_
  refine lv_iload_n X.1 X.2.1 dX6_fits_4 rfl (lv_at hl 1 rfl) ?_
  refine lv_icmp_gt (tgt := 12) X.1 X.2.1 dX6_fits_5 (by decide) (fun (c_5 : wl < sz) => ?_) (fun (c_5 : ¬ wl < sz) => ?_)
  · refine lv_iconst (v := nI 0) X.1 X.2.1 dX6_fits_12 rfl ?_
    exact rv_rz X.1 X.2.1 hr hlk rfl dX6_fits_13 (by first | exact rb_is0 (by simpa using c_5) | exact rb_is1 (by simpa using c_5))
  · refine lv_iconst (v := nI 1) X.1 X.2.1 dX6_fits_8 rfl ?_
    refine lv_goto (tgt := 13) X.1 X.2.1 dX6_fits_9 (by decide) ?_
    exact rv_rz X.1 X.2.1 hr hlk rfl dX6_fits_13 (by first | exact rb_is0 (by simpa using c_5) | exact rb_is1 (by simpa using c_5))
theorem vw_X6_shows (l : Launch) (dC : Nat → ClassId) (dI : Nat → Nat → Nat) (dA : Nat → ClassId) (a : Nat) {kd : Nat} {C : String} {T : u_T} (K : vwK kd C T) (sz pr we : Int32) (ev : Int32) : Met l yX6_shows (ws_ yX6_shows cX6_shows 2 (some .int)) { frames := 1, cells := 0, slots := 0, locals := 60 } (xPc dC dI dA (vwP dC dI a kd sz pr we) [.ref a, .int ev]) (vp_Si (fun r_ => r_ = (rv_rem6 (we + ev)))) 0 0 (fun _ => False) := by
  refine x_in (by decide) rfl (Nat.le_of_ble_eq_true rfl) (lv := [(0, .ref a), (1, .int ev)]) rfl ?_
  intro p e s m below meth c X hN hnm hr hlk hV ls hl
  refine lv_aload_n X.1 X.2.1 dX6_shows_0 rfl (lv_at hl 0 rfl) ?_
  refine vw_get X K hV 2 (by decide) q340 rfl dX6_shows_1 ?_
  refine lv_iload_n X.1 X.2.1 dX6_shows_4 rfl (lv_at hl 1 rfl) ?_
  refine lv_iadd X.1 X.2.1 dX6_shows_5 ?_
  refine lv_bipush (v := nI 6) X.1 X.2.1 dX6_shows_6 rfl ?_
  refine lv_irem X.1 X.2.1 dX6_shows_8 (by decide) ?_
  exact rv_ri X.1 X.2.1 hr hlk dX6_shows_9 rfl
theorem vw_X7_kind (l : Launch) (dC : Nat → ClassId) (dI : Nat → Nat → Nat) (dA : Nat → ClassId) (a : Nat) {kd : Nat} {C : String} {T : u_T} (K : vwK kd C T) (sz pr we : Int32) : Met l yX7_kind (ws_ yX7_kind cX7_kind 1 (some .int)) { frames := 1, cells := 0, slots := 0, locals := 60 } (xPc dC dI dA (vwP dC dI a kd sz pr we) [.ref a]) (vp_Si (fun r_ => r_ = 1)) 0 0 (fun _ => False) := by
  refine x_in (by decide) rfl (Nat.le_of_ble_eq_true rfl) (lv := [(0, .ref a)]) rfl ?_
  intro p e s m below meth c X hN hnm hr hlk hV ls hl
  refine lv_iconst (v := nI 1) X.1 X.2.1 dX7_kind_0 rfl ?_
  exact rv_ri X.1 X.2.1 hr hlk dX7_kind_1 rfl
theorem vw_X8_kind (l : Launch) (dC : Nat → ClassId) (dI : Nat → Nat → Nat) (dA : Nat → ClassId) (a : Nat) {kd : Nat} {C : String} {T : u_T} (K : vwK kd C T) (sz pr we : Int32) : Met l yX8_kind (ws_ yX8_kind cX8_kind 1 (some .int)) { frames := 1, cells := 0, slots := 0, locals := 60 } (xPc dC dI dA (vwP dC dI a kd sz pr we) [.ref a]) (vp_Si (fun r_ => r_ = 2)) 0 0 (fun _ => False) := by
  refine x_in (by decide) rfl (Nat.le_of_ble_eq_true rfl) (lv := [(0, .ref a)]) rfl ?_
  intro p e s m below meth c X hN hnm hr hlk hV ls hl
  refine lv_iconst (v := nI 2) X.1 X.2.1 dX8_kind_0 rfl ?_
  exact rv_ri X.1 X.2.1 hr hlk dX8_kind_1 rfl
theorem vw_X9_kind (l : Launch) (dC : Nat → ClassId) (dI : Nat → Nat → Nat) (dA : Nat → ClassId) (a : Nat) {kd : Nat} {C : String} {T : u_T} (K : vwK kd C T) (sz pr we : Int32) : Met l yX9_kind (ws_ yX9_kind cX9_kind 1 (some .int)) { frames := 1, cells := 0, slots := 0, locals := 60 } (xPc dC dI dA (vwP dC dI a kd sz pr we) [.ref a]) (vp_Si (fun r_ => r_ = 3)) 0 0 (fun _ => False) := by
  refine x_in (by decide) rfl (Nat.le_of_ble_eq_true rfl) (lv := [(0, .ref a)]) rfl ?_
  intro p e s m below meth c X hN hnm hr hlk hV ls hl
  refine lv_iconst (v := nI 3) X.1 X.2.1 dX9_kind_0 rfl ?_
  exact rv_ri X.1 X.2.1 hr hlk dX9_kind_1 rfl
theorem vw_X10_kind (l : Launch) (dC : Nat → ClassId) (dI : Nat → Nat → Nat) (dA : Nat → ClassId) (a : Nat) {kd : Nat} {C : String} {T : u_T} (K : vwK kd C T) (sz pr we : Int32) : Met l yX10_kind (ws_ yX10_kind cX10_kind 1 (some .int)) { frames := 1, cells := 0, slots := 0, locals := 60 } (xPc dC dI dA (vwP dC dI a kd sz pr we) [.ref a]) (vp_Si (fun r_ => r_ = 4)) 0 0 (fun _ => False) := by
  refine x_in (by decide) rfl (Nat.le_of_ble_eq_true rfl) (lv := [(0, .ref a)]) rfl ?_
  intro p e s m below meth c X hN hnm hr hlk hV ls hl
  refine lv_iconst (v := nI 4) X.1 X.2.1 dX10_kind_0 rfl ?_
  exact rv_ri X.1 X.2.1 hr hlk dX10_kind_1 rfl
theorem vw_X11_kind (l : Launch) (dC : Nat → ClassId) (dI : Nat → Nat → Nat) (dA : Nat → ClassId) (a : Nat) {kd : Nat} {C : String} {T : u_T} (K : vwK kd C T) (sz pr we : Int32) : Met l yX11_kind (ws_ yX11_kind cX11_kind 1 (some .int)) { frames := 1, cells := 0, slots := 0, locals := 60 } (xPc dC dI dA (vwP dC dI a kd sz pr we) [.ref a]) (vp_Si (fun r_ => r_ = 5)) 0 0 (fun _ => False) := by
  refine x_in (by decide) rfl (Nat.le_of_ble_eq_true rfl) (lv := [(0, .ref a)]) rfl ?_
  intro p e s m below meth c X hN hnm hr hlk hV ls hl
  refine lv_iconst (v := nI 5) X.1 X.2.1 dX11_kind_0 rfl ?_
  exact rv_ri X.1 X.2.1 hr hlk dX11_kind_1 rfl
theorem vw_X7_shows (l : Launch) (dC : Nat → ClassId) (dI : Nat → Nat → Nat) (dA : Nat → ClassId) (a : Nat) {kd : Nat} {C : String} {T : u_T} (K : vwK kd C T) (sz pr we : Int32) (ev : Int32) : Met l yX7_shows (ws_ yX7_shows cX7_shows 2 (some .int)) { frames := 2, cells := 0, slots := 0, locals := 120 } (xPc dC dI dA (vwP dC dI a kd sz pr we) [.ref a, .int ev]) (vp_Si (fun r_ => r_ = (rv_rem6 (we + 2 * ev)))) 0 0 (fun _ => False) := by
  refine x_in (by decide) rfl (Nat.le_of_ble_eq_true rfl) (lv := [(0, .ref a), (1, .int ev)]) rfl ?_
  intro p e s m below meth c X hN hnm hr hlk hV ls hl
  refine lv_aload_n X.1 X.2.1 dX7_shows_0 rfl (lv_at hl 0 rfl) ?_
  refine lv_iconst (v := nI 2) X.1 X.2.1 dX7_shows_1 rfl ?_
  refine lv_iload_n X.1 X.2.1 dX7_shows_2 rfl (lv_at hl 1 rfl) ?_
  refine lv_imul X.1 X.2.1 dX7_shows_3 ?_
  refine x_cSe (x_runSU (vw_cls X.2.2.2.2.2 K) X hN hV (As := [.int (2 * ev)]) (rest := []) (vw_X6_shows l dC dI dA a K sz pr we (2 * ev)) xku_X7_7 (vw_recv X.2.2.2.2.2 K hV) rfl rfl ⟨Nat.le_of_ble_eq_true rfl, Nat.le_of_ble_eq_true rfl⟩ hl.1 (Nat.le_of_ble_eq_true rfl) dX7_shows_4 ⟨Nat.zero_le _, Nat.zero_le _⟩) ?_
  exact rv_ri X.1 X.2.1 hr hlk dX7_shows_7 rfl
theorem vw_X8_lets (l : Launch) (dC : Nat → ClassId) (dI : Nat → Nat → Nat) (dA : Nat → ClassId) (a : Nat) {kd : Nat} {C : String} {T : u_T} (K : vwK kd C T) (sz pr we : Int32) : Met l yX8_lets (ws_ yX8_lets cX8_lets 1 (some .int)) { frames := 2, cells := 0, slots := 0, locals := 120 } (xPc dC dI dA (vwP dC dI a kd sz pr we) [.ref a]) (vp_Si (fun r_ => r_ = (2 * pr))) 0 0 (fun _ => False) := by
  refine x_in (by decide) rfl (Nat.le_of_ble_eq_true rfl) (lv := [(0, .ref a)]) rfl ?_
  intro p e s m below meth c X hN hnm hr hlk hV ls hl
  refine lv_iconst (v := nI 2) X.1 X.2.1 dX8_lets_0 rfl ?_
  refine lv_aload_n X.1 X.2.1 dX8_lets_1 rfl (lv_at hl 0 rfl) ?_
  refine x_cSe (x_runSU (vw_cls X.2.2.2.2.2 K) X hN hV (As := []) (rest := [.int (nI 2)]) (vw_X6_lets l dC dI dA a K sz pr we) xku_X8_11 (vw_recv X.2.2.2.2.2 K hV) rfl rfl ⟨Nat.le_of_ble_eq_true rfl, Nat.le_of_ble_eq_true rfl⟩ hl.1 (Nat.le_of_ble_eq_true rfl) dX8_lets_2 ⟨Nat.zero_le _, Nat.zero_le _⟩) ?_
  refine lv_imul X.1 X.2.1 dX8_lets_5 ?_
  exact rv_ri X.1 X.2.1 hr hlk dX8_lets_6 rfl
theorem vw_X8_shows (l : Launch) (dC : Nat → ClassId) (dI : Nat → Nat → Nat) (dA : Nat → ClassId) (a : Nat) {kd : Nat} {C : String} {T : u_T} (K : vwK kd C T) (sz pr we : Int32) (ev : Int32) : Met l yX8_shows (ws_ yX8_shows cX8_shows 3 (some .int)) { frames := 2, cells := 0, slots := 0, locals := 120 } (xPc dC dI dA (vwP dC dI a kd sz pr we) [.ref a, .int ev]) (vp_Si (fun r_ => r_ = (if rv_rem6 (we + ev) = 1 then 0 else rv_rem6 (we + ev)))) 0 0 (fun _ => False) := by
  refine x_in (by decide) rfl (Nat.le_of_ble_eq_true rfl) (lv := [(0, .ref a), (1, .int ev)]) rfl ?_
  intro p e s m below meth c X hN hnm hr hlk hV ls hl
  refine lv_aload_n X.1 X.2.1 dX8_shows_0 rfl (lv_at hl 0 rfl) ?_
  refine lv_iload_n X.1 X.2.1 dX8_shows_1 rfl (lv_at hl 1 rfl) ?_
  refine x_cSe (x_runSU (vw_cls X.2.2.2.2.2 K) X hN hV (As := [.int ev]) (rest := []) (vw_X6_shows l dC dI dA a K sz pr we ev) xku_X8_7 (vw_recv X.2.2.2.2.2 K hV) rfl rfl ⟨Nat.le_of_ble_eq_true rfl, Nat.le_of_ble_eq_true rfl⟩ hl.1 (Nat.le_of_ble_eq_true rfl) dX8_shows_2 ⟨Nat.zero_le _, Nat.zero_le _⟩) ?_
  refine lv_istore_n (lv' := [(2, .int (rv_rem6 (we + ev))), (0, .ref a), (1, .int ev)]) X.1 X.2.1 dX8_shows_5 rfl hl (by decide) rfl (fun ls hl => ?_)
  refine lv_iload_n X.1 X.2.1 dX8_shows_6 rfl (lv_at hl 0 rfl) ?_
  refine lv_iconst (v := nI 1) X.1 X.2.1 dX8_shows_7 rfl ?_
  refine lv_icmp_ne (tgt := 15) X.1 X.2.1 dX8_shows_8 (by decide) (fun (c_8 : ¬ rv_rem6 (we + ev) = 1) => ?_) (fun (c_8 : rv_rem6 (we + ev) = 1) => ?_)
  · refine lv_iload_n X.1 X.2.1 dX8_shows_15 rfl (lv_at hl 0 rfl) ?_
    exact rv_ri X.1 X.2.1 hr hlk dX8_shows_16 (by simp_all; try rfl)
  · refine lv_iconst (v := nI 0) X.1 X.2.1 dX8_shows_11 rfl ?_
    refine lv_goto (tgt := 16) X.1 X.2.1 dX8_shows_12 (by decide) ?_
    exact rv_ri X.1 X.2.1 hr hlk dX8_shows_16 (by simp_all; try rfl)
theorem vw_X9_lets (l : Launch) (dC : Nat → ClassId) (dI : Nat → Nat → Nat) (dA : Nat → ClassId) (a : Nat) {kd : Nat} {C : String} {T : u_T} (K : vwK kd C T) (sz pr we : Int32) : Met l yX9_lets (ws_ yX9_lets cX9_lets 1 (some .int)) { frames := 2, cells := 0, slots := 0, locals := 120 } (xPc dC dI dA (vwP dC dI a kd sz pr we) [.ref a]) (vp_Si (fun r_ => r_ = (pr + 10))) 0 0 (fun _ => False) := by
  refine x_in (by decide) rfl (Nat.le_of_ble_eq_true rfl) (lv := [(0, .ref a)]) rfl ?_
  intro p e s m below meth c X hN hnm hr hlk hV ls hl
  refine lv_aload_n X.1 X.2.1 dX9_lets_0 rfl (lv_at hl 0 rfl) ?_
  refine x_cSe (x_runSU (vw_cls X.2.2.2.2.2 K) X hN hV (As := []) (rest := []) (vw_X6_lets l dC dI dA a K sz pr we) xku_X9_13 (vw_recv X.2.2.2.2.2 K hV) rfl rfl ⟨Nat.le_of_ble_eq_true rfl, Nat.le_of_ble_eq_true rfl⟩ hl.1 (Nat.le_of_ble_eq_true rfl) dX9_lets_1 ⟨Nat.zero_le _, Nat.zero_le _⟩) ?_
  refine lv_bipush (v := nI 10) X.1 X.2.1 dX9_lets_4 rfl ?_
  refine lv_iadd X.1 X.2.1 dX9_lets_6 ?_
  exact rv_ri X.1 X.2.1 hr hlk dX9_lets_7 rfl
theorem vw_X9_shows_3 (l : Launch) (dC : Nat → ClassId) (dI : Nat → Nat → Nat) (dA : Nat → ClassId) (a : Nat) (sz pr we : Int32) (ev : Int32) : Met l yX9_shows (ws_ yX9_shows cX9_shows 2 (some .int)) { frames := 2, cells := 0, slots := 0, locals := 120 } (xPc dC dI dA (vwP dC dI a 3 sz pr we) [.ref a, .int ev]) (vp_Si (fun r_ => r_ = we)) 0 0 (fun _ => False) := by
  refine x_in (by decide) rfl (Nat.le_of_ble_eq_true rfl) (lv := [(0, .ref a), (1, .int ev)]) rfl ?_
  intro p e s m below meth c X hN hnm hr hlk hV ls hl
  refine lv_aload_n X.1 X.2.1 dX9_shows_0 rfl (lv_at hl 0 rfl) ?_
  refine x_cSe (x_runO X hN hV (As := []) (rest := []) (vw_X6_first l dC dI dA a vwK3 sz pr we) xko_X9_7_X9 (vw_recv X.2.2.2.2.2 vwK3 hV) rfl rfl ⟨Nat.le_of_ble_eq_true rfl, Nat.le_of_ble_eq_true rfl⟩ hl.1 (Nat.le_of_ble_eq_true rfl) dX9_shows_1 ⟨Nat.zero_le _, Nat.zero_le _⟩) ?_
  exact rv_ri X.1 X.2.1 hr hlk dX9_shows_4 rfl
theorem vw_X9_shows_5 (l : Launch) (dC : Nat → ClassId) (dI : Nat → Nat → Nat) (dA : Nat → ClassId) (a : Nat) (sz pr we : Int32) (ev : Int32) : Met l yX9_shows (ws_ yX9_shows cX9_shows 2 (some .int)) { frames := 2, cells := 0, slots := 0, locals := 120 } (xPc dC dI dA (vwP dC dI a 5 sz pr we) [.ref a, .int ev]) (vp_Si (fun r_ => r_ = we)) 0 0 (fun _ => False) := by
  refine x_in (by decide) rfl (Nat.le_of_ble_eq_true rfl) (lv := [(0, .ref a), (1, .int ev)]) rfl ?_
  intro p e s m below meth c X hN hnm hr hlk hV ls hl
  refine lv_aload_n X.1 X.2.1 dX9_shows_0 rfl (lv_at hl 0 rfl) ?_
  refine x_cSe (x_runO X hN hV (As := []) (rest := []) (vw_X6_first l dC dI dA a vwK5 sz pr we) xko_X9_7_X11 (vw_recv X.2.2.2.2.2 vwK5 hV) rfl rfl ⟨Nat.le_of_ble_eq_true rfl, Nat.le_of_ble_eq_true rfl⟩ hl.1 (Nat.le_of_ble_eq_true rfl) dX9_shows_1 ⟨Nat.zero_le _, Nat.zero_le _⟩) ?_
  exact rv_ri X.1 X.2.1 hr hlk dX9_shows_4 rfl
theorem vw_X10_lets (l : Launch) (dC : Nat → ClassId) (dI : Nat → Nat → Nat) (dA : Nat → ClassId) (a : Nat) {kd : Nat} {C : String} {T : u_T} (K : vwK kd C T) (sz pr we : Int32) : Met l yX10_lets (ws_ yX10_lets cX10_lets 1 (some .int)) { frames := 2, cells := 0, slots := 0, locals := 120 } (xPc dC dI dA (vwP dC dI a kd sz pr we) [.ref a]) (vp_Si (fun r_ => r_ = (pr / 2))) 0 0 (fun _ => False) := by
  refine x_in (by decide) rfl (Nat.le_of_ble_eq_true rfl) (lv := [(0, .ref a)]) rfl ?_
  intro p e s m below meth c X hN hnm hr hlk hV ls hl
  refine lv_aload_n X.1 X.2.1 dX10_lets_0 rfl (lv_at hl 0 rfl) ?_
  refine x_cSe (x_runSU (vw_cls X.2.2.2.2.2 K) X hN hV (As := []) (rest := []) (vw_X6_lets l dC dI dA a K sz pr we) xku_X10_7 (vw_recv X.2.2.2.2.2 K hV) rfl rfl ⟨Nat.le_of_ble_eq_true rfl, Nat.le_of_ble_eq_true rfl⟩ hl.1 (Nat.le_of_ble_eq_true rfl) dX10_lets_1 ⟨Nat.zero_le _, Nat.zero_le _⟩) ?_
  refine lv_iconst (v := nI 2) X.1 X.2.1 dX10_lets_4 rfl ?_
  refine lv_idiv X.1 X.2.1 dX10_lets_5 (by decide) ?_
  exact rv_ri X.1 X.2.1 hr hlk dX10_lets_6 rfl
theorem vw_X10_fits (l : Launch) (dC : Nat → ClassId) (dI : Nat → Nat → Nat) (dA : Nat → ClassId) (a : Nat) {kd : Nat} {C : String} {T : u_T} (K : vwK kd C T) (sz pr we : Int32) (wl : Int32) : Met l yX10_fits (ws_ yX10_fits cX10_fits 2 (some .boolean)) { frames := 1, cells := 0, slots := 0, locals := 60 } (xPc dC dI dA (vwP dC dI a kd sz pr we) [.ref a, .int wl]) (vp_Si (fun r_ => r_ = (rb_i true))) 0 0 (fun _ => False) := by
  refine x_in (by decide) rfl (Nat.le_of_ble_eq_true rfl) (lv := [(0, .ref a), (1, .int wl)]) rfl ?_
  intro p e s m below meth c X hN hnm hr hlk hV ls hl
  refine lv_iconst (v := nI 1) X.1 X.2.1 dX10_fits_0 rfl ?_
  exact rv_rz X.1 X.2.1 hr hlk rfl dX10_fits_1 rfl
theorem vw_X11_lets (l : Launch) (dC : Nat → ClassId) (dI : Nat → Nat → Nat) (dA : Nat → ClassId) (a : Nat) {kd : Nat} {C : String} {T : u_T} (K : vwK kd C T) (sz pr we : Int32) : Met l yX11_lets (ws_ yX11_lets cX11_lets 1 (some .int)) { frames := 3, cells := 0, slots := 0, locals := 180 } (xPc dC dI dA (vwP dC dI a kd sz pr we) [.ref a]) (vp_Si (fun r_ => r_ = pr)) 0 0 (fun _ => False) := by
  refine x_in (by decide) rfl (Nat.le_of_ble_eq_true rfl) (lv := [(0, .ref a)]) rfl ?_
  intro p e s m below meth c X hN hnm hr hlk hV ls hl
  refine lv_aload_n X.1 X.2.1 dX11_lets_0 rfl (lv_at hl 0 rfl) ?_
  refine x_cSe (x_runSU (vw_cls X.2.2.2.2.2 K) X hN hV (As := []) (rest := []) (vw_X9_lets l dC dI dA a K sz pr we) xku_X11_11 (vw_recv X.2.2.2.2.2 K hV) rfl rfl ⟨Nat.le_of_ble_eq_true rfl, Nat.le_of_ble_eq_true rfl⟩ hl.1 (Nat.le_of_ble_eq_true rfl) dX11_lets_1 ⟨Nat.zero_le _, Nat.zero_le _⟩) ?_
  refine lv_bipush (v := nI 10) X.1 X.2.1 dX11_lets_4 rfl ?_
  refine lv_isub X.1 X.2.1 dX11_lets_6 ?_
  exact rv_ri X.1 X.2.1 hr hlk dX11_lets_7 (show pr + 10 - 10 = pr from Int32.add_sub_cancel _ _)
theorem vw_X11_shows_5 (l : Launch) (dC : Nat → ClassId) (dI : Nat → Nat → Nat) (dA : Nat → ClassId) (a : Nat) (sz pr we : Int32) (ev : Int32) : Met l yX11_shows (ws_ yX11_shows cX11_shows 2 (some .int)) { frames := 3, cells := 0, slots := 0, locals := 180 } (xPc dC dI dA (vwP dC dI a 5 sz pr we) [.ref a, .int ev]) (vp_Si (fun r_ => r_ = (if ev - ev / 2 * 2 = 1 then 5 else we))) 0 0 (fun _ => False) := by
  refine x_in (by decide) rfl (Nat.le_of_ble_eq_true rfl) (lv := [(0, .ref a), (1, .int ev)]) rfl ?_
  intro p e s m below meth c X hN hnm hr hlk hV ls hl
  refine lv_iload_n X.1 X.2.1 dX11_shows_0 rfl (lv_at hl 1 rfl) ?_
  refine lv_iconst (v := nI 2) X.1 X.2.1 dX11_shows_1 rfl ?_
  refine lv_irem X.1 X.2.1 dX11_shows_2 (by decide) ?_
  refine lv_iconst (v := nI 1) X.1 X.2.1 dX11_shows_3 rfl ?_
  refine lv_icmp_ne (tgt := 11) X.1 X.2.1 dX11_shows_4 (by decide) (fun (c_4 : ¬ ev - ev / 2 * 2 = 1) => ?_) (fun (c_4 : ev - ev / 2 * 2 = 1) => ?_)
  · refine lv_aload_n X.1 X.2.1 dX11_shows_11 rfl (lv_at hl 0 rfl) ?_
    refine lv_iload_n X.1 X.2.1 dX11_shows_12 rfl (lv_at hl 1 rfl) ?_
    refine x_cSe (x_runSU (vw_cls X.2.2.2.2.2 vwK5) X hN hV (As := [.int ev]) (rest := []) (vw_X9_shows_5 l dC dI dA a sz pr we ev) xku_X11_7 (vw_recv X.2.2.2.2.2 vwK5 hV) rfl rfl ⟨Nat.le_of_ble_eq_true rfl, Nat.le_of_ble_eq_true rfl⟩ hl.1 (Nat.le_of_ble_eq_true rfl) dX11_shows_13 ⟨Nat.zero_le _, Nat.zero_le _⟩) ?_
    exact rv_ri X.1 X.2.1 hr hlk dX11_shows_16 (by simp_all; try rfl)
  · refine lv_iconst (v := nI 5) X.1 X.2.1 dX11_shows_7 rfl ?_
    refine lv_goto (tgt := 16) X.1 X.2.1 dX11_shows_8 (by decide) ?_
    exact rv_ri X.1 X.2.1 hr hlk dX11_shows_16 (by simp_all; try rfl)
