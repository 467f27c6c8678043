set_option maxRecDepth 100000
/-! the component: numbers that are taken -/
theorem xkv_X3_61 : xKV RX3 yX3_wants cX3_wants 2 none 61 1 := ⟨q453, q455, qs7, q64, q456, by decide +kernel⟩
theorem xksn_X3_57 : xKSN RX3 "RentedViews" yX0_in cX0_in 6 (some .boolean) 57 3 := ⟨q582, q305, q61, q306, by decide +kernel⟩
theorem xkv_X3_65 : xKV RX3 yX3_scans cX3_scans 1 none 65 0 := ⟨q441, q443, qs4, q64, q444, by decide +kernel⟩
theorem x_X3_takes (l : Launch) (dC : Nat → ClassId) (dI : Nat → Nat → Nat) (dA : Nat → ClassId) (n : Nat) (ξ : mdT) (V : Nat → Option Nat) (V2 : Nat → Option Nat) (im : Nat → Option Nat) (ab : Int64) (be : Int64) (adK adV : Nat → Nat) (fm us sb : Nat) (z : Nat) (lo : Int32) (hi : Int32) (ty : Nat) (ht : ξ 0 0 = nI ty) (ht6 : ty ≤ 150) (tx : Nat → Int32) (hT : ∀ k_, k_ < ty → ξ 88 k_ = tx k_) (p_ : Nat) (hp : p_ ≤ ty) (hat : rdAt tx ty p_ ξ) (hnz : n ≤ z) : MetT l yX3_takes (ws_ yX3_takes cX3_takes 4 (some .int)) { frames := 5, cells := 1, slots := 7, locals := 300 } (xPz dC dI dA (xZr n adK adV fm us sb) (fun H => bkP dC dI n 96 (xE dA n ξ V V2 im ab be) H ∧ z ≤ H.size) [.ref (n + 90), .int lo, .int hi]) (xQT (tkT tx ty p_ lo hi) (xQi (S := mdT) (fun r_ u => r_ = tkV tx ty p_ ∧ rdFr ξ u ∧ rdAt tx ty (tkN tx ty p_) u) (fun u => (bkP dC dI n 96 (xE dA n u V V2 im ab be))) (fun q => bkA n 96 q ∨ z ≤ q)) (xEf dC dI (bkP dC dI n 96 (xE dA n ξ V V2 im ab be)) (ξ 90 1)) (fun q => bkA n 96 q ∨ z ≤ q)) 1 7 (fun q => bkA n 96 q ∨ z ≤ q) := by
  refine x_inT (by decide) rfl (Nat.le_of_ble_eq_true rfl) (lv := [(0, .ref (n + 90)), (1, .int lo), (2, .int hi)]) rfl ?_
  intro p e s m below meth c_ X hN hnm hr hlk hne hP hZs ls hl
  obtain ⟨hP, hz0⟩ := hP
  have hS : va_S (fun q => bkA n 96 q ∨ z ≤ q) s.heap s.heap [] := va_S.rf
  have hk5 := tkK_b (T := tx) (tl := ty) (p := p_)
  have hrk := rk_b hk5
  refine lv_aload_n X.1 X.2.1 dX3_takes_0 rfl (lv_at hl 0 rfl) ?_
  refine lv_aload_n X.1 X.2.1 dX3_takes_1 rfl (lv_at hl 0 rfl) ?_
  refine xb_get (C := RX3) (T := TX3) (v := .int (ξ 90 2)) X in_X3 (ci := 3) rfl hP (j := 90) (by decide) (xe_x90 ..) 2 (by decide) q197 rfl rfl dX3_takes_2 ?_
  refine rn_co (y := nI (rk (tkK tx ty p_))) hat.2.2.1 ?_
  refine lv_iconst (v := nI 2) X.1 X.2.1 dX3_takes_5 rfl ?_
  refine rn_icmp_ne (tgt := 28) X.1 X.2.1 (by omega) (by omega) dX3_takes_6 (by decide) (fun c_6 => ?_) (fun c_6 => ?_)
  · refine lv_iconst (v := nI 0) X.1 X.2.1 dX3_takes_28 rfl ?_
    skip
    exact x_prop (x_runVT (xZr_w n adK adV fm us sb) X hN ⟨hP, Nat.le_refl _⟩ (hZs.at hS hnz) (As := [.int (rb_i false)]) (rest := []) (x_X3_wants l dC dI dA n ξ V V2 im ab be adK adV fm us sb s.heap.size false) rfl xkv_X3_61 (x_recv (ci := 3) X.2.2.2.2.2 hP (j := 90) (by decide) (xe_x90 ..) rfl) rfl rfl ⟨Nat.le_of_ble_eq_true rfl, Nat.le_of_ble_eq_true rfl⟩ hl.1 (Nat.le_of_ble_eq_true rfl) dX3_takes_29 ⟨Nat.le_of_ble_eq_true rfl, Nat.le_of_ble_eq_true rfl⟩) hne hlk hS (fun q h => h.elim Or.inl (fun h => Or.inr (Nat.le_trans (Nat.le_trans hz0 hS.1) h))) (fun q h => h.elim Or.inl (fun h => Or.inr (Nat.le_trans (Nat.le_trans hz0 hS.1) h))) (by show (decide _ && _) = false; first | (rw [decide_eq_false (fun z_ => c_6 ((rk2 hk5).mpr z_))]; rfl) | (rw [← hat.2.2.2 ((rk2 hk5).mp c_6), c_21, Bool.and_false])) (fun _ _ h _ _ => h) (Nat.le_of_ble_eq_true rfl) (Nat.le_of_ble_eq_true rfl)
  · refine lv_aload_n X.1 X.2.1 dX3_takes_9 rfl (lv_at hl 0 rfl) ?_
    refine xb_get (C := RX3) (T := TX3) (v := .int (ξ 90 3)) X in_X3 (ci := 3) rfl hP (j := 90) (by decide) (xe_x90 ..) 3 (by decide) q198 rfl rfl dX3_takes_10 ?_
    refine lv_i2l X.1 X.2.1 dX3_takes_13 rfl ?_
    refine lv_iload_n X.1 X.2.1 dX3_takes_14 rfl (lv_at hl 1 rfl) ?_
    refine lv_i2l X.1 X.2.1 dX3_takes_15 rfl ?_
    refine lv_iload_n X.1 X.2.1 dX3_takes_16 rfl (lv_at hl 2 rfl) ?_
    refine lv_i2l X.1 X.2.1 dX3_takes_17 rfl ?_
    refine x_cSe (x_runSpN X hN (As := [.long (Int32.toInt64 (ξ 90 3)), .long (Int32.toInt64 lo), .long (Int32.toInt64 hi)]) (rest := [.ref (n + 90)]) (x_X0_in l (Int32.toInt64 (ξ 90 3)) (Int32.toInt64 lo) (Int32.toInt64 hi)) xksn_X3_57 rfl rfl ⟨Nat.le_of_ble_eq_true rfl, Nat.le_of_ble_eq_true rfl⟩ hl.1 (Nat.le_of_ble_eq_true rfl) dX3_takes_18 ⟨Nat.le_of_ble_eq_true rfl, Nat.le_of_ble_eq_true rfl⟩) ?_
    refine rn_zt (tgt := 28) X.1 X.2.1 dX3_takes_21 (by decide) (fun c_21 => ?_) (fun c_21 => ?_)
    · refine lv_iconst (v := nI 0) X.1 X.2.1 dX3_takes_28 rfl ?_
      skip
      exact x_prop (x_runVT (xZr_w n adK adV fm us sb) X hN ⟨hP, Nat.le_refl _⟩ (hZs.at hS hnz) (As := [.int (rb_i false)]) (rest := []) (x_X3_wants l dC dI dA n ξ V V2 im ab be adK adV fm us sb s.heap.size false) rfl xkv_X3_61 (x_recv (ci := 3) X.2.2.2.2.2 hP (j := 90) (by decide) (xe_x90 ..) rfl) rfl rfl ⟨Nat.le_of_ble_eq_true rfl, Nat.le_of_ble_eq_true rfl⟩ hl.1 (Nat.le_of_ble_eq_true rfl) dX3_takes_29 ⟨Nat.le_of_ble_eq_true rfl, Nat.le_of_ble_eq_true rfl⟩) hne hlk hS (fun q h => h.elim Or.inl (fun h => Or.inr (Nat.le_trans (Nat.le_trans hz0 hS.1) h))) (fun q h => h.elim Or.inl (fun h => Or.inr (Nat.le_trans (Nat.le_trans hz0 hS.1) h))) (by show (decide _ && _) = false; first | (rw [decide_eq_false (fun z_ => c_6 ((rk2 hk5).mpr z_))]; rfl) | (rw [← hat.2.2.2 ((rk2 hk5).mp c_6), c_21, Bool.and_false])) (fun _ _ h _ _ => h) (Nat.le_of_ble_eq_true rfl) (Nat.le_of_ble_eq_true rfl)
    · refine lv_iconst (v := nI 1) X.1 X.2.1 dX3_takes_24 rfl ?_
      refine lv_goto (tgt := 29) X.1 X.2.1 dX3_takes_25 (by decide) ?_
      refine x_cWv (x_runVW (xZr_w n adK adV fm us sb) X hN ⟨hP, Nat.le_refl _⟩ (hZs.at hS hnz) (As := [.int (rb_i true)]) (rest := []) (MetT.metb (x_X3_wants l dC dI dA n ξ V V2 im ab be adK adV fm us sb s.heap.size true) rfl xQv_ret) xkv_X3_61 (x_recv (ci := 3) X.2.2.2.2.2 hP (j := 90) (by decide) (xe_x90 ..) rfl) rfl rfl ⟨Nat.le_of_ble_eq_true rfl, Nat.le_of_ble_eq_true rfl⟩ hl.1 (Nat.le_of_ble_eq_true rfl) dX3_takes_29 ⟨Nat.le_of_ble_eq_true rfl, Nat.le_of_ble_eq_true rfl⟩) hS (fun q h => h.elim Or.inl (fun h => Or.inr (Nat.le_trans (Nat.le_trans hz0 hS.1) h))) (fun q h => h.elim Or.inl (fun h => Or.inr (Nat.le_trans (Nat.le_trans hz0 hS.1) h))) (fun _ H locs _ hP1 hz1 hk1 hS => ?_)
      have hP := hP1
      refine lv_aload_n X.1 X.2.1 dX3_takes_32 rfl (lv_at hl 0 rfl) ?_
      refine xb_get (C := RX3) (T := TX3) (v := .int (ξ 90 3)) X in_X3 (ci := 3) rfl hP (j := 90) (by decide) (xe_x90 ..) 3 (by decide) q198 rfl rfl dX3_takes_33 ?_
      refine lv_istore_n (lv' := [(3, .int (ξ 90 3)), (0, .ref (n + 90)), (1, .int lo), (2, .int hi)]) X.1 X.2.1 dX3_takes_36 rfl hl (by decide) rfl (fun ls hl => ?_)
      refine lv_aload_n X.1 X.2.1 dX3_takes_37 rfl (lv_at hl 1 rfl) ?_
      refine x_cWv (x_runV X hN hP (As := []) (rest := []) (x_X3_scans l dC dI dA n ξ V V2 im ab be ty ht ht6 tx hT (tkN tx ty p_) hat.1 (tkN_b hp)) xkv_X3_65 (x_recv (ci := 3) X.2.2.2.2.2 hP (j := 90) (by decide) (xe_x90 ..) rfl) rfl rfl ⟨Nat.le_of_ble_eq_true rfl, Nat.le_of_ble_eq_true rfl⟩ hl.1 (Nat.le_of_ble_eq_true rfl) dX3_takes_38 ⟨Nat.le_of_ble_eq_true rfl, Nat.le_of_ble_eq_true rfl⟩) hS (fun _ h => Or.inl h) (fun _ h => Or.inl h) (fun u38 H locs hu38 hP1 hz1 hk1 hS => ?_)
      have hP := hP1
      have ht := (congrFun (hu38.1.1 0 (by decide)) 0).trans ht
      have hT := fun k_ h_ => (congrFun (hu38.1.1 88 (by decide)) k_).trans (hT k_ h_)
      refine lv_iload_n X.1 X.2.1 dX3_takes_41 rfl (lv_at hl 0 rfl) ?_
      refine W.pad (cells2 := 1) (slots2 := 7) (Nat.le_of_ble_eq_true rfl) (Nat.le_of_ble_eq_true rfl) ?_
      refine W.monoT (by show (decide _ && _) = true; rw [decide_eq_true ((rk2 hk5).mp c_6), ← hat.2.2.2 ((rk2 hk5).mp c_6), c_21]; rfl) ?_
      exact x_ri u38 X hr hlk hS dX3_takes_42 ⟨hat.2.2.2 ((rk2 hk5).mp c_6), hu38.1, hu38.2⟩ hP
