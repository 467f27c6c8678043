set_option maxRecDepth 100000
/-! the component: an item -/
theorem xksn_X3_99 : xKSN RX3 "RentedViews" yX0_made cX0_made 4 (some (.object "RentedViews$View")) 99 4 := ⟨q583, q325, q61, q326, by decide +kernel⟩
theorem xkv_X3_95 : xKV RX3 yX3_takes cX3_takes 4 (some .int) 95 2 := ⟨q578, q580, qs11, q64, q581, by decide +kernel⟩
theorem xkv_X3_112 : xKV RX3 yX1_comes cX1_comes 4 none 112 3 := ⟨q586, q410, q411, q62, q412, by decide +kernel⟩
theorem xkv_X3_103 : xKV RX3 yX1_hangs cX1_hangs 2 none 103 1 := ⟨q584, q397, q398, q62, q399, by decide +kernel⟩
section RDT
variable {T : Nat → Int32} {tl p : Nat} {A : Nat → Int32}
theorem tv0 (h0 : A 0 = 6) : rv_tv T tl p A = (false, p, A) := by unfold rv_tv; rw [if_pos h0]
theorem tv1 (h0 : ¬ A 0 = 6) (h1 : tkT T tl (tkN T tl p) 0 5 = false) : rv_tv T tl p A = (false, (tkN T tl p), A) := by unfold rv_tv; rw [if_neg h0, if_neg (rv_nf h1)]
theorem tv2 (h0 : ¬ A 0 = 6) (h1 : tkT T tl (tkN T tl p) 0 5 = true) (h2 : tkT T tl (tkN T tl (tkN T tl p)) 1 9 = false) : rv_tv T tl p A = (false, (tkN T tl (tkN T tl p)), A) := by unfold rv_tv; rw [if_neg h0, if_pos h1, if_neg (rv_nf h2)]
theorem tv3 (h0 : ¬ A 0 = 6) (h1 : tkT T tl (tkN T tl p) 0 5 = true) (h2 : tkT T tl (tkN T tl (tkN T tl p)) 1 9 = true) (h3 : tkT T tl (tkN T tl (tkN T tl (tkN T tl p))) 0 99 = false) : rv_tv T tl p A = (false, (tkN T tl (tkN T tl (tkN T tl p))), A) := by unfold rv_tv; rw [if_neg h0, if_pos h1, if_pos h2, if_neg (rv_nf h3)]
theorem tv4 (h0 : ¬ A 0 = 6) (h1 : tkT T tl (tkN T tl p) 0 5 = true) (h2 : tkT T tl (tkN T tl (tkN T tl p)) 1 9 = true) (h3 : tkT T tl (tkN T tl (tkN T tl (tkN T tl p))) 0 99 = true) (h4 : tkT T tl (tkN T tl (tkN T tl (tkN T tl (tkN T tl p)))) 0 5 = false) : rv_tv T tl p A = (false, (tkN T tl (tkN T tl (tkN T tl (tkN T tl p)))), A) := by unfold rv_tv; rw [if_neg h0, if_pos h1, if_pos h2, if_pos h3, if_neg (rv_nf h4)]
theorem tvY (h0 : ¬ A 0 = 6) (h1 : tkT T tl (tkN T tl p) 0 5 = true) (h2 : tkT T tl (tkN T tl (tkN T tl p)) 1 9 = true) (h3 : tkT T tl (tkN T tl (tkN T tl (tkN T tl p))) 0 99 = true) (h4 : tkT T tl (tkN T tl (tkN T tl (tkN T tl (tkN T tl p)))) 0 5 = true) : rv_tv T tl p A = (true, (tkN T tl (tkN T tl (tkN T tl (tkN T tl (tkN T tl p))))), rv_lvf A (rv_cl (A 0)) (tkV T tl (tkN T tl p)) (tkV T tl (tkN T tl (tkN T tl p))) (tkV T tl (tkN T tl (tkN T tl (tkN T tl p)))) (tkV T tl (tkN T tl (tkN T tl (tkN T tl (tkN T tl p)))))) := by unfold rv_tv; rw [if_neg h0, if_pos h1, if_pos h2, if_pos h3, if_pos h4]
theorem tr0 (h0 : A 1 = 6) : rv_tr T tl p A = (false, p, A) := by unfold rv_tr; rw [if_pos h0]
theorem tr1 (h0 : ¬ A 1 = 6) (h1 : tkT T tl (tkN T tl p) 1 9 = false) : rv_tr T tl p A = (false, (tkN T tl p), A) := by unfold rv_tr; rw [if_neg h0, if_neg (rv_nf h1)]
theorem tr2 (h0 : ¬ A 1 = 6) (h1 : tkT T tl (tkN T tl p) 1 9 = true) (h2 : tkT T tl (tkN T tl (tkN T tl p)) 0 999 = false) : rv_tr T tl p A = (false, (tkN T tl (tkN T tl p)), A) := by unfold rv_tr; rw [if_neg h0, if_pos h1, if_neg (rv_nf h2)]
theorem tr3 (h0 : ¬ A 1 = 6) (h1 : tkT T tl (tkN T tl p) 1 9 = true) (h2 : tkT T tl (tkN T tl (tkN T tl p)) 0 999 = true) (h3 : tkT T tl (tkN T tl (tkN T tl (tkN T tl p))) 0 6 = false) : rv_tr T tl p A = (false, (tkN T tl (tkN T tl (tkN T tl p))), A) := by unfold rv_tr; rw [if_neg h0, if_pos h1, if_pos h2, if_neg (rv_nf h3)]
theorem trY (h0 : ¬ A 1 = 6) (h1 : tkT T tl (tkN T tl p) 1 9 = true) (h2 : tkT T tl (tkN T tl (tkN T tl p)) 0 999 = true) (h3 : tkT T tl (tkN T tl (tkN T tl (tkN T tl p))) 0 6 = true) : rv_tr T tl p A = (true, (tkN T tl (tkN T tl (tkN T tl (tkN T tl p)))), rv_lrf A (rv_cl (A 1)) (tkV T tl (tkN T tl p)) (tkV T tl (tkN T tl (tkN T tl p))) (tkV T tl (tkN T tl (tkN T tl (tkN T tl p))))) := by unfold rv_tr; rw [if_neg h0, if_pos h1, if_pos h2, if_pos h3]
theorem tt1 (h1 : tkT T tl (tkN T tl p) 0 (A 0 - 1) = false) : rv_tt T tl p A = (false, (tkN T tl p), A) := by unfold rv_tt; rw [if_neg (rv_nf h1)]
theorem tt2 (h1 : tkT T tl (tkN T tl p) 0 (A 0 - 1) = true) (h2 : tkT T tl (tkN T tl (tkN T tl p)) 0 7 = false) : rv_tt T tl p A = (false, (tkN T tl (tkN T tl p)), A) := by unfold rv_tt; rw [if_pos h1, if_neg (rv_nf h2)]
theorem ttY (h1 : tkT T tl (tkN T tl p) 0 (A 0 - 1) = true) (h2 : tkT T tl (tkN T tl (tkN T tl p)) 0 7 = true) : rv_tt T tl p A = (true, (tkN T tl (tkN T tl (tkN T tl p))), upd A (7 + 6 * rv_cl (tkV T tl (tkN T tl p)) + 5) (A (7 + 6 * rv_cl (tkV T tl (tkN T tl p)) + 5) ||| ((1 : Int32) <<< (tkV T tl (tkN T tl (tkN T tl p)) &&& 31)))) := by unfold rv_tt; rw [if_pos h1, if_pos h2]
end RDT
theorem rdAt.cg {T : Nat → Int32} {tl p : Nat} {u v : mdT} (h : rdAt T tl p v) (e : u 90 = v 90) : rdAt T tl p u := by unfold rdAt; rw [e]; exact h
section RDH
variable {dC : Nat → ClassId} {dI : Nat → Nat → Nat} {dA : Nat → ClassId} {c n many rent kd va : Nat} {T : Nat → Prop} {A g : Nat → Int32} {w u : mdT} {V V2 im : Nat → Option Nat} {ab be : Int64} {H : Heap} {sz pr we x : Int32}
theorem xRa_I {f : Nat → Int32} (h : shR c many rent 0 0 0 0 f u) : shR c many rent 0 0 0 0 f (fun i => mdI w 44 43 u (44 + i)) := h.cg (fun i hi => mdI_in _ _ hi) (fun _ _ => rfl)
theorem rd_hang (hP : bkP dC dI n 96 (xE dA n (mdI w 44 43 u) V (va_up V2 many (some va)) im ab be) H) (hR : shR c (many + 1) rent 0 0 0 0 (upd (rv_lvf (rdF A g) many (nI kd) sz pr we) 6 0) u) (hV : shV dC dI T (many + 1) (rv_lvf (rdF A g) many (nI kd) sz pr we) (va_up V2 many (some va)) H) (hm : many < 6) (h6 : A 6 = nI 0) :
    rdW dC dI dA c T n (rv_lvf A many (nI kd) sz pr we) g (mdI w 44 43 u) V (va_up V2 many (some va)) im ab be H := by
  have e6 : rv_lvf (rdF A g) many (nI kd) sz pr we 6 = 0 := by
    unfold rv_lvf upd
    rw [if_neg (by omega), if_neg (by omega), if_neg (by omega), if_neg (by omega), if_neg (by omega), if_neg (by omega), if_neg (by omega), rdF_lo (by omega), h6]; rfl
  rw [upd_same e6, ← rdF_lvf hm] at hR
  rw [← rdF_lvf hm] at hV
  exact ⟨many + 1, rent, hP, xRa_I hR, hV⟩
theorem rd_comes (hP : bkP dC dI n 96 (xE dA n (mdI w 44 43 u) V V2 im ab be) H) (hR : shR c many (rent + 1) 0 0 0 0 (upd (rv_lrf (rdF A g) rent sz pr we) 6 0) u) (hV : shV dC dI T many (rdF A g) V2 H) (hm : many ≤ 6) (hr : rent < 6) (h6 : A 6 = nI 0) :
    rdW dC dI dA c T n (rv_lrf A rent sz pr we) g (mdI w 44 43 u) V V2 im ab be H := by
  have e6 : rv_lrf (rdF A g) rent sz pr we 6 = 0 := by
    unfold rv_lrf upd
    rw [if_neg (by omega), if_neg (by omega), if_neg (by omega), if_neg (by omega), rdF_lo (by omega), h6]; rfl
  rw [upd_same e6, ← rdF_lrf hr] at hR
  refine ⟨many, rent + 1, hP, xRa_I hR, hV.cg4 (fun v hv j hj => ?_)⟩
  rw [rdF_lrf hr]; unfold rv_lrf upd
  rw [if_neg (by omega), if_neg (by omega), if_neg (by omega), if_neg (by omega)]
theorem rd_thing (hP : bkP dC dI n 96 (xE dA n (mdS w 46 kd x) V V2 im ab be) H) (hR : shR c many rent 0 0 0 0 (rdF A g) (fun i => w (44 + i))) (hV : shV dC dI T many (rdF A g) V2 H) (hk : kd < many) (hm : many ≤ 6) :
    rdW dC dI dA c T n (upd A (7 + 6 * kd + 5) x) g (mdS w 46 kd x) V V2 im ab be H := by
  have h := sh_thing (x := x) hR hk
  rw [← rdF_fn (by omega)] at h
  refine ⟨many, rent, hP, h.cg (fun i hi => ?_) (fun _ _ => rfl), hV.cg4 (fun v hv j hj => ?_)⟩
  · by_cases e : i = 2
    · subst e; rfl
    · rw [mdS_row _ _ _ (by omega), mdS_row _ _ _ e]
  · rw [rdF_fn (by omega)]; unfold upd; rw [if_neg (by omega)]
end RDH
set_option maxHeartbeats 4000000 in
theorem x_X3_item_1 (l : Launch) (dC : Nat → ClassId) (dI : Nat → Nat → Nat) (dA : Nat → ClassId) (n : Nat) (ξ : mdT) (V : Nat → Option Nat) (V2 : Nat → Option Nat) (im : Nat → Option Nat) (ab : Int64) (be : Int64) (adK adV : Nat → Nat) (fm us sb : Nat) (z : Nat) (ty : Nat) (ht : ξ 0 0 = nI ty) (ht6 : ty ≤ 150) (tx : Nat → Int32) (hT : ∀ k_, k_ < ty → ξ 88 k_ = tx k_) (p_ : Nat) (hp : p_ ≤ ty) (hat : rdAt tx ty p_ ξ) (hbg : ξ 90 4 = nI 1) (c : Nat) (A : Nat → Int32) (g : Nat → Int32) (T : Nat → Prop) (hTb : ∀ a_, T a_ → ¬ bkA n 96 a_) (hTz : ∀ a_, z ≤ a_ → T a_) (hnz : n ≤ z) : MetT l yX3_item (ws_ yX3_item cX3_item 4 none) { frames := 6, cells := 7, slots := 60, locals := 360 } (xPz dC dI dA (xZr n adK adV fm us sb) (fun H => rdW dC dI dA c T n A g ξ V V2 im ab be H ∧ H.size = z) [.ref (n + 90)]) (xQT ((rv_item tx ty p_ A).1) (xQv (S := mdT × (Nat → Option Nat)) (fun u => rdX ξ u.1 ∧ rdAt tx ty (rv_item tx ty p_ A).2.1 u.1) (fun u => rdW dC dI dA c T n (rv_item tx ty p_ A).2.2 g u.1 V u.2 im ab be) (fun q => bkA n 96 q ∨ z ≤ q)) (fun x H => (∃ u, rdX ξ u ∧ rdW dC dI dA c T n A g u V V2 im ab be H) ∧ ftP dC dI x (ft0 (nI (tkA tx ty (rv_item tx ty p_ A).2.1))) H) (fun q => bkA n 96 q ∨ z ≤ q)) 7 60 (fun q => bkA n 96 q ∨ z ≤ q) := by
  refine x_inT (by decide) rfl (Nat.le_of_ble_eq_true rfl) (lv := [(0, .ref (n + 90))]) rfl ?_
  intro p e s m below meth c_ X hN hnm hr hlk hne hP hZs ls hl
  obtain ⟨⟨many, rent, hP, hRa, hVa⟩, hze⟩ := hP
  have hz0 : z ≤ s.heap.size := by omega
  have hVa0 := hVa
  have hS : va_S (fun q => bkA n 96 q ∨ z ≤ q) s.heap s.heap [] := va_S.rf
  have hm6 := hRa.m6
  have hr6 := hRa.r6
  have hX := rdX.rf ξ
  have hA0 : A 0 = nI many := (rdF_lo (by decide)).symm.trans hRa.f0
  have hA1 : A 1 = nI rent := (rdF_lo (by decide)).symm.trans hRa.f1
  have hA6 : A 6 = nI 0 := (rdF_lo (by decide)).symm.trans hRa.f6
  have hk5 := tkK_b (T := tx) (tl := ty) (p := p_)
  refine lv_aload_n X.1 X.2.1 dX3_item_0 rfl (lv_at hl 0 rfl) ?_
  refine va_ldcS X.1 X.2.1 X.2.2.2.1 ((hZs.at hS hnz).2.2.2.2.2 0 (by decide)) dX3_item_1 ?_
  refine x_cSe (x_runVW (xZr_w n adK adV fm us sb) X hN hP (hZs.at hS hnz) (As := [.ref (adK 0)]) (rest := []) (x_X3_isWord l dC dI dA n ξ V V2 im ab be adK adV fm us sb ty ht ht6 tx hT p_ hp hat 0 (by decide)) xkv_X3_86 (x_recv (ci := 3) X.2.2.2.2.2 hP (j := 90) (by decide) (xe_x90 ..) rfl) rfl rfl ⟨Nat.le_of_ble_eq_true rfl, Nat.le_of_ble_eq_true rfl⟩ hl.1 (Nat.le_of_ble_eq_true rfl) dX3_item_3 ⟨Nat.le_of_ble_eq_true rfl, Nat.le_of_ble_eq_true rfl⟩) ?_
  refine rn_zt (tgt := 35) X.1 X.2.1 dX3_item_6 (by decide) (fun c_6 => ?_) (fun c_6 => ?_)
  · refine lv_aload_n X.1 X.2.1 dX3_item_35 rfl (lv_at hl 0 rfl) ?_
    refine lv_aload_n X.1 X.2.1 dX3_item_36 rfl (lv_at hl 0 rfl) ?_
    refine xb_get (C := RX3) (T := TX3) (v := .int (ξ 90 4)) X in_X3 (ci := 3) rfl hP (j := 90) (by decide) (xe_x90 ..) 4 (by decide) q199 rfl rfl dX3_item_37 ?_
    refine rn_co (y := nI 1) hbg ?_
    refine x_cWv (x_runVW (xZr_w n adK adV fm us sb) X hN ⟨hP, Nat.le_refl _⟩ (hZs.at hS hnz) (As := [.int (rb_i true)]) (rest := []) (MetT.metb (x_X3_wants l dC dI dA n ξ V V2 im ab be adK adV fm us sb s.heap.size true) rfl xQv_ret) xkv_X3_61 (x_recv (ci := 3) X.2.2.2.2.2 hP (j := 90) (by decide) (xe_x90 ..) rfl) rfl rfl ⟨Nat.le_of_ble_eq_true rfl, Nat.le_of_ble_eq_true rfl⟩ hl.1 (Nat.le_of_ble_eq_true rfl) dX3_item_40 ⟨Nat.le_of_ble_eq_true rfl, Nat.le_of_ble_eq_true rfl⟩) hS (fun q h => h.elim Or.inl (fun h => Or.inr (Nat.le_trans (Nat.le_trans hz0 hS.1) h))) (fun q h => h.elim Or.inl (fun h => Or.inr (Nat.le_trans (Nat.le_trans hz0 hS.1) h))) (fun _ H locs _ hP1 hz1 hk1 hS => ?_)
    have hP := hP1
    have hVa := hVa.step hTb hk1
    refine lv_aload_n X.1 X.2.1 dX3_item_43 rfl (lv_at hl 0 rfl) ?_
    refine va_ldcS X.1 X.2.1 X.2.2.2.1 ((hZs.at hS hnz).2.2.2.2.2 1 (by decide)) dX3_item_44 ?_
    refine x_cSe (x_runVW (xZr_w n adK adV fm us sb) X hN hP (hZs.at hS hnz) (As := [.ref (adK 1)]) (rest := []) (x_X3_isWord l dC dI dA n ξ V V2 im ab be adK adV fm us sb ty ht ht6 tx hT p_ hp hat 1 (by decide)) xkv_X3_86 (x_recv (ci := 3) X.2.2.2.2.2 hP (j := 90) (by decide) (xe_x90 ..) rfl) rfl rfl ⟨Nat.le_of_ble_eq_true rfl, Nat.le_of_ble_eq_true rfl⟩ hl.1 (Nat.le_of_ble_eq_true rfl) dX3_item_46 ⟨Nat.le_of_ble_eq_true rfl, Nat.le_of_ble_eq_true rfl⟩) ?_
    refine rn_zt (tgt := 128) X.1 X.2.1 dX3_item_49 (by decide) (fun c_49 => ?_) (fun c_49 => ?_)
    · refine lv_aload_n X.1 X.2.1 dX3_item_128 rfl (lv_at hl 0 rfl) ?_
      refine va_ldcS X.1 X.2.1 X.2.2.2.1 ((hZs.at hS hnz).2.2.2.2.2 2 (by decide)) dX3_item_129 ?_
      refine x_cSe (x_runVW (xZr_w n adK adV fm us sb) X hN hP (hZs.at hS hnz) (As := [.ref (adK 2)]) (rest := []) (x_X3_isWord l dC dI dA n ξ V V2 im ab be adK adV fm us sb ty ht ht6 tx hT p_ hp hat 2 (by decide)) xkv_X3_86 (x_recv (ci := 3) X.2.2.2.2.2 hP (j := 90) (by decide) (xe_x90 ..) rfl) rfl rfl ⟨Nat.le_of_ble_eq_true rfl, Nat.le_of_ble_eq_true rfl⟩ hl.1 (Nat.le_of_ble_eq_true rfl) dX3_item_131 ⟨Nat.le_of_ble_eq_true rfl, Nat.le_of_ble_eq_true rfl⟩) ?_
      refine rn_zt (tgt := 204) X.1 X.2.1 dX3_item_134 (by decide) (fun c_134 => ?_) (fun c_134 => ?_)
      · refine lv_aload_n X.1 X.2.1 dX3_item_204 rfl (lv_at hl 0 rfl) ?_
        refine lv_aload_n X.1 X.2.1 dX3_item_205 rfl (lv_at hl 0 rfl) ?_
        refine va_ldcS X.1 X.2.1 X.2.2.2.1 ((hZs.at hS hnz).2.2.2.2.2 3 (by decide)) dX3_item_206 ?_
        refine x_cSe (x_runVW (xZr_w n adK adV fm us sb) X hN hP (hZs.at hS hnz) (As := [.ref (adK 3)]) (rest := [.ref (n + 90)]) (x_X3_isWord l dC dI dA n ξ V V2 im ab be adK adV fm us sb ty ht ht6 tx hT p_ hp hat 3 (by decide)) xkv_X3_86 (x_recv (ci := 3) X.2.2.2.2.2 hP (j := 90) (by decide) (xe_x90 ..) rfl) rfl rfl ⟨Nat.le_of_ble_eq_true rfl, Nat.le_of_ble_eq_true rfl⟩ hl.1 (Nat.le_of_ble_eq_true rfl) dX3_item_208 ⟨Nat.le_of_ble_eq_true rfl, Nat.le_of_ble_eq_true rfl⟩) ?_
        refine x_okC (tkW tx ty p_ (lnW 3) (chW 3)) (fun ok211 => ?_) (fun ok211 => ?_)
        · exact x_prop (x_runVT (xZr_w n adK adV fm us sb) X hN ⟨hP, Nat.le_refl _⟩ (hZs.at hS hnz) (As := [.int (rb_i (tkW tx ty p_ (lnW 3) (chW 3)))]) (rest := []) (x_X3_wants l dC dI dA n ξ V V2 im ab be adK adV fm us sb H.size (tkW tx ty p_ (lnW 3) (chW 3))) ok211 xkv_X3_61 (x_recv (ci := 3) X.2.2.2.2.2 hP (j := 90) (by decide) (xe_x90 ..) rfl) rfl rfl ⟨Nat.le_of_ble_eq_true rfl, Nat.le_of_ble_eq_true rfl⟩ hl.1 (Nat.le_of_ble_eq_true rfl) dX3_item_211 ⟨Nat.le_of_ble_eq_true rfl, Nat.le_of_ble_eq_true rfl⟩) hne hlk hS (fun q h => h.elim Or.inl (fun h => Or.inr (Nat.le_trans (Nat.le_trans hz0 hS.1) h))) (fun q h => h.elim Or.inl (fun h => Or.inr (Nat.le_trans (Nat.le_trans hz0 hS.1) h))) (by rw [rd_in c_49 c_134 ok211]) (fun x H1 h_ hz_ hk_ => ⟨⟨ξ, hX, many, rent, h_.1, hRa, hVa.step hTb hk_⟩, by rw [rd_in c_49 c_134 ok211]; have e_ := h_.2; rw [hat.2.1] at e_; exact e_⟩) (Nat.le_of_ble_eq_true rfl) (Nat.le_of_ble_eq_true rfl)
        refine x_cWv (x_runVW (xZr_w n adK adV fm us sb) X hN ⟨hP, Nat.le_refl _⟩ (hZs.at hS hnz) (As := [.int (rb_i (tkW tx ty p_ (lnW 3) (chW 3)))]) (rest := []) (MetT.metb (x_X3_wants l dC dI dA n ξ V V2 im ab be adK adV fm us sb H.size (tkW tx ty p_ (lnW 3) (chW 3))) ok211 xQv_ret) xkv_X3_61 (x_recv (ci := 3) X.2.2.2.2.2 hP (j := 90) (by decide) (xe_x90 ..) rfl) rfl rfl ⟨Nat.le_of_ble_eq_true rfl, Nat.le_of_ble_eq_true rfl⟩ hl.1 (Nat.le_of_ble_eq_true rfl) dX3_item_211 ⟨Nat.le_of_ble_eq_true rfl, Nat.le_of_ble_eq_true rfl⟩) hS (fun q h => h.elim Or.inl (fun h => Or.inr (Nat.le_trans (Nat.le_trans hz0 hS.1) h))) (fun q h => h.elim Or.inl (fun h => Or.inr (Nat.le_trans (Nat.le_trans hz0 hS.1) h))) (fun _ H locs _ hP1 hz1 hk1 hS => ?_)
        have hP := hP1
        have hVa := hVa.step hTb hk1
        refine lv_aload_n X.1 X.2.1 dX3_item_214 rfl (lv_at hl 0 rfl) ?_
        refine x_cWv (x_runV X hN hP (As := []) (rest := []) (x_X3_scans l dC dI dA n ξ V V2 im ab be ty ht ht6 tx hT (tkN tx ty p_) hat.1 (tkN_b hp)) xkv_X3_65 (x_recv (ci := 3) X.2.2.2.2.2 hP (j := 90) (by decide) (xe_x90 ..) rfl) rfl rfl ⟨Nat.le_of_ble_eq_true rfl, Nat.le_of_ble_eq_true rfl⟩ hl.1 (Nat.le_of_ble_eq_true rfl) dX3_item_215 ⟨Nat.le_of_ble_eq_true rfl, Nat.le_of_ble_eq_true rfl⟩) hS (fun _ h => Or.inl h) (fun _ h => Or.inl h) (fun u215 H locs hu215 hP1 hz1 hk1 hS => ?_)
        have hP := hP1
        have ht := (congrFun (hu215.1.1 0 (by decide)) 0).trans ht
        have hT := fun k_ h_ => (congrFun (hu215.1.1 88 (by decide)) k_).trans (hT k_ h_)
        have hVa := hVa.step96 hTb hk1
        have hX := hX.fr hu215.1
        have hRa := hRa.cg (S' := fun i => u215 (44 + i)) (fun i hi => hu215.1.1 (44 + i) (by omega)) (fun _ _ => rfl)
        have hat := hu215.2
        have hp := tkN_b (T := tx) hp
        refine lv_aload_n X.1 X.2.1 dX3_item_218 rfl (lv_at hl 0 rfl) ?_
        refine lv_iconst (v := nI 0) X.1 X.2.1 dX3_item_219 rfl ?_
        refine lv_aload_n X.1 X.2.1 dX3_item_220 rfl (lv_at hl 0 rfl) ?_
        refine xb_get (C := RX3) (T := TX3) (v := .ref n) X in_X3 (ci := 3) rfl hP (j := 90) (by decide) (xe_x90 ..) 5 (by decide) q200 rfl rfl dX3_item_221 ?_
        refine xb_getN (host := "RentedViews") (C := RX0) (T := TX0) (v := .ref (n + 44)) X in_X0 (ci := 0) rfl hP (j := 0) (by decide) (xe_x0 ..) 1 (by decide) (x_nest hN q250 rfl) rfl rfl dX3_item_224 ?_
        refine xb_getN (host := "RentedViews") (C := RX1) (T := TX1) (v := .int (u215 44 0)) X in_X1 (ci := 1) rfl hP (j := 44) (by decide) (xe_x44 ..) 2 (by decide) (x_nest hN q146 rfl) rfl rfl dX3_item_227 ?_
        refine rn_co (y := nI many) hRa.nm ?_
        refine lv_iconst (v := nI 1) X.1 X.2.1 dX3_item_230 rfl ?_
        refine lv_isub X.1 X.2.1 dX3_item_231 ?_
        refine x_okC (tkT tx ty (tkN tx ty p_) (nI 0) ((nI many) - 1)) (fun ok232 => ?_) (fun ok232 => ?_)
        · exact x_prop (x_runVT (xZr_w n adK adV fm us sb) X hN ⟨hP, Nat.le_refl _⟩ (hZs.at hS hnz) (As := [.int (nI 0), .int ((nI many) - 1)]) (rest := []) (x_X3_takes l dC dI dA n u215 V V2 im ab be adK adV fm us sb H.size (nI 0) ((nI many) - 1) ty ht ht6 tx hT (tkN tx ty p_) hp hat (Nat.le_trans hnz (Nat.le_trans hz0 hS.1))) ok232 xkv_X3_95 (x_recv (ci := 3) X.2.2.2.2.2 hP (j := 90) (by decide) (xe_x90 ..) rfl) rfl rfl ⟨Nat.le_of_ble_eq_true rfl, Nat.le_of_ble_eq_true rfl⟩ hl.1 (Nat.le_of_ble_eq_true rfl) dX3_item_232 ⟨Nat.le_of_ble_eq_true rfl, Nat.le_of_ble_eq_true rfl⟩) hne hlk hS (fun q h => h.elim Or.inl (fun h => Or.inr (Nat.le_trans (Nat.le_trans hz0 hS.1) h))) (fun q h => h.elim Or.inl (fun h => Or.inr (Nat.le_trans (Nat.le_trans hz0 hS.1) h))) (by rw [((rd_it c_49 c_134 ok211).trans (tt1 (A := A) (by rw [hA0]; exact ok232)))]) (fun x H1 h_ hz_ hk_ => ⟨⟨u215, hX, many, rent, h_.1, hRa, hVa.step hTb hk_⟩, by rw [((rd_it c_49 c_134 ok211).trans (tt1 (A := A) (by rw [hA0]; exact ok232)))]; have e_ := h_.2; rw [hat.2.1] at e_; exact e_⟩) (Nat.le_of_ble_eq_true rfl) (Nat.le_of_ble_eq_true rfl)
        refine x_cWi (x_runVW (xZr_w n adK adV fm us sb) X hN ⟨hP, Nat.le_refl _⟩ (hZs.at hS hnz) (As := [.int (nI 0), .int ((nI many) - 1)]) (rest := []) (MetT.metb (x_X3_takes l dC dI dA n u215 V V2 im ab be adK adV fm us sb H.size (nI 0) ((nI many) - 1) ty ht ht6 tx hT (tkN tx ty p_) hp hat (Nat.le_trans hnz (Nat.le_trans hz0 hS.1))) ok232 xQi_ret) xkv_X3_95 (x_recv (ci := 3) X.2.2.2.2.2 hP (j := 90) (by decide) (xe_x90 ..) rfl) rfl rfl ⟨Nat.le_of_ble_eq_true rfl, Nat.le_of_ble_eq_true rfl⟩ hl.1 (Nat.le_of_ble_eq_true rfl) dX3_item_232 ⟨Nat.le_of_ble_eq_true rfl, Nat.le_of_ble_eq_true rfl⟩) hS (fun q h => h.elim Or.inl (fun h => Or.inr (Nat.le_trans (Nat.le_trans hz0 hS.1) h))) (fun q h => h.elim Or.inl (fun h => Or.inr (Nat.le_trans (Nat.le_trans hz0 hS.1) h))) (fun r232 u232 H locs hu232 hP1 hz1 hk1 hS => ?_)
        have hP := hP1
        obtain ⟨rfl, hu232a, hu232b⟩ := hu232
        have ht := (congrFun (hu232a.1 0 (by decide)) 0).trans ht
        have hT := fun k_ h_ => (congrFun (hu232a.1 88 (by decide)) k_).trans (hT k_ h_)
        have hVa := hVa.step hTb hk1
        have hX := hX.fr hu232a
        have hRa := hRa.cg (S' := fun i => u232 (44 + i)) (fun i hi => hu232a.1 (44 + i) (by omega)) (fun _ _ => rfl)
        have hat := hu232b
        have hp := tkN_b (T := tx) hp
        obtain ⟨kd, hkd, ekd⟩ := rd_num ok232 (m := many) rfl (rd_many hm6) (by omega)
        have hth : u232 46 kd = A (7 + 6 * kd + 5) := (hRa.thg hkd).trans (rdF_lo (by omega))
        refine rn_co (y := nI kd) ekd ?_
        refine lv_istore_n (lv' := [(1, .int (nI kd)), (0, .ref (n + 90))]) X.1 X.2.1 dX3_item_235 rfl hl (by decide) rfl (fun ls hl => ?_)
        refine lv_aload_n X.1 X.2.1 dX3_item_236 rfl (lv_at hl 1 rfl) ?_
        refine xb_get (C := RX3) (T := TX3) (v := .ref n) X in_X3 (ci := 3) rfl hP (j := 90) (by decide) (xe_x90 ..) 5 (by decide) q200 rfl rfl dX3_item_237 ?_
        refine xb_getN (host := "RentedViews") (C := RX0) (T := TX0) (v := .ref (n + 44)) X in_X0 (ci := 0) rfl hP (j := 0) (by decide) (xe_x0 ..) 1 (by decide) (x_nest hN q250 rfl) rfl rfl dX3_item_240 ?_
        refine xb_getN (host := "RentedViews") (C := RX1) (T := TX1) (v := .ref (n + 46)) X in_X1 (ci := 1) rfl hP (j := 44) (by decide) (xe_x44 ..) 1 (by decide) (x_nest hN q141 rfl) rfl rfl dX3_item_243 ?_
        refine lv_iload_n X.1 X.2.1 dX3_item_246 rfl (lv_at hl 0 rfl) ?_
        refine lv_dup2_11 X.1 X.2.1 dX3_item_247 rfl rfl ?_
        refine xb_iald X hP (j := 46) (by decide) (n := 6) (f := u232 46) rfl (by omega) (by decide) dX3_item_248 ?_
        refine lv_iconst (v := nI 1) X.1 X.2.1 dX3_item_249 rfl ?_
        refine lv_aload_n X.1 X.2.1 dX3_item_250 rfl (lv_at hl 1 rfl) ?_
        refine lv_iconst (v := nI 0) X.1 X.2.1 dX3_item_251 rfl ?_
        refine lv_bipush (v := nI 7) X.1 X.2.1 dX3_item_252 rfl ?_
        refine x_okC (tkT tx ty (tkN tx ty (tkN tx ty p_)) (nI 0) (nI 7)) (fun ok254 => ?_) (fun ok254 => ?_)
        · exact x_prop (x_runVT (xZr_w n adK adV fm us sb) X hN ⟨hP, Nat.le_refl _⟩ (hZs.at hS hnz) (As := [.int (nI 0), .int (nI 7)]) (rest := [.int (nI 1), .int (u232 46 kd), .int (nI kd), .ref (n + 46)]) (x_X3_takes l dC dI dA n u232 V V2 im ab be adK adV fm us sb H.size (nI 0) (nI 7) ty ht ht6 tx hT (tkN tx ty (tkN tx ty p_)) hp hat (Nat.le_trans hnz (Nat.le_trans hz0 hS.1))) ok254 xkv_X3_95 (x_recv (ci := 3) X.2.2.2.2.2 hP (j := 90) (by decide) (xe_x90 ..) rfl) rfl rfl ⟨Nat.le_of_ble_eq_true rfl, Nat.le_of_ble_eq_true rfl⟩ hl.1 (Nat.le_of_ble_eq_true rfl) dX3_item_254 ⟨Nat.le_of_ble_eq_true rfl, Nat.le_of_ble_eq_true rfl⟩) hne hlk hS (fun q h => h.elim Or.inl (fun h => Or.inr (Nat.le_trans (Nat.le_trans hz0 hS.1) h))) (fun q h => h.elim Or.inl (fun h => Or.inr (Nat.le_trans (Nat.le_trans hz0 hS.1) h))) (by rw [((rd_it c_49 c_134 ok211).trans (tt2 (A := A) (by rw [hA0]; exact ok232) ok254))]) (fun x H1 h_ hz_ hk_ => ⟨⟨u232, hX, many, rent, h_.1, hRa, hVa.step hTb hk_⟩, by rw [((rd_it c_49 c_134 ok211).trans (tt2 (A := A) (by rw [hA0]; exact ok232) ok254))]; have e_ := h_.2; rw [hat.2.1] at e_; exact e_⟩) (Nat.le_of_ble_eq_true rfl) (Nat.le_of_ble_eq_true rfl)
        refine x_cWi (x_runVW (xZr_w n adK adV fm us sb) X hN ⟨hP, Nat.le_refl _⟩ (hZs.at hS hnz) (As := [.int (nI 0), .int (nI 7)]) (rest := [.int (nI 1), .int (u232 46 kd), .int (nI kd), .ref (n + 46)]) (MetT.metb (x_X3_takes l dC dI dA n u232 V V2 im ab be adK adV fm us sb H.size (nI 0) (nI 7) ty ht ht6 tx hT (tkN tx ty (tkN tx ty p_)) hp hat (Nat.le_trans hnz (Nat.le_trans hz0 hS.1))) ok254 xQi_ret) xkv_X3_95 (x_recv (ci := 3) X.2.2.2.2.2 hP (j := 90) (by decide) (xe_x90 ..) rfl) rfl rfl ⟨Nat.le_of_ble_eq_true rfl, Nat.le_of_ble_eq_true rfl⟩ hl.1 (Nat.le_of_ble_eq_true rfl) dX3_item_254 ⟨Nat.le_of_ble_eq_true rfl, Nat.le_of_ble_eq_true rfl⟩) hS (fun q h => h.elim Or.inl (fun h => Or.inr (Nat.le_trans (Nat.le_trans hz0 hS.1) h))) (fun q h => h.elim Or.inl (fun h => Or.inr (Nat.le_trans (Nat.le_trans hz0 hS.1) h))) (fun r254 u254 H locs hu254 hP1 hz1 hk1 hS => ?_)
        have hP := hP1
        obtain ⟨rfl, hu254a, hu254b⟩ := hu254
        have ht := (congrFun (hu254a.1 0 (by decide)) 0).trans ht
        have hT := fun k_ h_ => (congrFun (hu254a.1 88 (by decide)) k_).trans (hT k_ h_)
        have hVa := hVa.step hTb hk1
        have hX := hX.fr hu254a
        have hRa := hRa.cg (S' := fun i => u254 (44 + i)) (fun i hi => hu254a.1 (44 + i) (by omega)) (fun _ _ => rfl)
        have hat := hu254b
        have hp := tkN_b (T := tx) hp
        refine lv_ishl X.1 X.2.1 dX3_item_257 ?_
        refine lv_ior X.1 X.2.1 dX3_item_258 ?_
        have hres := ((rd_it c_49 c_134 ok211).trans (ttY (A := A) (by rw [hA0]; exact ok232) ok254))
        rw [ekd, rv_cln (by omega), ← hth] at hres
        refine xb_iast (E' := xE dA n (mdS u254 46 kd ((u232 46 kd) ||| (1 <<< ((tkV tx ty (tkN tx ty (tkN tx ty p_))) &&& 31)))) V V2 im ab be) X hP (fun _ h => Or.inl h) hS (j := 46) (by decide) (n := 6) (f := u254 46) rfl (by omega) (by decide) (fun i_ _ => xE_S dA n u254 V V2 im ab be 46 kd ((u232 46 kd) ||| (1 <<< ((tkV tx ty (tkN tx ty (tkN tx ty p_))) &&& 31))) i_) dX3_item_259 (fun H locs hP hS => ?_)
        refine W.pad (cells2 := 7) (slots2 := 60) (Nat.le_of_ble_eq_true rfl) (Nat.le_of_ble_eq_true rfl) ?_
        refine W.monoT (by rw [hres]) ?_
        exact x_rv (mdS u254 46 kd ((u232 46 kd) ||| (1 <<< ((tkV tx ty (tkN tx ty (tkN tx ty p_))) &&& 31))), V2) X hr hlk hS dX3_item_260 ⟨hX.S (j := 46) (by decide), by rw [hres]; exact hat.cg (u := mdS u254 46 kd ((u232 46 kd) ||| (1 <<< ((tkV tx ty (tkN tx ty (tkN tx ty p_))) &&& 31)))) (mdS_row _ _ _ (by decide))⟩ (by rw [hres]; exact rd_thing hP hRa (hVa0.step0 (fun q hq ht => hS.2.1 q hq (fun y => y.elim (hTb q ht) (fun y => by omega)))) hkd hm6)
      · refine lv_aload_n X.1 X.2.1 dX3_item_137 rfl (lv_at hl 0 rfl) ?_
        refine lv_aload_n X.1 X.2.1 dX3_item_138 rfl (lv_at hl 0 rfl) ?_
        refine xb_get (C := RX3) (T := TX3) (v := .ref n) X in_X3 (ci := 3) rfl hP (j := 90) (by decide) (xe_x90 ..) 5 (by decide) q200 rfl rfl dX3_item_139 ?_
        refine xb_getN (host := "RentedViews") (C := RX0) (T := TX0) (v := .ref (n + 44)) X in_X0 (ci := 0) rfl hP (j := 0) (by decide) (xe_x0 ..) 1 (by decide) (x_nest hN q250 rfl) rfl rfl dX3_item_142 ?_
        refine xb_getN (host := "RentedViews") (C := RX1) (T := TX1) (v := .int (ξ 44 1)) X in_X1 (ci := 1) rfl hP (j := 44) (by decide) (xe_x44 ..) 5 (by decide) (x_nest hN q153 rfl) rfl rfl dX3_item_145 ?_
        refine rn_co (y := nI rent) hRa.nr ?_
        refine lv_bipush (v := nI 6) X.1 X.2.1 dX3_item_148 rfl ?_
        refine rn_icmp_ge (tgt := 157) X.1 X.2.1 (by omega) (by omega) dX3_item_150 (by decide) (fun c_150 => ?_) (fun c_150 => ?_)
        · refine lv_iconst (v := nI 0) X.1 X.2.1 dX3_item_157 rfl ?_
          skip
          exact x_prop (x_runVT (xZr_w n adK adV fm us sb) X hN ⟨hP, Nat.le_refl _⟩ (hZs.at hS hnz) (As := [.int (rb_i false)]) (rest := []) (x_X3_wants l dC dI dA n ξ V V2 im ab be adK adV fm us sb H.size false) rfl xkv_X3_61 (x_recv (ci := 3) X.2.2.2.2.2 hP (j := 90) (by decide) (xe_x90 ..) rfl) rfl rfl ⟨Nat.le_of_ble_eq_true rfl, Nat.le_of_ble_eq_true rfl⟩ hl.1 (Nat.le_of_ble_eq_true rfl) dX3_item_158 ⟨Nat.le_of_ble_eq_true rfl, Nat.le_of_ble_eq_true rfl⟩) hne hlk hS (fun q h => h.elim Or.inl (fun h => Or.inr (Nat.le_trans (Nat.le_trans hz0 hS.1) h))) (fun q h => h.elim Or.inl (fun h => Or.inr (Nat.le_trans (Nat.le_trans hz0 hS.1) h))) (by rw [((rd_ir c_49 c_134).trans (tr0 (A := A) (by rw [hA1, show rent = 6 by omega]; rfl)))]) (fun x H1 h_ hz_ hk_ => ⟨⟨ξ, hX, many, rent, h_.1, hRa, hVa.step hTb hk_⟩, by rw [((rd_ir c_49 c_134).trans (tr0 (A := A) (by rw [hA1, show rent = 6 by omega]; rfl)))]; have e_ := h_.2; rw [hat.2.1] at e_; exact e_⟩) (Nat.le_of_ble_eq_true rfl) (Nat.le_of_ble_eq_true rfl)
        · refine lv_iconst (v := nI 1) X.1 X.2.1 dX3_item_153 rfl ?_
          refine lv_goto (tgt := 158) X.1 X.2.1 dX3_item_154 (by decide) ?_
          refine x_cWv (x_runVW (xZr_w n adK adV fm us sb) X hN ⟨hP, Nat.le_refl _⟩ (hZs.at hS hnz) (As := [.int (rb_i true)]) (rest := []) (MetT.metb (x_X3_wants l dC dI dA n ξ V V2 im ab be adK adV fm us sb H.size true) rfl xQv_ret) xkv_X3_61 (x_recv (ci := 3) X.2.2.2.2.2 hP (j := 90) (by decide) (xe_x90 ..) rfl) rfl rfl ⟨Nat.le_of_ble_eq_true rfl, Nat.le_of_ble_eq_true rfl⟩ hl.1 (Nat.le_of_ble_eq_true rfl) dX3_item_158 ⟨Nat.le_of_ble_eq_true rfl, Nat.le_of_ble_eq_true rfl⟩) hS (fun q h => h.elim Or.inl (fun h => Or.inr (Nat.le_trans (Nat.le_trans hz0 hS.1) h))) (fun q h => h.elim Or.inl (fun h => Or.inr (Nat.le_trans (Nat.le_trans hz0 hS.1) h))) (fun _ H locs _ hP1 hz1 hk1 hS => ?_)
          have hP := hP1
          have hVa := hVa.step hTb hk1
          refine lv_aload_n X.1 X.2.1 dX3_item_161 rfl (lv_at hl 0 rfl) ?_
          refine x_cWv (x_runV X hN hP (As := []) (rest := []) (x_X3_scans l dC dI dA n ξ V V2 im ab be ty ht ht6 tx hT (tkN tx ty p_) hat.1 (tkN_b hp)) xkv_X3_65 (x_recv (ci := 3) X.2.2.2.2.2 hP (j := 90) (by decide) (xe_x90 ..) rfl) rfl rfl ⟨Nat.le_of_ble_eq_true rfl, Nat.le_of_ble_eq_true rfl⟩ hl.1 (Nat.le_of_ble_eq_true rfl) dX3_item_162 ⟨Nat.le_of_ble_eq_true rfl, Nat.le_of_ble_eq_true rfl⟩) hS (fun _ h => Or.inl h) (fun _ h => Or.inl h) (fun u162 H locs hu162 hP1 hz1 hk1 hS => ?_)
          have hP := hP1
          have ht := (congrFun (hu162.1.1 0 (by decide)) 0).trans ht
          have hT := fun k_ h_ => (congrFun (hu162.1.1 88 (by decide)) k_).trans (hT k_ h_)
          have hVa := hVa.step96 hTb hk1
          have hX := hX.fr hu162.1
          have hRa := hRa.cg (S' := fun i => u162 (44 + i)) (fun i hi => hu162.1.1 (44 + i) (by omega)) (fun _ _ => rfl)
          have hat := hu162.2
          have hp := tkN_b (T := tx) hp
          refine lv_aload_n X.1 X.2.1 dX3_item_165 rfl (lv_at hl 0 rfl) ?_
          refine lv_iconst (v := nI 1) X.1 X.2.1 dX3_item_166 rfl ?_
          refine lv_bipush (v := nI 9) X.1 X.2.1 dX3_item_167 rfl ?_
          refine x_okC (tkT tx ty (tkN tx ty p_) (nI 1) (nI 9)) (fun ok169 => ?_) (fun ok169 => ?_)
          · exact x_prop (x_runVT (xZr_w n adK adV fm us sb) X hN ⟨hP, Nat.le_refl _⟩ (hZs.at hS hnz) (As := [.int (nI 1), .int (nI 9)]) (rest := []) (x_X3_takes l dC dI dA n u162 V V2 im ab be adK adV fm us sb H.size (nI 1) (nI 9) ty ht ht6 tx hT (tkN tx ty p_) hp hat (Nat.le_trans hnz (Nat.le_trans hz0 hS.1))) ok169 xkv_X3_95 (x_recv (ci := 3) X.2.2.2.2.2 hP (j := 90) (by decide) (xe_x90 ..) rfl) rfl rfl ⟨Nat.le_of_ble_eq_true rfl, Nat.le_of_ble_eq_true rfl⟩ hl.1 (Nat.le_of_ble_eq_true rfl) dX3_item_169 ⟨Nat.le_of_ble_eq_true rfl, Nat.le_of_ble_eq_true rfl⟩) hne hlk hS (fun q h => h.elim Or.inl (fun h => Or.inr (Nat.le_trans (Nat.le_trans hz0 hS.1) h))) (fun q h => h.elim Or.inl (fun h => Or.inr (Nat.le_trans (Nat.le_trans hz0 hS.1) h))) (by rw [((rd_ir c_49 c_134).trans (tr1 (A := A) (fun z_ => by rw [hA1] at z_; have := (nI_eq (b := 6) (by omega) (by omega)).mp z_; omega) ok169))]) (fun x H1 h_ hz_ hk_ => ⟨⟨u162, hX, many, rent, h_.1, hRa, hVa.step hTb hk_⟩, by rw [((rd_ir c_49 c_134).trans (tr1 (A := A) (fun z_ => by rw [hA1] at z_; have := (nI_eq (b := 6) (by omega) (by omega)).mp z_; omega) ok169))]; have e_ := h_.2; rw [hat.2.1] at e_; exact e_⟩) (Nat.le_of_ble_eq_true rfl) (Nat.le_of_ble_eq_true rfl)
          refine x_cWi (x_runVW (xZr_w n adK adV fm us sb) X hN ⟨hP, Nat.le_refl _⟩ (hZs.at hS hnz) (As := [.int (nI 1), .int (nI 9)]) (rest := []) (MetT.metb (x_X3_takes l dC dI dA n u162 V V2 im ab be adK adV fm us sb H.size (nI 1) (nI 9) ty ht ht6 tx hT (tkN tx ty p_) hp hat (Nat.le_trans hnz (Nat.le_trans hz0 hS.1))) ok169 xQi_ret) xkv_X3_95 (x_recv (ci := 3) X.2.2.2.2.2 hP (j := 90) (by decide) (xe_x90 ..) rfl) rfl rfl ⟨Nat.le_of_ble_eq_true rfl, Nat.le_of_ble_eq_true rfl⟩ hl.1 (Nat.le_of_ble_eq_true rfl) dX3_item_169 ⟨Nat.le_of_ble_eq_true rfl, Nat.le_of_ble_eq_true rfl⟩) hS (fun q h => h.elim Or.inl (fun h => Or.inr (Nat.le_trans (Nat.le_trans hz0 hS.1) h))) (fun q h => h.elim Or.inl (fun h => Or.inr (Nat.le_trans (Nat.le_trans hz0 hS.1) h))) (fun r169 u169 H locs hu169 hP1 hz1 hk1 hS => ?_)
          have hP := hP1
          obtain ⟨rfl, hu169a, hu169b⟩ := hu169
          have ht := (congrFun (hu169a.1 0 (by decide)) 0).trans ht
          have hT := fun k_ h_ => (congrFun (hu169a.1 88 (by decide)) k_).trans (hT k_ h_)
          have hVa := hVa.step hTb hk1
          have hX := hX.fr hu169a
          have hRa := hRa.cg (S' := fun i => u169 (44 + i)) (fun i hi => hu169a.1 (44 + i) (by omega)) (fun _ _ => rfl)
          have hat := hu169b
          have hp := tkN_b (T := tx) hp
          refine lv_istore_n (lv' := [(1, .int (tkV tx ty (tkN tx ty p_))), (0, .ref (n + 90))]) X.1 X.2.1 dX3_item_172 rfl hl (by decide) rfl (fun ls hl => ?_)
          refine lv_aload_n X.1 X.2.1 dX3_item_173 rfl (lv_at hl 1 rfl) ?_
          refine lv_iconst (v := nI 0) X.1 X.2.1 dX3_item_174 rfl ?_
          refine lv_sipush (v := nI 999) X.1 X.2.1 dX3_item_175 rfl ?_
          refine x_okC (tkT tx ty (tkN tx ty (tkN tx ty p_)) (nI 0) (nI 999)) (fun ok178 => ?_) (fun ok178 => ?_)
          · exact x_prop (x_runVT (xZr_w n adK adV fm us sb) X hN ⟨hP, Nat.le_refl _⟩ (hZs.at hS hnz) (As := [.int (nI 0), .int (nI 999)]) (rest := []) (x_X3_takes l dC dI dA n u169 V V2 im ab be adK adV fm us sb H.size (nI 0) (nI 999) ty ht ht6 tx hT (tkN tx ty (tkN tx ty p_)) hp hat (Nat.le_trans hnz (Nat.le_trans hz0 hS.1))) ok178 xkv_X3_95 (x_recv (ci := 3) X.2.2.2.2.2 hP (j := 90) (by decide) (xe_x90 ..) rfl) rfl rfl ⟨Nat.le_of_ble_eq_true rfl, Nat.le_of_ble_eq_true rfl⟩ hl.1 (Nat.le_of_ble_eq_true rfl) dX3_item_178 ⟨Nat.le_of_ble_eq_true rfl, Nat.le_of_ble_eq_true rfl⟩) hne hlk hS (fun q h => h.elim Or.inl (fun h => Or.inr (Nat.le_trans (Nat.le_trans hz0 hS.1) h))) (fun q h => h.elim Or.inl (fun h => Or.inr (Nat.le_trans (Nat.le_trans hz0 hS.1) h))) (by rw [((rd_ir c_49 c_134).trans (tr2 (A := A) (fun z_ => by rw [hA1] at z_; have := (nI_eq (b := 6) (by omega) (by omega)).mp z_; omega) ok169 ok178))]) (fun x H1 h_ hz_ hk_ => ⟨⟨u169, hX, many, rent, h_.1, hRa, hVa.step hTb hk_⟩, by rw [((rd_ir c_49 c_134).trans (tr2 (A := A) (fun z_ => by rw [hA1] at z_; have := (nI_eq (b := 6) (by omega) (by omega)).mp z_; omega) ok169 ok178))]; have e_ := h_.2; rw [hat.2.1] at e_; exact e_⟩) (Nat.le_of_ble_eq_true rfl) (Nat.le_of_ble_eq_true rfl)
          refine x_cWi (x_runVW (xZr_w n adK adV fm us sb) X hN ⟨hP, Nat.le_refl _⟩ (hZs.at hS hnz) (As := [.int (nI 0), .int (nI 999)]) (rest := []) (MetT.metb (x_X3_takes l dC dI dA n u169 V V2 im ab be adK adV fm us sb H.size (nI 0) (nI 999) ty ht ht6 tx hT (tkN tx ty (tkN tx ty p_)) hp hat (Nat.le_trans hnz (Nat.le_trans hz0 hS.1))) ok178 xQi_ret) xkv_X3_95 (x_recv (ci := 3) X.2.2.2.2.2 hP (j := 90) (by decide) (xe_x90 ..) rfl) rfl rfl ⟨Nat.le_of_ble_eq_true rfl, Nat.le_of_ble_eq_true rfl⟩ hl.1 (Nat.le_of_ble_eq_true rfl) dX3_item_178 ⟨Nat.le_of_ble_eq_true rfl, Nat.le_of_ble_eq_true rfl⟩) hS (fun q h => h.elim Or.inl (fun h => Or.inr (Nat.le_trans (Nat.le_trans hz0 hS.1) h))) (fun q h => h.elim Or.inl (fun h => Or.inr (Nat.le_trans (Nat.le_trans hz0 hS.1) h))) (fun r178 u178 H locs hu178 hP1 hz1 hk1 hS => ?_)
          have hP := hP1
          obtain ⟨rfl, hu178a, hu178b⟩ := hu178
          have ht := (congrFun (hu178a.1 0 (by decide)) 0).trans ht
          have hT := fun k_ h_ => (congrFun (hu178a.1 88 (by decide)) k_).trans (hT k_ h_)
          have hVa := hVa.step hTb hk1
          have hX := hX.fr hu178a
          have hRa := hRa.cg (S' := fun i => u178 (44 + i)) (fun i hi => hu178a.1 (44 + i) (by omega)) (fun _ _ => rfl)
          have hat := hu178b
          have hp := tkN_b (T := tx) hp
          refine lv_istore_n (lv' := [(2, .int (tkV tx ty (tkN tx ty (tkN tx ty p_)))), (1, .int (tkV tx ty (tkN tx ty p_))), (0, .ref (n + 90))]) X.1 X.2.1 dX3_item_181 rfl hl (by decide) rfl (fun ls hl => ?_)
          refine lv_aload_n X.1 X.2.1 dX3_item_182 rfl (lv_at hl 2 rfl) ?_
          refine xb_get (C := RX3) (T := TX3) (v := .ref n) X in_X3 (ci := 3) rfl hP (j := 90) (by decide) (xe_x90 ..) 5 (by decide) q200 rfl rfl dX3_item_183 ?_
          refine xb_getN (host := "RentedViews") (C := RX0) (T := TX0) (v := .ref (n + 44)) X in_X0 (ci := 0) rfl hP (j := 0) (by decide) (xe_x0 ..) 1 (by decide) (x_nest hN q250 rfl) rfl rfl dX3_item_186 ?_
          refine lv_iload_n X.1 X.2.1 dX3_item_189 rfl (lv_at hl 1 rfl) ?_
          refine lv_iload_n X.1 X.2.1 dX3_item_190 rfl (lv_at hl 0 rfl) ?_
          refine lv_aload_n X.1 X.2.1 dX3_item_191 rfl (lv_at hl 2 rfl) ?_
          refine lv_iconst (v := nI 0) X.1 X.2.1 dX3_item_192 rfl ?_
          refine lv_bipush (v := nI 6) X.1 X.2.1 dX3_item_193 rfl ?_
          refine x_okC (tkT tx ty (tkN tx ty (tkN tx ty (tkN tx ty p_))) (nI 0) (nI 6)) (fun ok195 => ?_) (fun ok195 => ?_)
          · exact x_prop (x_runVT (xZr_w n adK adV fm us sb) X hN ⟨hP, Nat.le_refl _⟩ (hZs.at hS hnz) (As := [.int (nI 0), .int (nI 6)]) (rest := [.int (tkV tx ty (tkN tx ty (tkN tx ty p_))), .int (tkV tx ty (tkN tx ty p_)), .ref (n + 44)]) (x_X3_takes l dC dI dA n u178 V V2 im ab be adK adV fm us sb H.size (nI 0) (nI 6) ty ht ht6 tx hT (tkN tx ty (tkN tx ty (tkN tx ty p_))) hp hat (Nat.le_trans hnz (Nat.le_trans hz0 hS.1))) ok195 xkv_X3_95 (x_recv (ci := 3) X.2.2.2.2.2 hP (j := 90) (by decide) (xe_x90 ..) rfl) rfl rfl ⟨Nat.le_of_ble_eq_true rfl, Nat.le_of_ble_eq_true rfl⟩ hl.1 (Nat.le_of_ble_eq_true rfl) dX3_item_195 ⟨Nat.le_of_ble_eq_true rfl, Nat.le_of_ble_eq_true rfl⟩) hne hlk hS (fun q h => h.elim Or.inl (fun h => Or.inr (Nat.le_trans (Nat.le_trans hz0 hS.1) h))) (fun q h => h.elim Or.inl (fun h => Or.inr (Nat.le_trans (Nat.le_trans hz0 hS.1) h))) (by rw [((rd_ir c_49 c_134).trans (tr3 (A := A) (fun z_ => by rw [hA1] at z_; have := (nI_eq (b := 6) (by omega) (by omega)).mp z_; omega) ok169 ok178 ok195))]) (fun x H1 h_ hz_ hk_ => ⟨⟨u178, hX, many, rent, h_.1, hRa, hVa.step hTb hk_⟩, by rw [((rd_ir c_49 c_134).trans (tr3 (A := A) (fun z_ => by rw [hA1] at z_; have := (nI_eq (b := 6) (by omega) (by omega)).mp z_; omega) ok169 ok178 ok195))]; have e_ := h_.2; rw [hat.2.1] at e_; exact e_⟩) (Nat.le_of_ble_eq_true rfl) (Nat.le_of_ble_eq_true rfl)
          refine x_cWi (x_runVW (xZr_w n adK adV fm us sb) X hN ⟨hP, Nat.le_refl _⟩ (hZs.at hS hnz) (As := [.int (nI 0), .int (nI 6)]) (rest := [.int (tkV tx ty (tkN tx ty (tkN tx ty p_))), .int (tkV tx ty (tkN tx ty p_)), .ref (n + 44)]) (MetT.metb (x_X3_takes l dC dI dA n u178 V V2 im ab be adK adV fm us sb H.size (nI 0) (nI 6) ty ht ht6 tx hT (tkN tx ty (tkN tx ty (tkN tx ty p_))) hp hat (Nat.le_trans hnz (Nat.le_trans hz0 hS.1))) ok195 xQi_ret) xkv_X3_95 (x_recv (ci := 3) X.2.2.2.2.2 hP (j := 90) (by decide) (xe_x90 ..) rfl) rfl rfl ⟨Nat.le_of_ble_eq_true rfl, Nat.le_of_ble_eq_true rfl⟩ hl.1 (Nat.le_of_ble_eq_true rfl) dX3_item_195 ⟨Nat.le_of_ble_eq_true rfl, Nat.le_of_ble_eq_true rfl⟩) hS (fun q h => h.elim Or.inl (fun h => Or.inr (Nat.le_trans (Nat.le_trans hz0 hS.1) h))) (fun q h => h.elim Or.inl (fun h => Or.inr (Nat.le_trans (Nat.le_trans hz0 hS.1) h))) (fun r195 u195 H locs hu195 hP1 hz1 hk1 hS => ?_)
          have hP := hP1
          obtain ⟨rfl, hu195a, hu195b⟩ := hu195
          have ht := (congrFun (hu195a.1 0 (by decide)) 0).trans ht
          have hT := fun k_ h_ => (congrFun (hu195a.1 88 (by decide)) k_).trans (hT k_ h_)
          have hVa := hVa.step hTb hk1
          have hX := hX.fr hu195a
          have hRa := hRa.cg (S' := fun i => u195 (44 + i)) (fun i hi => hu195a.1 (44 + i) (by omega)) (fun _ _ => rfl)
          have hat := hu195b
          have hp := tkN_b (T := tx) hp
          refine x_cWv (x_runV X hN (x_aside hP) (As := [.int (tkV tx ty (tkN tx ty p_)), .int (tkV tx ty (tkN tx ty (tkN tx ty p_))), .int (tkV tx ty (tkN tx ty (tkN tx ty (tkN tx ty p_))))]) (rest := []) (x_X1_comes l dC dI dA (n + 44) (fun i_ => u195 (44 + i_)) V2 (tkV tx ty (tkN tx ty p_)) (tkV tx ty (tkN tx ty (tkN tx ty p_))) (tkV tx ty (tkN tx ty (tkN tx ty (tkN tx ty p_)))) c many rent 0 0 0 0 (rdF A g) hRa (by omega)) xkv_X3_112 (x_recv (ci := 1) X.2.2.2.2.2 hP (j := 44) (by decide) (xe_x44 ..) rfl) rfl rfl ⟨Nat.le_of_ble_eq_true rfl, Nat.le_of_ble_eq_true rfl⟩ hl.1 (Nat.le_of_ble_eq_true rfl) dX3_item_198 ⟨Nat.le_of_ble_eq_true rfl, Nat.le_of_ble_eq_true rfl⟩) hS (fun q h => Or.inl (by unfold bkA at *; omega)) (fun q h => Or.inl (by unfold bkA at *; omega)) (fun uh H locs huh hP1 hz1 hk1 hS => ?_)
          have hVa := hVa.step0 (fun q hq ht => hk1 q hq (fun y => hTb q ht (by unfold bkA at *; omega)))
          have hP := x_asideI hP hP1 (fun q h1 h2 => hk1 q (bk_sz hP h1) h2)
          have hres := ((rd_ir c_49 c_134).trans (trY (A := A) (fun z_ => by rw [hA1] at z_; have := (nI_eq (b := 6) (by omega) (by omega)).mp z_; omega) ok169 ok178 ok195))
          rw [hA1, rv_cln (by omega)] at hres
          refine lv_goto (tgt := 260) X.1 X.2.1 dX3_item_201 (by decide) ?_
          refine W.pad (cells2 := 7) (slots2 := 60) (Nat.le_of_ble_eq_true rfl) (Nat.le_of_ble_eq_true rfl) ?_
          refine W.monoT (by rw [hres]) ?_
          exact x_rv (mdI u195 44 43 uh, V2) X hr hlk hS dX3_item_260 ⟨hX.aside, by rw [hres]; exact hat.cg (u := mdI u195 44 43 uh) (mdI_out _ _ (by decide))⟩ (by rw [hres]; exact rd_comes hP huh hVa hm6 (by omega) hA6)
    · refine lv_aload_n X.1 X.2.1 dX3_item_52 rfl (lv_at hl 0 rfl) ?_
      refine lv_aload_n X.1 X.2.1 dX3_item_53 rfl (lv_at hl 0 rfl) ?_
      refine xb_get (C := RX3) (T := TX3) (v := .ref n) X in_X3 (ci := 3) rfl hP (j := 90) (by decide) (xe_x90 ..) 5 (by decide) q200 rfl rfl dX3_item_54 ?_
      refine xb_getN (host := "RentedViews") (C := RX0) (T := TX0) (v := .ref (n + 44)) X in_X0 (ci := 0) rfl hP (j := 0) (by decide) (xe_x0 ..) 1 (by decide) (x_nest hN q250 rfl) rfl rfl dX3_item_57 ?_
      refine xb_getN (host := "RentedViews") (C := RX1) (T := TX1) (v := .int (ξ 44 0)) X in_X1 (ci := 1) rfl hP (j := 44) (by decide) (xe_x44 ..) 2 (by decide) (x_nest hN q146 rfl) rfl rfl dX3_item_60 ?_
      refine rn_co (y := nI many) hRa.nm ?_
      refine lv_bipush (v := nI 6) X.1 X.2.1 dX3_item_63 rfl ?_
      refine rn_icmp_ge (tgt := 72) X.1 X.2.1 (by omega) (by omega) dX3_item_65 (by decide) (fun c_65 => ?_) (fun c_65 => ?_)
      · refine lv_iconst (v := nI 0) X.1 X.2.1 dX3_item_72 rfl ?_
        skip
        exact x_prop (x_runVT (xZr_w n adK adV fm us sb) X hN ⟨hP, Nat.le_refl _⟩ (hZs.at hS hnz) (As := [.int (rb_i false)]) (rest := []) (x_X3_wants l dC dI dA n ξ V V2 im ab be adK adV fm us sb H.size false) rfl xkv_X3_61 (x_recv (ci := 3) X.2.2.2.2.2 hP (j := 90) (by decide) (xe_x90 ..) rfl) rfl rfl ⟨Nat.le_of_ble_eq_true rfl, Nat.le_of_ble_eq_true rfl⟩ hl.1 (Nat.le_of_ble_eq_true rfl) dX3_item_73 ⟨Nat.le_of_ble_eq_true rfl, Nat.le_of_ble_eq_true rfl⟩) hne hlk hS (fun q h => h.elim Or.inl (fun h => Or.inr (Nat.le_trans (Nat.le_trans hz0 hS.1) h))) (fun q h => h.elim Or.inl (fun h => Or.inr (Nat.le_trans (Nat.le_trans hz0 hS.1) h))) (by rw [((rd_iv c_49).trans (tv0 (A := A) (by rw [hA0, show many = 6 by omega]; rfl)))]) (fun x H1 h_ hz_ hk_ => ⟨⟨ξ, hX, many, rent, h_.1, hRa, hVa.step hTb hk_⟩, by rw [((rd_iv c_49).trans (tv0 (A := A) (by rw [hA0, show many = 6 by omega]; rfl)))]; have e_ := h_.2; rw [hat.2.1] at e_; exact e_⟩) (Nat.le_of_ble_eq_true rfl) (Nat.le_of_ble_eq_true rfl)
      · refine lv_iconst (v := nI 1) X.1 X.2.1 dX3_item_68 rfl ?_
        refine lv_goto (tgt := 73) X.1 X.2.1 dX3_item_69 (by decide) ?_
        refine x_cWv (x_runVW (xZr_w n adK adV fm us sb) X hN ⟨hP, Nat.le_refl _⟩ (hZs.at hS hnz) (As := [.int (rb_i true)]) (rest := []) (MetT.metb (x_X3_wants l dC dI dA n ξ V V2 im ab be adK adV fm us sb H.size true) rfl xQv_ret) xkv_X3_61 (x_recv (ci := 3) X.2.2.2.2.2 hP (j := 90) (by decide) (xe_x90 ..) rfl) rfl rfl ⟨Nat.le_of_ble_eq_true rfl, Nat.le_of_ble_eq_true rfl⟩ hl.1 (Nat.le_of_ble_eq_true rfl) dX3_item_73 ⟨Nat.le_of_ble_eq_true rfl, Nat.le_of_ble_eq_true rfl⟩) hS (fun q h => h.elim Or.inl (fun h => Or.inr (Nat.le_trans (Nat.le_trans hz0 hS.1) h))) (fun q h => h.elim Or.inl (fun h => Or.inr (Nat.le_trans (Nat.le_trans hz0 hS.1) h))) (fun _ H locs _ hP1 hz1 hk1 hS => ?_)
        have hP := hP1
        have hVa := hVa.step hTb hk1
        refine lv_aload_n X.1 X.2.1 dX3_item_76 rfl (lv_at hl 0 rfl) ?_
        refine x_cWv (x_runV X hN hP (As := []) (rest := []) (x_X3_scans l dC dI dA n ξ V V2 im ab be ty ht ht6 tx hT (tkN tx ty p_) hat.1 (tkN_b hp)) xkv_X3_65 (x_recv (ci := 3) X.2.2.2.2.2 hP (j := 90) (by decide) (xe_x90 ..) rfl) rfl rfl ⟨Nat.le_of_ble_eq_true rfl, Nat.le_of_ble_eq_true rfl⟩ hl.1 (Nat.le_of_ble_eq_true rfl) dX3_item_77 ⟨Nat.le_of_ble_eq_true rfl, Nat.le_of_ble_eq_true rfl⟩) hS (fun _ h => Or.inl h) (fun _ h => Or.inl h) (fun u77 H locs hu77 hP1 hz1 hk1 hS => ?_)
        have hP := hP1
        have ht := (congrFun (hu77.1.1 0 (by decide)) 0).trans ht
        have hT := fun k_ h_ => (congrFun (hu77.1.1 88 (by decide)) k_).trans (hT k_ h_)
        have hVa := hVa.step96 hTb hk1
        have hX := hX.fr hu77.1
        have hRa := hRa.cg (S' := fun i => u77 (44 + i)) (fun i hi => hu77.1.1 (44 + i) (by omega)) (fun _ _ => rfl)
        have hat := hu77.2
        have hp := tkN_b (T := tx) hp
        refine lv_aload_n X.1 X.2.1 dX3_item_80 rfl (lv_at hl 0 rfl) ?_
        refine lv_iconst (v := nI 0) X.1 X.2.1 dX3_item_81 rfl ?_
        refine lv_iconst (v := nI 5) X.1 X.2.1 dX3_item_82 rfl ?_
        refine x_okC (tkT tx ty (tkN tx ty p_) (nI 0) (nI 5)) (fun ok83 => ?_) (fun ok83 => ?_)
        · exact x_prop (x_runVT (xZr_w n adK adV fm us sb) X hN ⟨hP, Nat.le_refl _⟩ (hZs.at hS hnz) (As := [.int (nI 0), .int (nI 5)]) (rest := []) (x_X3_takes l dC dI dA n u77 V V2 im ab be adK adV fm us sb H.size (nI 0) (nI 5) ty ht ht6 tx hT (tkN tx ty p_) hp hat (Nat.le_trans hnz (Nat.le_trans hz0 hS.1))) ok83 xkv_X3_95 (x_recv (ci := 3) X.2.2.2.2.2 hP (j := 90) (by decide) (xe_x90 ..) rfl) rfl rfl ⟨Nat.le_of_ble_eq_true rfl, Nat.le_of_ble_eq_true rfl⟩ hl.1 (Nat.le_of_ble_eq_true rfl) dX3_item_83 ⟨Nat.le_of_ble_eq_true rfl, Nat.le_of_ble_eq_true rfl⟩) hne hlk hS (fun q h => h.elim Or.inl (fun h => Or.inr (Nat.le_trans (Nat.le_trans hz0 hS.1) h))) (fun q h => h.elim Or.inl (fun h => Or.inr (Nat.le_trans (Nat.le_trans hz0 hS.1) h))) (by rw [((rd_iv c_49).trans (tv1 (A := A) (fun z_ => by rw [hA0] at z_; have := (nI_eq (b := 6) (by omega) (by omega)).mp z_; omega) ok83))]) (fun x H1 h_ hz_ hk_ => ⟨⟨u77, hX, many, rent, h_.1, hRa, hVa.step hTb hk_⟩, by rw [((rd_iv c_49).trans (tv1 (A := A) (fun z_ => by rw [hA0] at z_; have := (nI_eq (b := 6) (by omega) (by omega)).mp z_; omega) ok83))]; have e_ := h_.2; rw [hat.2.1] at e_; exact e_⟩) (Nat.le_of_ble_eq_true rfl) (Nat.le_of_ble_eq_true rfl)
        refine x_cWi (x_runVW (xZr_w n adK adV fm us sb) X hN ⟨hP, Nat.le_refl _⟩ (hZs.at hS hnz) (As := [.int (nI 0), .int (nI 5)]) (rest := []) (MetT.metb (x_X3_takes l dC dI dA n u77 V V2 im ab be adK adV fm us sb H.size (nI 0) (nI 5) ty ht ht6 tx hT (tkN tx ty p_) hp hat (Nat.le_trans hnz (Nat.le_trans hz0 hS.1))) ok83 xQi_ret) xkv_X3_95 (x_recv (ci := 3) X.2.2.2.2.2 hP (j := 90) (by decide) (xe_x90 ..) rfl) rfl rfl ⟨Nat.le_of_ble_eq_true rfl, Nat.le_of_ble_eq_true rfl⟩ hl.1 (Nat.le_of_ble_eq_true rfl) dX3_item_83 ⟨Nat.le_of_ble_eq_true rfl, Nat.le_of_ble_eq_true rfl⟩) hS (fun q h => h.elim Or.inl (fun h => Or.inr (Nat.le_trans (Nat.le_trans hz0 hS.1) h))) (fun q h => h.elim Or.inl (fun h => Or.inr (Nat.le_trans (Nat.le_trans hz0 hS.1) h))) (fun r83 u83 H locs hu83 hP1 hz1 hk1 hS => ?_)
        have hP := hP1
        obtain ⟨rfl, hu83a, hu83b⟩ := hu83
        have ht := (congrFun (hu83a.1 0 (by decide)) 0).trans ht
        have hT := fun k_ h_ => (congrFun (hu83a.1 88 (by decide)) k_).trans (hT k_ h_)
        have hVa := hVa.step hTb hk1
        have hX := hX.fr hu83a
        have hRa := hRa.cg (S' := fun i => u83 (44 + i)) (fun i hi => hu83a.1 (44 + i) (by omega)) (fun _ _ => rfl)
        have hat := hu83b
        have hp := tkN_b (T := tx) hp
        obtain ⟨kd, hkd, ekd⟩ := rd_num ok83 (m := 6) rfl (by decide) (by decide)
        refine rn_co (y := nI kd) ekd ?_
        refine lv_istore_n (lv' := [(1, .int (nI kd)), (0, .ref (n + 90))]) X.1 X.2.1 dX3_item_86 rfl hl (by decide) rfl (fun ls hl => ?_)
        refine lv_aload_n X.1 X.2.1 dX3_item_87 rfl (lv_at hl 1 rfl) ?_
        refine lv_iconst (v := nI 1) X.1 X.2.1 dX3_item_88 rfl ?_
        refine lv_bipush (v := nI 9) X.1 X.2.1 dX3_item_89 rfl ?_
        refine x_okC (tkT tx ty (tkN tx ty (tkN tx ty p_)) (nI 1) (nI 9)) (fun ok91 => ?_) (fun ok91 => ?_)
        · exact x_prop (x_runVT (xZr_w n adK adV fm us sb) X hN ⟨hP, Nat.le_refl _⟩ (hZs.at hS hnz) (As := [.int (nI 1), .int (nI 9)]) (rest := []) (x_X3_takes l dC dI dA n u83 V V2 im ab be adK adV fm us sb H.size (nI 1) (nI 9) ty ht ht6 tx hT (tkN tx ty (tkN tx ty p_)) hp hat (Nat.le_trans hnz (Nat.le_trans hz0 hS.1))) ok91 xkv_X3_95 (x_recv (ci := 3) X.2.2.2.2.2 hP (j := 90) (by decide) (xe_x90 ..) rfl) rfl rfl ⟨Nat.le_of_ble_eq_true rfl, Nat.le_of_ble_eq_true rfl⟩ hl.1 (Nat.le_of_ble_eq_true rfl) dX3_item_91 ⟨Nat.le_of_ble_eq_true rfl, Nat.le_of_ble_eq_true rfl⟩) hne hlk hS (fun q h => h.elim Or.inl (fun h => Or.inr (Nat.le_trans (Nat.le_trans hz0 hS.1) h))) (fun q h => h.elim Or.inl (fun h => Or.inr (Nat.le_trans (Nat.le_trans hz0 hS.1) h))) (by rw [((rd_iv c_49).trans (tv2 (A := A) (fun z_ => by rw [hA0] at z_; have := (nI_eq (b := 6) (by omega) (by omega)).mp z_; omega) ok83 ok91))]) (fun x H1 h_ hz_ hk_ => ⟨⟨u83, hX, many, rent, h_.1, hRa, hVa.step hTb hk_⟩, by rw [((rd_iv c_49).trans (tv2 (A := A) (fun z_ => by rw [hA0] at z_; have := (nI_eq (b := 6) (by omega) (by omega)).mp z_; omega) ok83 ok91))]; have e_ := h_.2; rw [hat.2.1] at e_; exact e_⟩) (Nat.le_of_ble_eq_true rfl) (Nat.le_of_ble_eq_true rfl)
        refine x_cWi (x_runVW (xZr_w n adK adV fm us sb) X hN ⟨hP, Nat.le_refl _⟩ (hZs.at hS hnz) (As := [.int (nI 1), .int (nI 9)]) (rest := []) (MetT.metb (x_X3_takes l dC dI dA n u83 V V2 im ab be adK adV fm us sb H.size (nI 1) (nI 9) ty ht ht6 tx hT (tkN tx ty (tkN tx ty p_)) hp hat (Nat.le_trans hnz (Nat.le_trans hz0 hS.1))) ok91 xQi_ret) xkv_X3_95 (x_recv (ci := 3) X.2.2.2.2.2 hP (j := 90) (by decide) (xe_x90 ..) rfl) rfl rfl ⟨Nat.le_of_ble_eq_true rfl, Nat.le_of_ble_eq_true rfl⟩ hl.1 (Nat.le_of_ble_eq_true rfl) dX3_item_91 ⟨Nat.le_of_ble_eq_true rfl, Nat.le_of_ble_eq_true rfl⟩) hS (fun q h => h.elim Or.inl (fun h => Or.inr (Nat.le_trans (Nat.le_trans hz0 hS.1) h))) (fun q h => h.elim Or.inl (fun h => Or.inr (Nat.le_trans (Nat.le_trans hz0 hS.1) h))) (fun r91 u91 H locs hu91 hP1 hz1 hk1 hS => ?_)
        have hP := hP1
        obtain ⟨rfl, hu91a, hu91b⟩ := hu91
        have ht := (congrFun (hu91a.1 0 (by decide)) 0).trans ht
        have hT := fun k_ h_ => (congrFun (hu91a.1 88 (by decide)) k_).trans (hT k_ h_)
        have hVa := hVa.step hTb hk1
        have hX := hX.fr hu91a
        have hRa := hRa.cg (S' := fun i => u91 (44 + i)) (fun i hi => hu91a.1 (44 + i) (by omega)) (fun _ _ => rfl)
        have hat := hu91b
        have hp := tkN_b (T := tx) hp
        refine lv_istore_n (lv' := [(2, .int (tkV tx ty (tkN tx ty (tkN tx ty p_)))), (1, .int (nI kd)), (0, .ref (n + 90))]) X.1 X.2.1 dX3_item_94 rfl hl (by decide) rfl (fun ls hl => ?_)
        refine lv_aload_n X.1 X.2.1 dX3_item_95 rfl (lv_at hl 2 rfl) ?_
        refine lv_iconst (v := nI 0) X.1 X.2.1 dX3_item_96 rfl ?_
        refine lv_bipush (v := nI 99) X.1 X.2.1 dX3_item_97 rfl ?_
        refine x_okC (tkT tx ty (tkN tx ty (tkN tx ty (tkN tx ty p_))) (nI 0) (nI 99)) (fun ok99 => ?_) (fun ok99 => ?_)
        · exact x_prop (x_runVT (xZr_w n adK adV fm us sb) X hN ⟨hP, Nat.le_refl _⟩ (hZs.at hS hnz) (As := [.int (nI 0), .int (nI 99)]) (rest := []) (x_X3_takes l dC dI dA n u91 V V2 im ab be adK adV fm us sb H.size (nI 0) (nI 99) ty ht ht6 tx hT (tkN tx ty (tkN tx ty (tkN tx ty p_))) hp hat (Nat.le_trans hnz (Nat.le_trans hz0 hS.1))) ok99 xkv_X3_95 (x_recv (ci := 3) X.2.2.2.2.2 hP (j := 90) (by decide) (xe_x90 ..) rfl) rfl rfl ⟨Nat.le_of_ble_eq_true rfl, Nat.le_of_ble_eq_true rfl⟩ hl.1 (Nat.le_of_ble_eq_true rfl) dX3_item_99 ⟨Nat.le_of_ble_eq_true rfl, Nat.le_of_ble_eq_true rfl⟩) hne hlk hS (fun q h => h.elim Or.inl (fun h => Or.inr (Nat.le_trans (Nat.le_trans hz0 hS.1) h))) (fun q h => h.elim Or.inl (fun h => Or.inr (Nat.le_trans (Nat.le_trans hz0 hS.1) h))) (by rw [((rd_iv c_49).trans (tv3 (A := A) (fun z_ => by rw [hA0] at z_; have := (nI_eq (b := 6) (by omega) (by omega)).mp z_; omega) ok83 ok91 ok99))]) (fun x H1 h_ hz_ hk_ => ⟨⟨u91, hX, many, rent, h_.1, hRa, hVa.step hTb hk_⟩, by rw [((rd_iv c_49).trans (tv3 (A := A) (fun z_ => by rw [hA0] at z_; have := (nI_eq (b := 6) (by omega) (by omega)).mp z_; omega) ok83 ok91 ok99))]; have e_ := h_.2; rw [hat.2.1] at e_; exact e_⟩) (Nat.le_of_ble_eq_true rfl) (Nat.le_of_ble_eq_true rfl)
        refine x_cWi (x_runVW (xZr_w n adK adV fm us sb) X hN ⟨hP, Nat.le_refl _⟩ (hZs.at hS hnz) (As := [.int (nI 0), .int (nI 99)]) (rest := []) (MetT.metb (x_X3_takes l dC dI dA n u91 V V2 im ab be adK adV fm us sb H.size (nI 0) (nI 99) ty ht ht6 tx hT (tkN tx ty (tkN tx ty (tkN tx ty p_))) hp hat (Nat.le_trans hnz (Nat.le_trans hz0 hS.1))) ok99 xQi_ret) xkv_X3_95 (x_recv (ci := 3) X.2.2.2.2.2 hP (j := 90) (by decide) (xe_x90 ..) rfl) rfl rfl ⟨Nat.le_of_ble_eq_true rfl, Nat.le_of_ble_eq_true rfl⟩ hl.1 (Nat.le_of_ble_eq_true rfl) dX3_item_99 ⟨Nat.le_of_ble_eq_true rfl, Nat.le_of_ble_eq_true rfl⟩) hS (fun q h => h.elim Or.inl (fun h => Or.inr (Nat.le_trans (Nat.le_trans hz0 hS.1) h))) (fun q h => h.elim Or.inl (fun h => Or.inr (Nat.le_trans (Nat.le_trans hz0 hS.1) h))) (fun r99 u99 H locs hu99 hP1 hz1 hk1 hS => ?_)
        have hP := hP1
        obtain ⟨rfl, hu99a, hu99b⟩ := hu99
        have ht := (congrFun (hu99a.1 0 (by decide)) 0).trans ht
        have hT := fun k_ h_ => (congrFun (hu99a.1 88 (by decide)) k_).trans (hT k_ h_)
        have hVa := hVa.step hTb hk1
        have hX := hX.fr hu99a
        have hRa := hRa.cg (S' := fun i => u99 (44 + i)) (fun i hi => hu99a.1 (44 + i) (by omega)) (fun _ _ => rfl)
        have hat := hu99b
        have hp := tkN_b (T := tx) hp
        refine lv_istore_n (lv' := [(3, .int (tkV tx ty (tkN tx ty (tkN tx ty (tkN tx ty p_))))), (2, .int (tkV tx ty (tkN tx ty (tkN tx ty p_)))), (1, .int (nI kd)), (0, .ref (n + 90))]) X.1 X.2.1 dX3_item_102 rfl hl (by decide) rfl (fun ls hl => ?_)
        refine lv_aload_n X.1 X.2.1 dX3_item_103 rfl (lv_at hl 3 rfl) ?_
        refine xb_get (C := RX3) (T := TX3) (v := .ref n) X in_X3 (ci := 3) rfl hP (j := 90) (by decide) (xe_x90 ..) 5 (by decide) q200 rfl rfl dX3_item_104 ?_
        refine xb_getN (host := "RentedViews") (C := RX0) (T := TX0) (v := .ref (n + 44)) X in_X0 (ci := 0) rfl hP (j := 0) (by decide) (xe_x0 ..) 1 (by decide) (x_nest hN q250 rfl) rfl rfl dX3_item_107 ?_
        refine lv_iload_n X.1 X.2.1 dX3_item_110 rfl (lv_at hl 2 rfl) ?_
        refine lv_iload_n X.1 X.2.1 dX3_item_111 rfl (lv_at hl 1 rfl) ?_
        refine lv_iload_n X.1 X.2.1 dX3_item_112 rfl (lv_at hl 0 rfl) ?_
        refine lv_aload_n X.1 X.2.1 dX3_item_113 rfl (lv_at hl 3 rfl) ?_
        refine lv_iconst (v := nI 0) X.1 X.2.1 dX3_item_114 rfl ?_
        refine lv_iconst (v := nI 5) X.1 X.2.1 dX3_item_115 rfl ?_
        refine x_okC (tkT tx ty (tkN tx ty (tkN tx ty (tkN tx ty (tkN tx ty p_)))) (nI 0) (nI 5)) (fun ok116 => ?_) (fun ok116 => ?_)
        · exact x_prop (x_runVT (xZr_w n adK adV fm us sb) X hN ⟨hP, Nat.le_refl _⟩ (hZs.at hS hnz) (As := [.int (nI 0), .int (nI 5)]) (rest := [.int (tkV tx ty (tkN tx ty (tkN tx ty (tkN tx ty p_)))), .int (tkV tx ty (tkN tx ty (tkN tx ty p_))), .int (nI kd), .ref (n + 44)]) (x_X3_takes l dC dI dA n u99 V V2 im ab be adK adV fm us sb H.size (nI 0) (nI 5) ty ht ht6 tx hT (tkN tx ty (tkN tx ty (tkN tx ty (tkN tx ty p_)))) hp hat (Nat.le_trans hnz (Nat.le_trans hz0 hS.1))) ok116 xkv_X3_95 (x_recv (ci := 3) X.2.2.2.2.2 hP (j := 90) (by decide) (xe_x90 ..) rfl) rfl rfl ⟨Nat.le_of_ble_eq_true rfl, Nat.le_of_ble_eq_true rfl⟩ hl.1 (Nat.le_of_ble_eq_true rfl) dX3_item_116 ⟨Nat.le_of_ble_eq_true rfl, Nat.le_of_ble_eq_true rfl⟩) hne hlk hS (fun q h => h.elim Or.inl (fun h => Or.inr (Nat.le_trans (Nat.le_trans hz0 hS.1) h))) (fun q h => h.elim Or.inl (fun h => Or.inr (Nat.le_trans (Nat.le_trans hz0 hS.1) h))) (by rw [((rd_iv c_49).trans (tv4 (A := A) (fun z_ => by rw [hA0] at z_; have := (nI_eq (b := 6) (by omega) (by omega)).mp z_; omega) ok83 ok91 ok99 ok116))]) (fun x H1 h_ hz_ hk_ => ⟨⟨u99, hX, many, rent, h_.1, hRa, hVa.step hTb hk_⟩, by rw [((rd_iv c_49).trans (tv4 (A := A) (fun z_ => by rw [hA0] at z_; have := (nI_eq (b := 6) (by omega) (by omega)).mp z_; omega) ok83 ok91 ok99 ok116))]; have e_ := h_.2; rw [hat.2.1] at e_; exact e_⟩) (Nat.le_of_ble_eq_true rfl) (Nat.le_of_ble_eq_true rfl)
        refine x_cWi (x_runVW (xZr_w n adK adV fm us sb) X hN ⟨hP, Nat.le_refl _⟩ (hZs.at hS hnz) (As := [.int (nI 0), .int (nI 5)]) (rest := [.int (tkV tx ty (tkN tx ty (tkN tx ty (tkN tx ty p_)))), .int (tkV tx ty (tkN tx ty (tkN tx ty p_))), .int (nI kd), .ref (n + 44)]) (MetT.metb (x_X3_takes l dC dI dA n u99 V V2 im ab be adK adV fm us sb H.size (nI 0) (nI 5) ty ht ht6 tx hT (tkN tx ty (tkN tx ty (tkN tx ty (tkN tx ty p_)))) hp hat (Nat.le_trans hnz (Nat.le_trans hz0 hS.1))) ok116 xQi_ret) xkv_X3_95 (x_recv (ci := 3) X.2.2.2.2.2 hP (j := 90) (by decide) (xe_x90 ..) rfl) rfl rfl ⟨Nat.le_of_ble_eq_true rfl, Nat.le_of_ble_eq_true rfl⟩ hl.1 (Nat.le_of_ble_eq_true rfl) dX3_item_116 ⟨Nat.le_of_ble_eq_true rfl, Nat.le_of_ble_eq_true rfl⟩) hS (fun q h => h.elim Or.inl (fun h => Or.inr (Nat.le_trans (Nat.le_trans hz0 hS.1) h))) (fun q h => h.elim Or.inl (fun h => Or.inr (Nat.le_trans (Nat.le_trans hz0 hS.1) h))) (fun r116 u116 H locs hu116 hP1 hz1 hk1 hS => ?_)
        have hP := hP1
        obtain ⟨rfl, hu116a, hu116b⟩ := hu116
        have ht := (congrFun (hu116a.1 0 (by decide)) 0).trans ht
        have hT := fun k_ h_ => (congrFun (hu116a.1 88 (by decide)) k_).trans (hT k_ h_)
        have hVa := hVa.step hTb hk1
        have hX := hX.fr hu116a
        have hRa := hRa.cg (S' := fun i => u116 (44 + i)) (fun i hi => hu116a.1 (44 + i) (by omega)) (fun _ _ => rfl)
        have hat := hu116b
        have hp := tkN_b (T := tx) hp
        obtain ⟨z1, ez1⟩ : ∃ z1, z1 = H.size := ⟨_, rfl⟩
        have hz96 : n + 95 < z1 := by rw [ez1]; exact bk_sz hP ⟨by omega, by omega⟩
        have hzz1 : z ≤ z1 := by rw [ez1]; exact Nat.le_trans hz0 hS.1
        refine x_cWr (x_runSN X hN (P := fun H => H.size = z1) ez1.symm (As := [.int (nI kd), .int (tkV tx ty (tkN tx ty (tkN tx ty p_))), .int (tkV tx ty (tkN tx ty (tkN tx ty (tkN tx ty p_)))), .int (tkV tx ty (tkN tx ty (tkN tx ty (tkN tx ty (tkN tx ty p_)))))]) (rest := [.ref (n + 44)]) (x_made l dC dI dA z1 kd (tkV tx ty (tkN tx ty (tkN tx ty p_))) (tkV tx ty (tkN tx ty (tkN tx ty (tkN tx ty p_)))) (tkV tx ty (tkN tx ty (tkN tx ty (tkN tx ty (tkN tx ty p_))))) hkd) xksn_X3_99 rfl rfl ⟨Nat.le_of_ble_eq_true rfl, Nat.le_of_ble_eq_true rfl⟩ hl.1 (Nat.le_of_ble_eq_true rfl) dX3_item_119 ⟨Nat.le_of_ble_eq_true rfl, Nat.le_of_ble_eq_true rfl⟩) hS (fun q h => Or.inr (Nat.le_trans hzz1 h)) (fun q h => Or.inr (Nat.le_trans hzz1 h)) (fun _ ra H locs _ hra hz1 hk1 hS => ?_)
        obtain ⟨era, hva⟩ := hra
        subst era
        have hVa := hVa.step0 (fun q hq _ => hk1 q hq (by show ¬ ra ≤ q; omega))
        have hP := bkP.kept hP (fun q hq => hk1 q (bk_sz hP hq) (by have := bk_sz hP hq; show ¬ ra ≤ q; omega))
        refine x_cWv (x_runV X hN ⟨x_aside hP, hva⟩ (As := [.ref ra]) (rest := []) (x_X1_hangs l dC dI dA (n + 44) (fun i_ => u116 (44 + i_)) V2 ra c many rent 0 0 0 0 (rdF A g) hRa kd (tkV tx ty (tkN tx ty (tkN tx ty p_))) (tkV tx ty (tkN tx ty (tkN tx ty (tkN tx ty p_)))) (tkV tx ty (tkN tx ty (tkN tx ty (tkN tx ty (tkN tx ty p_))))) hkd (by omega) (by unfold bkA; omega)) xkv_X3_103 (x_recv (ci := 1) X.2.2.2.2.2 hP (j := 44) (by decide) (xe_x44 ..) rfl) rfl rfl ⟨Nat.le_of_ble_eq_true rfl, Nat.le_of_ble_eq_true rfl⟩ hl.1 (Nat.le_of_ble_eq_true rfl) dX3_item_122 ⟨Nat.le_of_ble_eq_true rfl, Nat.le_of_ble_eq_true rfl⟩) hS (fun q h => Or.inl (by unfold bkA at *; omega)) (fun q h => Or.inl (by unfold bkA at *; omega)) (fun uh H locs huh hP1 hz1 hk1 hS => ?_)
        have hVa := (hVa.hang (by omega) (hTz ra hzz1) hkd hva).step0 (fun q hq ht => hk1 q hq (fun y => hTb q ht (by unfold bkA at *; omega)))
        have hP := x_asideI hP hP1 (fun q h1 h2 => hk1 q (bk_sz hP h1) h2)
        have hres := ((rd_iv c_49).trans (tvY (A := A) (fun z_ => by rw [hA0] at z_; have := (nI_eq (b := 6) (by omega) (by omega)).mp z_; omega) ok83 ok91 ok99 ok116))
        rw [hA0, rv_cln (by omega), ekd] at hres
        refine lv_goto (tgt := 260) X.1 X.2.1 dX3_item_125 (by decide) ?_
        refine W.pad (cells2 := 7) (slots2 := 60) (Nat.le_of_ble_eq_true rfl) (Nat.le_of_ble_eq_true rfl) ?_
        refine W.monoT (by rw [hres]) ?_
        exact x_rv (mdI u116 44 43 uh, va_up V2 many (some ra)) X hr hlk hS dX3_item_260 ⟨hX.aside, by rw [hres]; exact hat.cg (u := mdI u116 44 43 uh) (mdI_out _ _ (by decide))⟩ (by rw [hres]; exact rd_hang hP huh hVa (by omega) hA6)
  · refine lv_aload_n X.1 X.2.1 dX3_item_9 rfl (lv_at hl 0 rfl) ?_
    refine lv_aload_n X.1 X.2.1 dX3_item_10 rfl (lv_at hl 0 rfl) ?_
    refine xb_get (C := RX3) (T := TX3) (v := .int (ξ 90 4)) X in_X3 (ci := 3) rfl hP (j := 90) (by decide) (xe_x90 ..) 4 (by decide) q199 rfl rfl dX3_item_11 ?_
    refine rn_co (y := nI 1) hbg ?_
    refine rn_if_ne (tgt := 21) X.1 X.2.1 (by omega) dX3_item_14 (by decide) (fun c_14 => ?_) (fun c_14 => ?_)
    · refine lv_iconst (v := nI 0) X.1 X.2.1 dX3_item_21 rfl ?_
      skip
      exact x_prop (x_runVT (xZr_w n adK adV fm us sb) X hN ⟨hP, Nat.le_refl _⟩ (hZs.at hS hnz) (As := [.int (rb_i false)]) (rest := []) (x_X3_wants l dC dI dA n ξ V V2 im ab be adK adV fm us sb s.heap.size false) rfl xkv_X3_61 (x_recv (ci := 3) X.2.2.2.2.2 hP (j := 90) (by decide) (xe_x90 ..) rfl) rfl rfl ⟨Nat.le_of_ble_eq_true rfl, Nat.le_of_ble_eq_true rfl⟩ hl.1 (Nat.le_of_ble_eq_true rfl) dX3_item_22 ⟨Nat.le_of_ble_eq_true rfl, Nat.le_of_ble_eq_true rfl⟩) hne hlk hS (fun q h => h.elim Or.inl (fun h => Or.inr (Nat.le_trans (Nat.le_trans hz0 hS.1) h))) (fun q h => h.elim Or.inl (fun h => Or.inr (Nat.le_trans (Nat.le_trans hz0 hS.1) h))) (by rw [rd_is c_6]) (fun x H1 h_ hz_ hk_ => ⟨⟨ξ, hX, many, rent, h_.1, hRa, hVa.step hTb hk_⟩, by rw [rd_is c_6]; have e_ := h_.2; rw [hat.2.1] at e_; exact e_⟩) (Nat.le_of_ble_eq_true rfl) (Nat.le_of_ble_eq_true rfl)
    · exact absurd c_14 (by decide)
