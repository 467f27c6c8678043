set_option maxRecDepth 100000
/-! the component: what is read; the first item -/
theorem xkv_X3_86 : xKV RX3 yX3_isWord cX3_isWord 4 (some .boolean) 86 1 := ⟨q525, q527, qs10, q64, q528, by decide +kernel⟩
/-- the numbers that are read, over those that are not -/
def rdF (A g : Nat → Int32) : Nat → Int32 := fun k => if k < 115 then A k else g k
theorem rdF_lo {A g : Nat → Int32} {k : Nat} (h : k < 115) : rdF A g k = A k := by unfold rdF; rw [if_pos h]
theorem rdF_upd {A g : Nat → Int32} {j : Nat} {x : Int32} (h : j < 115) (k : Nat) : rdF (upd A j x) g k = upd (rdF A g) j x k := by
  unfold rdF upd
  by_cases e : k = j
  · rw [if_pos e, if_pos (by omega), if_pos e]
  · rw [if_neg e, if_neg e]
theorem rdF_fn {A g : Nat → Int32} {j : Nat} {x : Int32} (h : j < 115) : rdF (upd A j x) g = upd (rdF A g) j x := funext (rdF_upd h)
theorem rdF_lvf {A g : Nat → Int32} {m : Nat} {kd sz pr we : Int32} (hm : m < 6) : rdF (rv_lvf A m kd sz pr we) g = rv_lvf (rdF A g) m kd sz pr we := by
  unfold rv_lvf
  rw [rdF_fn (by omega), rdF_fn (by omega), rdF_fn (by omega), rdF_fn (by omega), rdF_fn (by omega), rdF_fn (by omega), rdF_fn (by omega)]
theorem rdF_lrf {A g : Nat → Int32} {m : Nat} {wl pu wa : Int32} (hm : m < 6) : rdF (rv_lrf A m wl pu wa) g = rv_lrf (rdF A g) m wl pu wa := by
  unfold rv_lrf
  rw [rdF_fn (by omega), rdF_fn (by omega), rdF_fn (by omega), rdF_fn (by omega)]
theorem upd_same {f : Nat → Int32} {j : Nat} {x : Int32} (h : f j = x) : upd f j x = f := by
  funext k; unfold upd
  by_cases e : k = j
  · rw [if_pos e, e, h]
  · rw [if_neg e]
/-- what reading leaves as it was -/
def rdX (ξ u : mdT) : Prop := (∀ a, a < 44 ∨ 87 ≤ a → a ≠ 90 → u a = ξ a) ∧ ∀ j, 4 ≤ j → u 90 j = ξ 90 j
theorem rdX.rf (ξ : mdT) : rdX ξ ξ := ⟨fun _ _ _ => rfl, fun _ _ => rfl⟩
theorem rdX.fr {ξ v u : mdT} (h : rdX ξ v) (g : rdFr v u) : rdX ξ u := ⟨fun a ha h9 => (g.1 a h9).trans (h.1 a ha h9), fun j hj => (g.2 j hj).trans (h.2 j hj)⟩
theorem rdX.aside {ξ v u : mdT} (h : rdX ξ v) : rdX ξ (mdI v 44 43 u) :=
  ⟨fun a ha h9 => by rw [mdI_out _ _ (by omega)]; exact h.1 a ha h9, fun j hj => by rw [mdI_out _ _ (by omega)]; exact h.2 j hj⟩
theorem rdX.S {ξ v : mdT} (h : rdX ξ v) {j k : Nat} {x : Int32} (hj : 44 ≤ j ∧ j < 87) : rdX ξ (mdS v j k x) :=
  ⟨fun a ha h9 => by rw [mdS_row _ _ _ (by omega)]; exact h.1 a ha h9, fun i hi => by rw [mdS_row _ _ _ (by omega)]; exact h.2 i hi⟩
theorem rdX.tr {a b d : mdT} (h : rdX a b) (g : rdX b d) : rdX a d := ⟨fun q hq h9 => (g.1 q hq h9).trans (h.1 q hq h9), fun j hj => (g.2 j hj).trans (h.2 j hj)⟩
/-- the component while it reads: the shop aside holds A -/
def rdW (dC : Nat → ClassId) (dI : Nat → Nat → Nat) (dA : Nat → ClassId) (c : Nat) (T : Nat → Prop) (n : Nat) (A g : Nat → Int32) (ξ : mdT) (V V2 im : Nat → Option Nat) (ab be : Int64) (H : Heap) : Prop :=
  ∃ many rent, bkP dC dI n 96 (xE dA n ξ V V2 im ab be) H ∧ shR c many rent 0 0 0 0 (rdF A g) (fun i => ξ (44 + i)) ∧ shV dC dI T many (rdF A g) V2 H
section RDV
variable {dC : Nat → ClassId} {dI : Nat → Nat → Nat} {T : Nat → Prop} {many n : Nat} {f f' : Nat → Int32} {V : Nat → Option Nat} {H H1 : Heap}
theorem shV.step0 (h : shV dC dI T many f V H) (hk : ∀ q, q < H.size → T q → H1[q]? = H[q]?) : shV dC dI T many f V H1 := by
  refine ⟨fun v hv a ha => ?_, fun v hv => ?_⟩
  · obtain ⟨h1, kd, sz, pr, we, h2, h3⟩ := h.1 v hv a ha
    exact ⟨h1, kd, sz, pr, we, h2, h3.kept0 (hk a h3.lt h1)⟩
  · obtain ⟨a, kd, h1, h2, h3, h4, h5⟩ := h.2 v hv
    exact ⟨a, kd, h1, h2, h3, h4, h5.kept0 (hk a h5.lt h2)⟩
theorem shV.step (h : shV dC dI T many f V H) (hTb : ∀ a, T a → ¬ bkA n 96 a) (hk : ∀ q, q < H.size → ¬ (bkA n 96 q ∨ H.size ≤ q) → H1[q]? = H[q]?) : shV dC dI T many f V H1 :=
  h.step0 (fun q hq ht => hk q hq (fun y => y.elim (hTb q ht) (fun y => absurd y (Nat.not_le.mpr hq))))
theorem shV.step96 (h : shV dC dI T many f V H) (hTb : ∀ a, T a → ¬ bkA n 96 a) (hk : ∀ q, q < H.size → ¬ bkA n 96 q → H1[q]? = H[q]?) : shV dC dI T many f V H1 := h.step0 (fun q hq ht => hk q hq (hTb q ht))
theorem shV.hang {va kd : Nat} {sz pr we : Int32} (h : shV dC dI T many f V H) (hm : many < 6) (hT : T va) (hkd : kd < 6) (hva : vwP dC dI va kd sz pr we H) : shV dC dI T (many + 1) (rv_lvf f many (nI kd) sz pr we) (va_up V many (some va)) H := by
  have hf : ∀ v, v < many → ∀ j, j < 4 → rv_lvf f many (nI kd) sz pr we (7 + 6 * v + j) = f (7 + 6 * v + j) := fun v hv j hj => by
    unfold rv_lvf upd
    rw [if_neg (by omega), if_neg (by omega), if_neg (by omega), if_neg (by omega), if_neg (by omega), if_neg (by omega), if_neg (by omega)]
  refine ⟨fun v hv a ha => ?_, fun v hv => ?_⟩
  · by_cases e : v = many
    · rw [e, va_up_self] at ha; cases ha
      exact ⟨hT, kd, sz, pr, we, hkd, hva⟩
    · rw [va_up_ne _ _ e] at ha; exact h.1 v hv a ha
  · by_cases e : v = many
    · subst e
      refine ⟨va, kd, va_up_self _ _ _, hT, hkd, ?_, ?_⟩
      · unfold rv_lvf upd; rw [if_neg (by omega), if_neg (by omega), if_neg (by omega), if_neg (by omega), if_neg (by omega), if_neg (by omega), if_pos rfl]
      · have e1 : rv_lvf f v (nI kd) sz pr we (7 + 6 * v + 1) = sz := by unfold rv_lvf upd; rw [if_neg (by omega), if_neg (by omega), if_neg (by omega), if_neg (by omega), if_neg (by omega), if_pos rfl]
        have e2 : rv_lvf f v (nI kd) sz pr we (7 + 6 * v + 2) = pr := by unfold rv_lvf upd; rw [if_neg (by omega), if_neg (by omega), if_neg (by omega), if_neg (by omega), if_pos rfl]
        have e3 : rv_lvf f v (nI kd) sz pr we (7 + 6 * v + 3) = we := by unfold rv_lvf upd; rw [if_neg (by omega), if_neg (by omega), if_neg (by omega), if_pos rfl]
        rw [e1, e2, e3]; exact hva
    · obtain ⟨a, k, h1, h2, h3, h4, h5⟩ := h.2 v (by omega)
      refine ⟨a, k, by rw [va_up_ne _ _ e]; exact h1, h2, h3, by rw [show 7 + 6 * v = 7 + 6 * v + 0 from rfl, hf v (by omega) 0 (by omega)]; exact h4, ?_⟩
      rw [hf v (by omega) 1 (by omega), hf v (by omega) 2 (by omega), hf v (by omega) 3 (by omega)]; exact h5
end RDV
section RDI
variable {T : Nat → Int32} {tl p : Nat} {A : Nat → Int32}
theorem rv_eqw_c {w w' : Nat → Int32} {a : Nat} : ∀ n, (∀ k, k < n → w k = w' k) → rv_eqw T a w n = rv_eqw T a w' n
  | 0, _ => rfl
  | n + 1, h => by rw [rv_eqw, rv_eqw, rv_eqw_c n (fun k hk => h k (by omega)), h n (by omega)]
theorem tkW_c {sz : Nat} {w w' : Nat → Int32} (h : ∀ k, k < sz → w k = w' k) : tkW T tl p sz w = tkW T tl p sz w' := by unfold tkW; rw [rv_eqw_c sz h]
theorem rd_w0 : tkW T tl p 4 (rv_w6 (nI 115) (nI 104) (nI 111) (nI 112) (nI 0) (nI 0)) = tkW T tl p (lnW 0) (chW 0) := tkW_c (w' := chW 0) (by decide +kernel)
theorem rd_w1 : tkW T tl p 4 (rv_w6 (nI 118) (nI 105) (nI 101) (nI 119) (nI 0) (nI 0)) = tkW T tl p (lnW 1) (chW 1) := tkW_c (w' := chW 1) (by decide +kernel)
theorem rd_w2 : tkW T tl p 6 (rv_w6 (nI 114) (nI 101) (nI 110) (nI 116) (nI 101) (nI 114)) = tkW T tl p (lnW 2) (chW 2) := tkW_c (w' := chW 2) (by decide +kernel)
theorem rd_w3 : tkW T tl p 5 (rv_w6 (nI 116) (nI 104) (nI 105) (nI 110) (nI 103) (nI 0)) = tkW T tl p (lnW 3) (chW 3) := tkW_c (w' := chW 3) (by decide +kernel)
theorem rd_iv (h : tkW T tl p (lnW 1) (chW 1) = true) : rv_item T tl p A = rv_tv T tl p A := by unfold rv_item; rw [rd_w1, if_pos h]
theorem rd_ir (h1 : tkW T tl p (lnW 1) (chW 1) = false) (h : tkW T tl p (lnW 2) (chW 2) = true) : rv_item T tl p A = rv_tr T tl p A := by unfold rv_item; rw [rd_w1, if_neg (rv_nf h1), rd_w2, if_pos h]
theorem rd_it (h1 : tkW T tl p (lnW 1) (chW 1) = false) (h2 : tkW T tl p (lnW 2) (chW 2) = false) (h : tkW T tl p (lnW 3) (chW 3) = true) : rv_item T tl p A = rv_tt T tl p A := by unfold rv_item; rw [rd_w1, if_neg (rv_nf h1), rd_w2, if_neg (rv_nf h2), rd_w3, if_pos h]
theorem rd_in (h1 : tkW T tl p (lnW 1) (chW 1) = false) (h2 : tkW T tl p (lnW 2) (chW 2) = false) (h : tkW T tl p (lnW 3) (chW 3) = false) : rv_item T tl p A = (false, p, A) := by unfold rv_item; rw [rd_w1, if_neg (rv_nf h1), rd_w2, if_neg (rv_nf h2), rd_w3, if_neg (rv_nf h)]
theorem tkW_at {i : Nat} (h : tkW T tl p (lnW i) (chW i) = true) (hi : 0 < lnW i) : tkL T tl p = lnW i ∧ T (tkA T tl p) = chW i 0 := by
  unfold tkW at h
  have h1 := Bool.and_eq_true_iff.mp h
  have h2 := Bool.and_eq_true_iff.mp h1.1
  refine ⟨of_decide_eq_true h2.2, ?_⟩
  have h3 : ∀ n, 0 < n → rv_eqw T (tkA T tl p) (chW i) n = true → T (tkA T tl p) = chW i 0 := by
    intro n
    induction n with
    | zero => intro h; omega
    | succ n ih =>
      intro _ hq
      rw [rv_eqw] at hq
      have h4 := Bool.and_eq_true_iff.mp hq
      cases n with
      | zero => exact of_decide_eq_true h4.2
      | succ n => exact ih (by omega) h4.1
  exact h3 _ hi h1.2
theorem rd_is (h : tkW T tl p (lnW 0) (chW 0) = true) : rv_item T tl p A = (false, p, A) := by
  have h0 := tkW_at h (by decide)
  have ne : ∀ i, i = 1 ∨ i = 2 ∨ i = 3 → tkW T tl p (lnW i) (chW i) = false := fun i hi => by
    rcases Bool.eq_false_or_eq_true (tkW T tl p (lnW i) (chW i)) with q | q
    · have h1 := tkW_at q (by rcases hi with rfl | rfl | rfl <;> decide)
      exfalso
      rw [h0.1, h0.2] at h1
      rcases hi with rfl | rfl | rfl
      · exact absurd h1.2 (by decide)
      · exact absurd h1.1 (by decide)
      · exact absurd h1.1 (by decide)
    · exact q
  exact rd_in (ne 1 (by omega)) (ne 2 (by omega)) (ne 3 (by omega))
theorem rd_num {lo hi : Int32} {m : Nat} (h : tkT T tl p lo hi = true) (hl : lo.toInt = 0) (hh : hi.toInt = (m : Int) - 1) (hm : m < 2 ^ 31) : ∃ k, k < m ∧ tkV T tl p = nI k := by
  unfold tkT at h
  have h1 := (Bool.and_eq_true_iff.mp h).2
  rw [rv_inL_i, Int32.toInt_toInt64, Int32.toInt_toInt64, hl, hh] at h1
  exact rv_in_lt h1 hm
theorem rd_many {m : Nat} (h : m ≤ 6) : (nI m - nI 1).toInt = (m : Int) - 1 := by
  have h2 : ∀ m, m < 7 → (nI m - nI 1).toInt = (m : Int) - 1 := by decide +kernel
  exact h2 m (by omega)
end RDI
theorem x_X3_item_0 (l : Launch) (dC : Nat → ClassId) (dI : Nat → Nat → Nat) (dA : Nat → ClassId) (n : Nat) (ξ : mdT) (V : Nat → Option Nat) (V2 : Nat → Option Nat) (im : Nat → Option Nat) (ab : Int64) (be : Int64) (adK adV : Nat → Nat) (fm us sb : Nat) (z : Nat) (ty : Nat) (ht : ξ 0 0 = nI ty) (ht6 : ty ≤ 150) (tx : Nat → Int32) (hT : ∀ k_, k_ < ty → ξ 88 k_ = tx k_) (p_ : Nat) (hp : p_ ≤ ty) (hat : rdAt tx ty p_ ξ) (hbg : ξ 90 4 = nI 0) (hnz : n ≤ z) : MetT l yX3_item (ws_ yX3_item cX3_item 4 none) { frames := 6, cells := 1, slots := 7, locals := 360 } (xPz dC dI dA (xZr n adK adV fm us sb) (fun H => bkP dC dI n 96 (xE dA n ξ V V2 im ab be) H ∧ z ≤ H.size) [.ref (n + 90)]) (xQT (tkW tx ty p_ (lnW 0) (chW 0)) (xQv (S := mdT) (fun u => (∀ a_, a_ ≠ 90 → u a_ = ξ a_) ∧ u 90 4 = nI 1 ∧ rdAt tx ty (tkN tx ty p_) u) (fun u => (bkP dC dI n 96 (xE dA n u V V2 im ab be))) (fun q => bkA n 96 q ∨ z ≤ q)) (xEf dC dI (bkP dC dI n 96 (xE dA n ξ V V2 im ab be)) (ξ 90 1)) (fun q => bkA n 96 q ∨ z ≤ q)) 1 7 (fun q => bkA n 96 q ∨ z ≤ q) := by
  refine x_inT (by decide) rfl (Nat.le_of_ble_eq_true rfl) (lv := [(0, .ref (n + 90))]) rfl ?_
  intro p e s m below meth c_ X hN hnm hr hlk hne hP hZs ls hl
  obtain ⟨hP, hz0⟩ := hP
  have hS : va_S (fun q => bkA n 96 q ∨ z ≤ q) s.heap s.heap [] := va_S.rf
  refine lv_aload_n X.1 X.2.1 dX3_item_0 rfl (lv_at hl 0 rfl) ?_
  refine va_ldcS X.1 X.2.1 X.2.2.2.1 ((hZs.at hS hnz).2.2.2.2.2 0 (by decide)) dX3_item_1 ?_
  refine x_cSe (x_runVW (xZr_w n adK adV fm us sb) X hN hP (hZs.at hS hnz) (As := [.ref (adK 0)]) (rest := []) (x_X3_isWord l dC dI dA n ξ V V2 im ab be adK adV fm us sb ty ht ht6 tx hT p_ hp hat 0 (by decide)) xkv_X3_86 (x_recv (ci := 3) X.2.2.2.2.2 hP (j := 90) (by decide) (xe_x90 ..) rfl) rfl rfl ⟨Nat.le_of_ble_eq_true rfl, Nat.le_of_ble_eq_true rfl⟩ hl.1 (Nat.le_of_ble_eq_true rfl) dX3_item_3 ⟨Nat.le_of_ble_eq_true rfl, Nat.le_of_ble_eq_true rfl⟩) ?_
  refine rn_zt (tgt := 35) X.1 X.2.1 dX3_item_6 (by decide) (fun c_6 => ?_) (fun c_6 => ?_)
  · refine lv_aload_n X.1 X.2.1 dX3_item_35 rfl (lv_at hl 0 rfl) ?_
    refine lv_aload_n X.1 X.2.1 dX3_item_36 rfl (lv_at hl 0 rfl) ?_
    refine xb_get (C := RX3) (T := TX3) (v := .int (ξ 90 4)) X in_X3 (ci := 3) rfl hP (j := 90) (by decide) (xe_x90 ..) 4 (by decide) q199 rfl rfl dX3_item_37 ?_
    refine rn_co (y := nI 0) hbg ?_
    skip
    exact x_prop (x_runVT (xZr_w n adK adV fm us sb) X hN ⟨hP, Nat.le_refl _⟩ (hZs.at hS hnz) (As := [.int (rb_i false)]) (rest := []) (x_X3_wants l dC dI dA n ξ V V2 im ab be adK adV fm us sb s.heap.size false) rfl xkv_X3_61 (x_recv (ci := 3) X.2.2.2.2.2 hP (j := 90) (by decide) (xe_x90 ..) rfl) rfl rfl ⟨Nat.le_of_ble_eq_true rfl, Nat.le_of_ble_eq_true rfl⟩ hl.1 (Nat.le_of_ble_eq_true rfl) dX3_item_40 ⟨Nat.le_of_ble_eq_true rfl, Nat.le_of_ble_eq_true rfl⟩) hne hlk hS (fun q h => h.elim Or.inl (fun h => Or.inr (Nat.le_trans (Nat.le_trans hz0 hS.1) h))) (fun q h => h.elim Or.inl (fun h => Or.inr (Nat.le_trans (Nat.le_trans hz0 hS.1) h))) c_6 (fun _ _ h _ _ => h) (Nat.le_of_ble_eq_true rfl) (Nat.le_of_ble_eq_true rfl)
  · refine lv_aload_n X.1 X.2.1 dX3_item_9 rfl (lv_at hl 0 rfl) ?_
    refine lv_aload_n X.1 X.2.1 dX3_item_10 rfl (lv_at hl 0 rfl) ?_
    refine xb_get (C := RX3) (T := TX3) (v := .int (ξ 90 4)) X in_X3 (ci := 3) rfl hP (j := 90) (by decide) (xe_x90 ..) 4 (by decide) q199 rfl rfl dX3_item_11 ?_
    refine rn_co (y := nI 0) hbg ?_
    refine rn_if_ne (tgt := 21) X.1 X.2.1 (by omega) dX3_item_14 (by decide) (fun c_14 => ?_) (fun c_14 => ?_)
    · exact absurd c_14 (by decide)
    · refine lv_iconst (v := nI 1) X.1 X.2.1 dX3_item_17 rfl ?_
      refine lv_goto (tgt := 22) X.1 X.2.1 dX3_item_18 (by decide) ?_
      refine x_cWv (x_runVW (xZr_w n adK adV fm us sb) X hN ⟨hP, Nat.le_refl _⟩ (hZs.at hS hnz) (As := [.int (rb_i true)]) (rest := []) (MetT.metb (x_X3_wants l dC dI dA n ξ V V2 im ab be adK adV fm us sb s.heap.size true) rfl xQv_ret) xkv_X3_61 (x_recv (ci := 3) X.2.2.2.2.2 hP (j := 90) (by decide) (xe_x90 ..) rfl) rfl rfl ⟨Nat.le_of_ble_eq_true rfl, Nat.le_of_ble_eq_true rfl⟩ hl.1 (Nat.le_of_ble_eq_true rfl) dX3_item_22 ⟨Nat.le_of_ble_eq_true rfl, Nat.le_of_ble_eq_true rfl⟩) hS (fun q h => h.elim Or.inl (fun h => Or.inr (Nat.le_trans (Nat.le_trans hz0 hS.1) h))) (fun q h => h.elim Or.inl (fun h => Or.inr (Nat.le_trans (Nat.le_trans hz0 hS.1) h))) (fun _ H locs _ hP1 hz1 hk1 hS => ?_)
      have hP := hP1
      refine lv_aload_n X.1 X.2.1 dX3_item_25 rfl (lv_at hl 0 rfl) ?_
      refine lv_iconst (v := nI 1) X.1 X.2.1 dX3_item_26 rfl ?_
      refine xb_put (C := RX3) (T := TX3) (E' := xE dA n (mdS ξ 90 4 (nI 1)) V V2 im ab be) X in_X3 tyX3 tyX3_ok nmX3 (ci := 3) rfl hP (fun _ h => Or.inl h) hS (j := 90) (by decide) (xe_x90 ..) 4 (by decide) q199 rfl rfl rfl rfl rfl (Nat.le_of_ble_eq_true rfl) (fun i_ _ => xE_S dA n ξ V V2 im ab be 90 4 (nI 1) i_) dX3_item_27 (fun H locs hP hS => ?_)
      refine lv_aload_n X.1 X.2.1 dX3_item_30 rfl (lv_at hl 0 rfl) ?_
      refine x_cWv (x_runV X hN hP (As := []) (rest := []) (x_X3_scans l dC dI dA n (mdS ξ 90 4 (nI 1)) V V2 im ab be ty ht ht6 tx hT (tkN tx ty p_) hat.1 (tkN_b hp)) xkv_X3_65 (x_recv (ci := 3) X.2.2.2.2.2 hP (j := 90) (by decide) (xe_x90 ..) rfl) rfl rfl ⟨Nat.le_of_ble_eq_true rfl, Nat.le_of_ble_eq_true rfl⟩ hl.1 (Nat.le_of_ble_eq_true rfl) dX3_item_31 ⟨Nat.le_of_ble_eq_true rfl, Nat.le_of_ble_eq_true rfl⟩) hS (fun _ h => Or.inl h) (fun _ h => Or.inl h) (fun u31 H locs hu31 hP1 hz1 hk1 hS => ?_)
      have hP := hP1
      have ht := (congrFun (hu31.1.1 0 (by decide)) 0).trans ht
      have hT := fun k_ h_ => (congrFun (hu31.1.1 88 (by decide)) k_).trans (hT k_ h_)
      refine W.pad (cells2 := 1) (slots2 := 7) (Nat.le_of_ble_eq_true rfl) (Nat.le_of_ble_eq_true rfl) ?_
      refine W.monoT c_6 ?_
      exact x_rv u31 X hr hlk hS dX3_item_34 ⟨fun a_ h_ => by rw [hu31.1.1 a_ h_, mdS_row _ _ _ h_], (hu31.1.2 4 (by omega)), hu31.2⟩ hP
