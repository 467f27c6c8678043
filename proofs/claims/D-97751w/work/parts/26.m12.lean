set_option maxRecDepth 100000
/-! the Model: what is best, asked -/
theorem mdQ.S0 (τ : mdT) {a : Nat} (k : Nat) (v : Int32) (h : a ≠ 0 ∧ a ≠ 1 ∧ a ≠ 2 ∧ a ≠ 3 ∧ a ≠ 12 ∧ a ≠ 15) : mdQ τ (mdS τ a k v) :=
  ⟨mdS_row _ _ _ (Ne.symm h.1), mdS_row _ _ _ (Ne.symm h.2.1), mdS_row _ _ _ (Ne.symm h.2.2.1), mdS_row _ _ _ (Ne.symm h.2.2.2.1), mdS_row _ _ _ (Ne.symm h.2.2.2.2.1), mdS_o _ (Ne.symm h.2.2.2.2.2)⟩
theorem mdQ.S15 (τ : mdT) {k : Nat} (v : Int32) (h : k ≠ 5) : mdQ τ (mdS τ 15 k v) :=
  ⟨mdS_row _ _ _ (by decide), mdS_row _ _ _ (by decide), mdS_row _ _ _ (by decide), mdS_row _ _ _ (by decide), mdS_row _ _ _ (by decide), mdS_ne (Ne.symm h)⟩
/-- the best letting by the numbers of 'now' -/
def rv_bestN (f : Nat → Int32) (many rent : Nat) (ev : Int32) : rvB := rv_try (fun v r => rv_suitN f v r ev) (fun v => rv_cost (f (7 + 6 * v)) (f (7 + 6 * v + 2))) many rent 0 (fun _ => 0) (-1, 0, fun _ => 0)
/-- what is at hand is that of the numbers f, of so many renters -/
def mdLike (τ : mdT) (many hand : Nat) (f : Nat → Int32) : Prop := τ 15 0 = nI hand ∧ (∀ v, v < many → τ 4 v = rv_cost (f (7 + 6 * v)) (f (7 + 6 * v + 2)) ∧ τ 0 (7 + 6 * v) = f (7 + 6 * v) ∧ τ 0 (7 + 6 * v + 1) = f (7 + 6 * v + 1) ∧ τ 0 (7 + 6 * v + 3) = f (7 + 6 * v + 3)) ∧ (∀ r, r < hand → τ 5 r = f (43 + 3 * r) ∧ τ 6 r = f (43 + 3 * r + 1) ∧ τ 7 r = f (43 + 3 * r + 2))
theorem mdHandy.like {σ τ : mdT} {many rent : Nat} (h : mdHandy σ many rent τ) : mdLike τ many rent (σ 0) := ⟨h.2.1, fun v hv => ⟨h.2.2.1 v hv, by rw [h.1.1], by rw [h.1.1], by rw [h.1.1]⟩, h.2.2.2⟩
theorem mdLike.best {τ u : mdT} {many hand : Nat} {f : Nat → Int32} {ev : Int32} (hm : many ≤ 6) (h : mdLike τ many hand f) (hu : mdBest τ many hand ev u) : mdBst hand u (rv_bestN f many hand ev) := by
  have e : rv_try (fun v r => rv_suitM τ v r ev) (τ 4) many hand 0 (fun _ => 0) (-1, 0, fun _ => 0) = rv_bestN f many hand ev :=
    rv_try_c (by omega) (fun v hv => (h.2.1 v hv).1) (fun v r hv hr => by
      obtain ⟨w5, w6, w7⟩ := h.2.2 r (by omega)
      obtain ⟨a1, a2, a3, a4⟩ := h.2.1 v hv
      unfold rv_suitM rv_suitN
      rw [w5, w6, w7, a1, a2, a3, a4]) (fun _ _ => rfl) (fun i hi => absurd hi (Nat.not_lt_zero i)) _
  rw [← e]
  exact hu.2.2
theorem mdBest.Q {τ u : mdT} {many hand : Nat} {ev : Int32} (h : mdBest τ many hand ev u) : mdQ τ u := ⟨h.1 0 (by decide) (by decide) (by decide) (by decide), h.1 1 (by decide) (by decide) (by decide) (by decide), h.1 2 (by decide) (by decide) (by decide) (by decide), h.1 3 (by decide) (by decide) (by decide) (by decide), h.1 12 (by decide) (by decide) (by decide) (by decide), h.2.1 5 (by decide) (by decide)⟩
theorem mdBest.like {τ u : mdT} {many hand many' hand' : Nat} {ev : Int32} {f : Nat → Int32} (h : mdBest τ many' hand' ev u) (g : mdLike τ many hand f) : mdLike u many hand f := by
  refine ⟨by rw [h.2.1 0 (by decide) (by decide)]; exact g.1, fun v hv => ?_, fun r hr => ?_⟩
  · rw [h.1 4 (by decide) (by decide) (by decide) (by decide), h.1 0 (by decide) (by decide) (by decide) (by decide)]; exact g.2.1 v hv
  · rw [h.1 5 (by decide) (by decide) (by decide) (by decide), h.1 6 (by decide) (by decide) (by decide) (by decide), h.1 7 (by decide) (by decide) (by decide) (by decide)]; exact g.2.2 r hr
abbrev rv_bN (σ : mdT) (ev : Int32) : rvB := rv_bestN (σ 0) (rv_cl (σ 0 0)) (rv_cl (σ 0 1)) ev
def sp_best (σ : mdT) (ev r : Int32) : Int32 × mdT := if rv_in ev 0 99 = true then (if rv_inL r.toInt64 (-1) (σ 0 1 - 1).toInt64 = true then ((if r = -1 then (rv_bN σ ev).1 else (rv_bN σ ev).2.2 (rv_cl r)), σ) else sBad (-10) σ) else sBad (-10) σ
def sp_money (σ : mdT) (ev : Int32) : Int32 × mdT := if rv_in ev 0 99 = true then ((rv_bN σ ev).2.1, σ) else sBad (-2) σ
abbrev rv_cN (σ : mdT) (ev : Int32) : (Nat → Bool) × Int32 × Int32 := rv_comeN (σ 0) (rv_cl (σ 0 0)) (rv_cl (σ 0 1)) ev (nI (2 ^ rv_cl (σ 0 1) - 1))
def sp_come (σ : mdT) (ev w : Int32) : Int32 × mdT := if rv_in ev 0 99 = true then (if rv_inI w 0 2 = true then ((if w = 0 then (rv_cN σ ev).2.1 else if w = 1 then (rv_cN σ ev).2.2 else (rv_bN σ ev).1 - (rv_cN σ ev).2.1), σ) else sBad (-2) σ) else sBad (-2) σ
/-- one more renter -/
abbrev rv_more (f : Nat → Int32) (rent : Nat) (wl pu wa : Int32) : Nat → Int32 := upd (upd (upd f (43 + 3 * rent) wl) (43 + 3 * rent + 1) pu) (43 + 3 * rent + 2) wa
def sp_more (σ : mdT) (ev wl pu wa : Int32) : Int32 × mdT := if rv_in ev 0 99 = true then (if (rv_in wl 1 9 && rv_in pu 0 999 && rv_in wa 0 6) = true then (if σ 0 1 = 6 then sNo σ else ((rv_bestN (rv_more (σ 0) (rv_cl (σ 0 1)) wl pu wa) (rv_cl (σ 0 0)) (rv_cl (σ 0 1) + 1) ev).1 - (rv_bN σ ev).1, σ)) else sBad (-2) σ) else sBad (-2) σ
/-- the price that brings most -/
def rv_chg (M : Nat → Int32) : Nat → Int32 × Int32
  | 0 => (0, -1)
  | p + 1 => if M p ≤ (rv_chg M p).2 then rv_chg M p else (nI p, M p)
abbrev rv_chM (f : Nat → Int32) (many rent : Nat) (ev : Int32) (v p : Nat) : Int32 := (rv_bestN (upd f (7 + 6 * v + 2) (nI p)) many rent ev).2.1
def sp_changed (σ : mdT) (ev v : Int32) : Int32 × mdT := if rv_in ev 0 99 = true then (if rv_isV σ v = true then ((rv_chg (rv_chM (σ 0) (rv_cl (σ 0 0)) (rv_cl (σ 0 1)) ev (rv_cl v)) 100).1, σ) else sBad (-2) σ) else sBad (-2) σ
theorem rv_inm1 {r x : Int32} {rent : Nat} (h1 : x = nI rent) (hr : rent ≤ 6) (h : rv_inL r.toInt64 (-1) (x - nI 1).toInt64 = true) (hn : ¬ r = -1) : ∃ j, j < rent ∧ r = nI j := by
  refine rv_isx h1 hr ?_
  rw [rv_inL_ii] at h
  unfold rv_in at h ⊢
  rw [Bool.and_eq_true, decide_eq_true_eq, decide_eq_true_eq] at h ⊢
  refine ⟨?_, h.2⟩
  have h3 : (-1 : Int64).toInt = -1 := rfl
  have h2 : r.toInt ≠ -1 := fun z => hn (Int32.toInt_inj.mp (by rw [z]; rfl))
  omega
theorem met_best (l : Launch) (dC : Nat → ClassId) (dI : Nat → Nat → Nat) (dA : Nat → ClassId) (n : Nat) (σ : mdT) (ab be : Int64) (ev : Int32) (r : Int32) (many : Nat) (h0 : σ 0 0 = nI many) (hm : many ≤ 6) (rent : Nat) (h1 : σ 0 1 = nI rent) (hr6 : rent ≤ 6) : Met l yX5_best (ws_ yX5_best cX5_best 3 (some .int)) { frames := 7, cells := 0, slots := 0, locals := 420 } (mdPc dC dI dA n σ ab be [.ref n, .int ev, .int r]) (va_Qi (fun r_ u => r_ = (sp_best σ ev r).1 ∧ mdQ (sp_best σ ev r).2 u) (mdB dC dI dA n ab be) (mdA n)) 0 0 (mdA n) := by
  refine md_in (by decide) rfl (Nat.le_of_ble_eq_true rfl) (lv := [(0, .ref n), (1, .int ev), (2, .int r)]) rfl ?_
  intro p e s m below meth c C hr hlk hP ls hl
  have hx := C.1
  have hb := C.2.1
  have hown := C.2.2.2.1
  have hts := C.2.2.2.2.1
  have hS : va_S (mdA n) s.heap s.heap [] := va_S.rf
  refine lv_iload_n hx hb dX5_best_0 rfl (lv_at hl 1 rfl) ?_
  refine md_sSe (As := [.int ev]) (rest := []) C (met_isEvening l ev) card_isEvening rfl rfl ⟨Nat.le_of_ble_eq_true rfl, Nat.le_of_ble_eq_true rfl⟩ hl.1 (Nat.le_of_ble_eq_true rfl) dX5_best_1 ?_
  refine rn_zt (tgt := 25) hx hb dX5_best_4 (by decide) (fun c_4 => ?_) (fun c_4 => ?_)
  · refine lv_aload_n hx hb dX5_best_25 rfl (lv_at hl 0 rfl) ?_
    refine lv_bipush (v := (-10)) hx hb dX5_best_26 rfl ?_
    refine md_cWe (As := [.int (-10)]) (rest := []) C hP hS (met_bad l dC dI dA n σ ab be (-10)) card_bad rfl rfl ⟨Nat.le_of_ble_eq_true rfl, Nat.le_of_ble_eq_true rfl⟩ hl.1 (Nat.le_of_ble_eq_true rfl) dX5_best_28 (fun H locs hP hS => ?_)
    exact md_ri C hr hlk hP hS dX5_best_31 (by first | (rw [sp_best, if_neg (rv_nf c_4)]; exact ⟨rfl, (mdQ.rf σ).bad _⟩) | (rw [sp_best, if_pos c_4, if_neg (rv_nf c_22)]; exact ⟨rfl, (mdQ.rf σ).bad _⟩))
  · refine lv_iload_n hx hb dX5_best_7 rfl (lv_at hl 2 rfl) ?_
    refine lv_i2l hx hb dX5_best_8 rfl ?_
    refine lv_ldc2 (v := -1) hx hb hown (hts _ q1132) dX5_best_9 ?_
    refine lv_aload_n hx hb dX5_best_12 rfl (lv_at hl 0 rfl) ?_
    refine md_cSe (As := []) (rest := [.long (-1), .long (Int32.toInt64 r)]) C hP (met_renters l dC dI dA n σ ab be) card_renters rfl rfl ⟨Nat.le_of_ble_eq_true rfl, Nat.le_of_ble_eq_true rfl⟩ hl.1 (Nat.le_of_ble_eq_true rfl) dX5_best_13 ?_
    refine lv_iconst (v := nI 1) hx hb dX5_best_16 rfl ?_
    refine lv_isub hx hb dX5_best_17 ?_
    refine lv_i2l hx hb dX5_best_18 rfl ?_
    refine md_sSe (As := [.long (Int32.toInt64 r), .long (-1), .long (Int32.toInt64 ((σ 0 1) - 1))]) (rest := []) C (met_in l (Int32.toInt64 r) (-1) (Int32.toInt64 ((σ 0 1) - 1))) card_in rfl rfl ⟨Nat.le_of_ble_eq_true rfl, Nat.le_of_ble_eq_true rfl⟩ hl.1 (Nat.le_of_ble_eq_true rfl) dX5_best_19 ?_
    refine rn_zf (tgt := 32) hx hb dX5_best_22 (by decide) (fun c_22 => ?_) (fun c_22 => ?_)
    · refine lv_aload_n hx hb dX5_best_32 rfl (lv_at hl 0 rfl) ?_
      refine md_cWv (As := []) (rest := []) C hP hS (met_layHand l dC dI dA n σ ab be many h0 hm rent h1 hr6) card_layHand rfl rfl ⟨Nat.le_of_ble_eq_true rfl, Nat.le_of_ble_eq_true rfl⟩ hl.1 (Nat.le_of_ble_eq_true rfl) dX5_best_33 (fun s33 H locs hs33 hP hS => ?_)
      have h0a : s33 0 0 = nI many := by rw [hs33.Q.1]; exact h0
      have hha : s33 15 0 = nI rent := hs33.2.2.1
      refine lv_aload_n hx hb dX5_best_36 rfl (lv_at hl 0 rfl) ?_
      refine lv_iload_n hx hb dX5_best_37 rfl (lv_at hl 1 rfl) ?_
      refine md_cWv (As := [.int ev]) (rest := []) C hP hS (met_layBest l dC dI dA n s33 ab be ev many h0a hm rent hha (by omega)) card_layBest rfl rfl ⟨Nat.le_of_ble_eq_true rfl, Nat.le_of_ble_eq_true rfl⟩ hl.1 (Nat.le_of_ble_eq_true rfl) dX5_best_38 (fun s38 H locs hs38 hP hS => ?_)
      have hb2 := hs33.y.like.best hm hs38
      have hQ := hs33.Q.tr hs38.Q
      have U : sp_best σ ev r = ((if r = -1 then (rv_bestN (σ 0) many rent ev).1 else (rv_bestN (σ 0) many rent ev).2.2 (rv_cl r)), σ) := by rw [sp_best, if_pos c_4, if_pos c_22, rv_bN, h0, h1, rv_cln (by omega), rv_cln (by omega)]
      refine lv_iload_n hx hb dX5_best_41 rfl (lv_at hl 2 rfl) ?_
      refine lv_iconst (v := (-1)) hx hb dX5_best_42 rfl ?_
      refine lv_icmp_ne (tgt := 53) hx hb dX5_best_43 (by decide) (fun (c_43 : ¬ r = (-1)) => ?_) (fun (c_43 : r = (-1)) => ?_)
      · obtain ⟨j, hj6, hj⟩ := rv_inm1 h1 hr6 c_22 c_43
        refine lv_aload_n hx hb dX5_best_53 rfl (lv_at hl 0 rfl) ?_
        refine md_g13 C hP dX5_best_54 ?_
        refine lv_iload_n hx hb dX5_best_57 rfl (lv_at hl 2 rfl) ?_
        refine rn_co (y := nI j) hj ?_
        refine md_l10 C hP (by omega) dX5_best_58 ?_
        exact md_ri C hr hlk hP hS dX5_best_59 (by rw [U]; first | (rw [if_pos c_43]; exact ⟨hb2.1, hQ⟩) | (rw [if_neg c_43, hj, rv_cln (by omega)]; exact ⟨hb2.2.2 j hj6, hQ⟩))
      · refine lv_aload_n hx hb dX5_best_46 rfl (lv_at hl 0 rfl) ?_
        refine md_g14 C hP dX5_best_47 ?_
        refine lv_goto (tgt := 59) hx hb dX5_best_50 (by decide) ?_
        exact md_ri C hr hlk hP hS dX5_best_59 (by rw [U]; first | (rw [if_pos c_43]; exact ⟨hb2.1, hQ⟩) | (rw [if_neg c_43, hj, rv_cln (by omega)]; exact ⟨hb2.2.2 j hj6, hQ⟩))
    · refine lv_aload_n hx hb dX5_best_25 rfl (lv_at hl 0 rfl) ?_
      refine lv_bipush (v := (-10)) hx hb dX5_best_26 rfl ?_
      refine md_cWe (As := [.int (-10)]) (rest := []) C hP hS (met_bad l dC dI dA n σ ab be (-10)) card_bad rfl rfl ⟨Nat.le_of_ble_eq_true rfl, Nat.le_of_ble_eq_true rfl⟩ hl.1 (Nat.le_of_ble_eq_true rfl) dX5_best_28 (fun H locs hP hS => ?_)
      exact md_ri C hr hlk hP hS dX5_best_31 (by first | (rw [sp_best, if_neg (rv_nf c_4)]; exact ⟨rfl, (mdQ.rf σ).bad _⟩) | (rw [sp_best, if_pos c_4, if_neg (rv_nf c_22)]; exact ⟨rfl, (mdQ.rf σ).bad _⟩))
theorem met_money (l : Launch) (dC : Nat → ClassId) (dI : Nat → Nat → Nat) (dA : Nat → ClassId) (n : Nat) (σ : mdT) (ab be : Int64) (ev : Int32) (many : Nat) (h0 : σ 0 0 = nI many) (hm : many ≤ 6) (rent : Nat) (h1 : σ 0 1 = nI rent) (hr6 : rent ≤ 6) : Met l yX5_money (ws_ yX5_money cX5_money 2 (some .int)) { frames := 7, cells := 0, slots := 0, locals := 420 } (mdPc dC dI dA n σ ab be [.ref n, .int ev]) (va_Qi (fun r_ u => r_ = (sp_money σ ev).1 ∧ mdQ (sp_money σ ev).2 u) (mdB dC dI dA n ab be) (mdA n)) 0 0 (mdA n) := by
  refine md_in (by decide) rfl (Nat.le_of_ble_eq_true rfl) (lv := [(0, .ref n), (1, .int ev)]) rfl ?_
  intro p e s m below meth c C hr hlk hP ls hl
  have hx := C.1
  have hb := C.2.1
  have hown := C.2.2.2.1
  have hts := C.2.2.2.2.1
  have hS : va_S (mdA n) s.heap s.heap [] := va_S.rf
  refine lv_iload_n hx hb dX5_money_0 rfl (lv_at hl 1 rfl) ?_
  refine md_sSe (As := [.int ev]) (rest := []) C (met_isEvening l ev) card_isEvening rfl rfl ⟨Nat.le_of_ble_eq_true rfl, Nat.le_of_ble_eq_true rfl⟩ hl.1 (Nat.le_of_ble_eq_true rfl) dX5_money_1 ?_
  refine rn_zf (tgt := 14) hx hb dX5_money_4 (by decide) (fun c_4 => ?_) (fun c_4 => ?_)
  · refine lv_aload_n hx hb dX5_money_14 rfl (lv_at hl 0 rfl) ?_
    refine md_cWv (As := []) (rest := []) C hP hS (met_layHand l dC dI dA n σ ab be many h0 hm rent h1 hr6) card_layHand rfl rfl ⟨Nat.le_of_ble_eq_true rfl, Nat.le_of_ble_eq_true rfl⟩ hl.1 (Nat.le_of_ble_eq_true rfl) dX5_money_15 (fun s15 H locs hs15 hP hS => ?_)
    have h0a : s15 0 0 = nI many := by rw [hs15.Q.1]; exact h0
    have hha : s15 15 0 = nI rent := hs15.2.2.1
    refine lv_aload_n hx hb dX5_money_18 rfl (lv_at hl 0 rfl) ?_
    refine lv_iload_n hx hb dX5_money_19 rfl (lv_at hl 1 rfl) ?_
    refine md_cWv (As := [.int ev]) (rest := []) C hP hS (met_layBest l dC dI dA n s15 ab be ev many h0a hm rent hha (by omega)) card_layBest rfl rfl ⟨Nat.le_of_ble_eq_true rfl, Nat.le_of_ble_eq_true rfl⟩ hl.1 (Nat.le_of_ble_eq_true rfl) dX5_money_20 (fun s20 H locs hs20 hP hS => ?_)
    refine lv_aload_n hx hb dX5_money_23 rfl (lv_at hl 0 rfl) ?_
    refine md_g15 C hP dX5_money_24 ?_
    exact md_ri C hr hlk hP hS dX5_money_27 (by rw [sp_money, if_pos c_4, rv_bN, h0, h1, rv_cln (by omega), rv_cln (by omega)]; exact ⟨(hs15.y.like.best hm hs20).2.1, hs15.Q.tr hs20.Q⟩)
  · refine lv_aload_n hx hb dX5_money_7 rfl (lv_at hl 0 rfl) ?_
    refine lv_bipush (v := (-2)) hx hb dX5_money_8 rfl ?_
    refine md_cWe (As := [.int (-2)]) (rest := []) C hP hS (met_bad l dC dI dA n σ ab be (-2)) card_bad rfl rfl ⟨Nat.le_of_ble_eq_true rfl, Nat.le_of_ble_eq_true rfl⟩ hl.1 (Nat.le_of_ble_eq_true rfl) dX5_money_10 (fun H locs hP hS => ?_)
    exact md_ri C hr hlk hP hS dX5_money_13 (by first | (rw [sp_money, if_neg (rv_nf c_4)]; exact ⟨rfl, (mdQ.rf σ).bad _⟩))
theorem met_come (l : Launch) (dC : Nat → ClassId) (dI : Nat → Nat → Nat) (dA : Nat → ClassId) (n : Nat) (σ : mdT) (ab be : Int64) (ev : Int32) (w : Int32) (many : Nat) (h0 : σ 0 0 = nI many) (hm : many ≤ 6) (rent : Nat) (h1 : σ 0 1 = nI rent) (hr6 : rent ≤ 6) : Met l yX5_come (ws_ yX5_come cX5_come 3 (some .int)) { frames := 7, cells := 0, slots := 0, locals := 420 } (mdPc dC dI dA n σ ab be [.ref n, .int ev, .int w]) (va_Qi (fun r_ u => r_ = (sp_come σ ev w).1 ∧ mdQ (sp_come σ ev w).2 u) (mdB dC dI dA n ab be) (mdA n)) 0 0 (mdA n) := by
  refine md_in (by decide) rfl (Nat.le_of_ble_eq_true rfl) (lv := [(0, .ref n), (1, .int ev), (2, .int w)]) rfl ?_
  intro p e s m below meth c C hr hlk hP ls hl
  have hx := C.1
  have hb := C.2.1
  have hown := C.2.2.2.1
  have hts := C.2.2.2.2.1
  have hS : va_S (mdA n) s.heap s.heap [] := va_S.rf
  refine lv_iload_n hx hb dX5_come_0 rfl (lv_at hl 1 rfl) ?_
  refine md_sSe (As := [.int ev]) (rest := []) C (met_isEvening l ev) card_isEvening rfl rfl ⟨Nat.le_of_ble_eq_true rfl, Nat.le_of_ble_eq_true rfl⟩ hl.1 (Nat.le_of_ble_eq_true rfl) dX5_come_1 ?_
  refine rn_zt (tgt := 19) hx hb dX5_come_4 (by decide) (fun c_4 => ?_) (fun c_4 => ?_)
  · refine lv_aload_n hx hb dX5_come_19 rfl (lv_at hl 0 rfl) ?_
    refine lv_bipush (v := (-2)) hx hb dX5_come_20 rfl ?_
    refine md_cWe (As := [.int (-2)]) (rest := []) C hP hS (met_bad l dC dI dA n σ ab be (-2)) card_bad rfl rfl ⟨Nat.le_of_ble_eq_true rfl, Nat.le_of_ble_eq_true rfl⟩ hl.1 (Nat.le_of_ble_eq_true rfl) dX5_come_22 (fun H locs hP hS => ?_)
    exact md_ri C hr hlk hP hS dX5_come_25 (by first | (rw [sp_come, if_neg (rv_nf c_4)]; exact ⟨rfl, (mdQ.rf σ).bad _⟩) | (rw [sp_come, if_pos c_4, if_neg (rv_nf c_16)]; exact ⟨rfl, (mdQ.rf σ).bad _⟩))
  · refine lv_iload_n hx hb dX5_come_7 rfl (lv_at hl 2 rfl) ?_
    refine lv_i2l hx hb dX5_come_8 rfl ?_
    refine lv_lconst (v := 0) hx hb dX5_come_9 rfl ?_
    refine lv_ldc2 (v := 2) hx hb hown (hts _ q1161) dX5_come_10 ?_
    refine md_sSe (As := [.long (Int32.toInt64 w), .long 0, .long 2]) (rest := []) C (met_in l (Int32.toInt64 w) 0 2) card_in rfl rfl ⟨Nat.le_of_ble_eq_true rfl, Nat.le_of_ble_eq_true rfl⟩ hl.1 (Nat.le_of_ble_eq_true rfl) dX5_come_13 ?_
    refine rn_zf (tgt := 26) hx hb dX5_come_16 (by decide) (fun c_16 => ?_) (fun c_16 => ?_)
    · obtain ⟨j, hj2, hj⟩ := rv_inIx (v := w) 2 rfl (by omega) c_16
      refine lv_aload_n hx hb dX5_come_26 rfl (lv_at hl 0 rfl) ?_
      refine md_cWv (As := []) (rest := []) C hP hS (met_layHand l dC dI dA n σ ab be many h0 hm rent h1 hr6) card_layHand rfl rfl ⟨Nat.le_of_ble_eq_true rfl, Nat.le_of_ble_eq_true rfl⟩ hl.1 (Nat.le_of_ble_eq_true rfl) dX5_come_27 (fun s27 H locs hs27 hP hS => ?_)
      have h0a : s27 0 0 = nI many := by rw [hs27.Q.1]; exact h0
      have hha : s27 15 0 = nI rent := hs27.2.2.1
      have h1a : s27 0 1 = nI rent := by rw [hs27.Q.1]; exact h1
      refine lv_aload_n hx hb dX5_come_30 rfl (lv_at hl 0 rfl) ?_
      refine lv_iload_n hx hb dX5_come_31 rfl (lv_at hl 1 rfl) ?_
      refine lv_aload_n hx hb dX5_come_32 rfl (lv_at hl 0 rfl) ?_
      refine md_cSe (As := []) (rest := [.int ev, .ref n]) C hP (met_allRenters l dC dI dA n s27 ab be rent h1a hr6) card_allRenters rfl rfl ⟨Nat.le_of_ble_eq_true rfl, Nat.le_of_ble_eq_true rfl⟩ hl.1 (Nat.le_of_ble_eq_true rfl) dX5_come_33 ?_
      refine md_cWv (As := [.int ev, .int (nI (2 ^ rent - 1))]) (rest := []) C hP hS (met_layCome l dC dI dA n s27 ab be ev (nI (2 ^ rent - 1)) many h0a hm rent hha (by omega)) card_layCome rfl rfl ⟨Nat.le_of_ble_eq_true rfl, Nat.le_of_ble_eq_true rfl⟩ hl.1 (Nat.le_of_ble_eq_true rfl) dX5_come_36 (fun s36 H locs hs36 hP hS => ?_)
      have hy := hs27.y.come hs36
      have hN := hs27.y.N hm hs36
      have h0b : s36 0 0 = nI many := by rw [hy.1.1]; exact h0
      have hhb : s36 15 0 = nI rent := hy.2.1
      have U : sp_come σ ev w = ((if w = 0 then (rv_comeN (σ 0) many rent ev (nI (2 ^ rent - 1))).2.1 else if w = 1 then (rv_comeN (σ 0) many rent ev (nI (2 ^ rent - 1))).2.2 else (rv_bestN (σ 0) many rent ev).1 - (rv_comeN (σ 0) many rent ev (nI (2 ^ rent - 1))).2.1), σ) := by rw [sp_come, if_pos c_4, if_pos c_16, rv_bN, rv_cN, h0, h1, rv_cln (by omega), rv_cln (by omega)]
      refine lv_iload_n hx hb dX5_come_39 rfl (lv_at hl 2 rfl) ?_
      refine rn_co (y := nI j) hj ?_
      refine lv_iconst (v := nI 2) hx hb dX5_come_40 rfl ?_
      refine rn_icmp_ge (tgt := 60) hx hb (by omega) (by omega) dX5_come_41 (by decide) (fun c_41 => ?_) (fun c_41 => ?_)
      · refine lv_aload_n hx hb dX5_come_60 rfl (lv_at hl 0 rfl) ?_
        refine lv_iload_n hx hb dX5_come_61 rfl (lv_at hl 1 rfl) ?_
        refine md_cWv (As := [.int ev]) (rest := []) C hP hS (met_layBest l dC dI dA n s36 ab be ev many h0b hm rent hhb (by omega)) card_layBest rfl rfl ⟨Nat.le_of_ble_eq_true rfl, Nat.le_of_ble_eq_true rfl⟩ hl.1 (Nat.le_of_ble_eq_true rfl) dX5_come_62 (fun s62 H locs hs62 hP hS => ?_)
        refine lv_aload_n hx hb dX5_come_65 rfl (lv_at hl 0 rfl) ?_
        refine md_g14 C hP dX5_come_66 ?_
        refine lv_aload_n hx hb dX5_come_69 rfl (lv_at hl 0 rfl) ?_
        refine md_g16 C hP dX5_come_70 ?_
        refine lv_isub hx hb dX5_come_73 ?_
        exact md_ri C hr hlk hP hS dX5_come_74 (by rw [U, if_neg (by rw [hj]; exact nI_ne0 (by omega) (by omega)), if_neg (by rw [hj, show j = 2 by omega]; decide)]; exact ⟨by rw [(hy.like.best hm hs62).1, hs62.2.1 3 (by decide) (by decide), hN.1], hy.1.tr hs62.Q⟩)
      · refine lv_iload_n hx hb dX5_come_44 rfl (lv_at hl 2 rfl) ?_
        refine rn_co (y := nI j) hj ?_
        refine rn_if_ne (tgt := 55) hx hb (by omega) dX5_come_45 (by decide) (fun c_45 => ?_) (fun c_45 => ?_)
        · refine lv_aload_n hx hb dX5_come_55 rfl (lv_at hl 0 rfl) ?_
          refine md_g17 C hP dX5_come_56 ?_
          exact md_ri C hr hlk hP hS dX5_come_59 (by rw [U]; first | (rw [if_pos (by rw [hj, c_45]; rfl)]; exact ⟨hN.1, hy.1⟩) | (rw [if_neg (by rw [hj]; exact nI_ne0 (by omega) (by omega)), if_pos (by rw [hj, show j = 1 by omega]; rfl)]; exact ⟨hN.2, hy.1⟩))
        · refine lv_aload_n hx hb dX5_come_48 rfl (lv_at hl 0 rfl) ?_
          refine md_g16 C hP dX5_come_49 ?_
          refine lv_goto (tgt := 59) hx hb dX5_come_52 (by decide) ?_
          exact md_ri C hr hlk hP hS dX5_come_59 (by rw [U]; first | (rw [if_pos (by rw [hj, c_45]; rfl)]; exact ⟨hN.1, hy.1⟩) | (rw [if_neg (by rw [hj]; exact nI_ne0 (by omega) (by omega)), if_pos (by rw [hj, show j = 1 by omega]; rfl)]; exact ⟨hN.2, hy.1⟩))
    · refine lv_aload_n hx hb dX5_come_19 rfl (lv_at hl 0 rfl) ?_
      refine lv_bipush (v := (-2)) hx hb dX5_come_20 rfl ?_
      refine md_cWe (As := [.int (-2)]) (rest := []) C hP hS (met_bad l dC dI dA n σ ab be (-2)) card_bad rfl rfl ⟨Nat.le_of_ble_eq_true rfl, Nat.le_of_ble_eq_true rfl⟩ hl.1 (Nat.le_of_ble_eq_true rfl) dX5_come_22 (fun H locs hP hS => ?_)
      exact md_ri C hr hlk hP hS dX5_come_25 (by first | (rw [sp_come, if_neg (rv_nf c_4)]; exact ⟨rfl, (mdQ.rf σ).bad _⟩) | (rw [sp_come, if_pos c_4, if_neg (rv_nf c_16)]; exact ⟨rfl, (mdQ.rf σ).bad _⟩))
set_option maxHeartbeats 1000000 in
theorem met_more (l : Launch) (dC : Nat → ClassId) (dI : Nat → Nat → Nat) (dA : Nat → ClassId) (n : Nat) (σ : mdT) (ab be : Int64) (ev : Int32) (wl : Int32) (pu : Int32) (wa : Int32) (many : Nat) (h0 : σ 0 0 = nI many) (hm : many ≤ 6) (rent : Nat) (h1 : σ 0 1 = nI rent) (hr6 : rent ≤ 6) : Met l yX5_more (ws_ yX5_more cX5_more 6 (some .int)) { frames := 7, cells := 0, slots := 0, locals := 420 } (mdPc dC dI dA n σ ab be [.ref n, .int ev, .int wl, .int pu, .int wa]) (va_Qi (fun r_ u => r_ = (sp_more σ ev wl pu wa).1 ∧ mdQ (sp_more σ ev wl pu wa).2 u) (mdB dC dI dA n ab be) (mdA n)) 0 0 (mdA n) := by
  refine md_in (by decide) rfl (Nat.le_of_ble_eq_true rfl) (lv := [(0, .ref n), (1, .int ev), (2, .int wl), (3, .int pu), (4, .int wa)]) rfl ?_
  intro p e s m below meth c C hr hlk hP ls hl
  have hx := C.1
  have hb := C.2.1
  have hown := C.2.2.2.1
  have hts := C.2.2.2.2.1
  have hS : va_S (mdA n) s.heap s.heap [] := va_S.rf
  refine lv_iload_n hx hb dX5_more_0 rfl (lv_at hl 1 rfl) ?_
  refine md_sSe (As := [.int ev]) (rest := []) C (met_isEvening l ev) card_isEvening rfl rfl ⟨Nat.le_of_ble_eq_true rfl, Nat.le_of_ble_eq_true rfl⟩ hl.1 (Nat.le_of_ble_eq_true rfl) dX5_more_1 ?_
  refine rn_zt (tgt := 17) hx hb dX5_more_4 (by decide) (fun c_4 => ?_) (fun c_4 => ?_)
  · refine lv_aload_n hx hb dX5_more_17 rfl (lv_at hl 0 rfl) ?_
    refine lv_bipush (v := (-2)) hx hb dX5_more_18 rfl ?_
    refine md_cWe (As := [.int (-2)]) (rest := []) C hP hS (met_bad l dC dI dA n σ ab be (-2)) card_bad rfl rfl ⟨Nat.le_of_ble_eq_true rfl, Nat.le_of_ble_eq_true rfl⟩ hl.1 (Nat.le_of_ble_eq_true rfl) dX5_more_20 (fun H locs hP hS => ?_)
    exact md_ri C hr hlk hP hS dX5_more_23 (by first | (rw [sp_more, if_neg (rv_nf c_4)]; exact ⟨rfl, (mdQ.rf σ).bad _⟩) | (rw [sp_more, if_pos c_4, if_neg (rv_nf c_14)]; exact ⟨rfl, (mdQ.rf σ).bad _⟩))
  · refine lv_iload_n hx hb dX5_more_7 rfl (lv_at hl 2 rfl) ?_
    refine lv_iload_n hx hb dX5_more_8 rfl (lv_at hl 3 rfl) ?_
    refine lv_iload hx hb dX5_more_9 (lv_at hl 4 rfl) ?_
    refine md_sSe (As := [.int wl, .int pu, .int wa]) (rest := []) C (met_isRenterTold l wl pu wa) card_isRenterTold rfl rfl ⟨Nat.le_of_ble_eq_true rfl, Nat.le_of_ble_eq_true rfl⟩ hl.1 (Nat.le_of_ble_eq_true rfl) dX5_more_11 ?_
    refine rn_zf (tgt := 24) hx hb dX5_more_14 (by decide) (fun c_14 => ?_) (fun c_14 => ?_)
    · refine lv_aload_n hx hb dX5_more_24 rfl (lv_at hl 0 rfl) ?_
      refine md_cSe (As := []) (rest := []) C hP (met_renters l dC dI dA n σ ab be) card_renters rfl rfl ⟨Nat.le_of_ble_eq_true rfl, Nat.le_of_ble_eq_true rfl⟩ hl.1 (Nat.le_of_ble_eq_true rfl) dX5_more_25 ?_
      refine rn_co (y := nI rent) h1 ?_
      refine lv_bipush (v := nI 6) hx hb dX5_more_28 rfl ?_
      refine rn_icmp_ne (tgt := 38) hx hb (by omega) (by omega) dX5_more_30 (by decide) (fun c_30 => ?_) (fun c_30 => ?_)
      · refine lv_aload_n hx hb dX5_more_38 rfl (lv_at hl 0 rfl) ?_
        refine md_cWv (As := []) (rest := []) C hP hS (met_layHand l dC dI dA n σ ab be many h0 hm rent h1 hr6) card_layHand rfl rfl ⟨Nat.le_of_ble_eq_true rfl, Nat.le_of_ble_eq_true rfl⟩ hl.1 (Nat.le_of_ble_eq_true rfl) dX5_more_39 (fun s39 H locs hs39 hP hS => ?_)
        have h0a : s39 0 0 = nI many := by rw [hs39.Q.1]; exact h0
        have hha : s39 15 0 = nI rent := hs39.2.2.1
        refine lv_aload_n hx hb dX5_more_42 rfl (lv_at hl 0 rfl) ?_
        refine lv_iload_n hx hb dX5_more_43 rfl (lv_at hl 1 rfl) ?_
        refine md_cWv (As := [.int ev]) (rest := []) C hP hS (met_layBest l dC dI dA n s39 ab be ev many h0a hm rent hha (by omega)) card_layBest rfl rfl ⟨Nat.le_of_ble_eq_true rfl, Nat.le_of_ble_eq_true rfl⟩ hl.1 (Nat.le_of_ble_eq_true rfl) dX5_more_44 (fun s44 H locs hs44 hP hS => ?_)
        have hl1 := hs39.y.like
        have hb1 := hl1.best hm hs44
        have hl2 := hs44.like hl1
        have hQ := hs39.Q.tr hs44.Q
        have hhb : s44 15 0 = nI rent := hl2.1
        refine lv_aload_n hx hb dX5_more_47 rfl (lv_at hl 0 rfl) ?_
        refine md_g14 C hP dX5_more_48 ?_
        refine lv_istore (lv' := [(5, .int (s44 15 1)), (0, .ref n), (1, .int ev), (2, .int wl), (3, .int pu), (4, .int wa)]) hx hb dX5_more_51 hl (by decide) rfl (fun ls hl => ?_)
        refine lv_aload_n hx hb dX5_more_53 rfl (lv_at hl 1 rfl) ?_
        refine md_g8 C hP dX5_more_54 ?_
        refine lv_aload_n hx hb dX5_more_57 rfl (lv_at hl 1 rfl) ?_
        refine md_g7 C hP dX5_more_58 ?_
        refine rn_co (y := nI rent) hhb ?_
        refine lv_iload_n hx hb dX5_more_61 rfl (lv_at hl 3 rfl) ?_
        refine md_s5 C hP hS (by omega) dX5_more_62 (fun H locs hP hS => ?_)
        refine lv_aload_n hx hb dX5_more_63 rfl (lv_at hl 1 rfl) ?_
        refine md_g9 C hP dX5_more_64 ?_
        refine lv_aload_n hx hb dX5_more_67 rfl (lv_at hl 1 rfl) ?_
        refine md_g7 C hP dX5_more_68 ?_
        refine rn_co (y := nI rent) hhb ?_
        refine lv_iload_n hx hb dX5_more_71 rfl (lv_at hl 4 rfl) ?_
        refine md_s6 C hP hS (by omega) dX5_more_72 (fun H locs hP hS => ?_)
        refine lv_aload_n hx hb dX5_more_73 rfl (lv_at hl 1 rfl) ?_
        refine md_g10 C hP dX5_more_74 ?_
        refine lv_aload_n hx hb dX5_more_77 rfl (lv_at hl 1 rfl) ?_
        refine md_g7 C hP dX5_more_78 ?_
        refine rn_co (y := nI rent) hhb ?_
        refine lv_iload hx hb dX5_more_81 (lv_at hl 5 rfl) ?_
        refine md_s7 C hP hS (by omega) dX5_more_83 (fun H locs hP hS => ?_)
        refine lv_aload_n hx hb dX5_more_84 rfl (lv_at hl 1 rfl) ?_
        refine lv_dup hx hb dX5_more_85 rfl ?_
        refine md_g7 C hP dX5_more_86 ?_
        refine rn_co (y := nI rent) hhb ?_
        refine lv_iconst (v := nI 1) hx hb dX5_more_89 rfl ?_
        refine rn_iadd hx hb dX5_more_90 ?_
        refine md_p7 C hP hS dX5_more_91 (fun H locs hP hS => ?_)
        have h0c : mdS (mdS (mdS (mdS s44 5 rent wl) 6 rent pu) 7 rent wa) 15 0 (nI (rent + 1)) 0 0 = nI many := by rw [mdS_o _ (by decide), mdS_o _ (by decide), mdS_o _ (by decide), mdS_o _ (by decide), hQ.1]; exact h0
        have hhc : mdS (mdS (mdS (mdS s44 5 rent wl) 6 rent pu) 7 rent wa) 15 0 (nI (rent + 1)) 15 0 = nI (rent + 1) := mdS_eq _ _ _ _
        have hl3 : mdLike (mdS (mdS (mdS (mdS s44 5 rent wl) 6 rent pu) 7 rent wa) 15 0 (nI (rent + 1))) many (rent + 1) (rv_more (σ 0) rent wl pu wa) := by
          refine ⟨hhc, fun v hv => ?_, fun r hr => ?_⟩
          · obtain ⟨a1, a2, a3, a4⟩ := hl2.2.1 v hv
            simp only [mdS_at, upd]
            refine ⟨?_, ?_, ?_, ?_⟩ <;> grind
          · simp only [mdS_at, upd]
            by_cases e : r = rent
            · subst e; grind
            · obtain ⟨w5, w6, w7⟩ := hl2.2.2 r (by omega)
              refine ⟨?_, ?_, ?_⟩ <;> grind
        refine lv_aload_n hx hb dX5_more_94 rfl (lv_at hl 1 rfl) ?_
        refine lv_iload_n hx hb dX5_more_95 rfl (lv_at hl 2 rfl) ?_
        refine md_cWv (As := [.int ev]) (rest := []) C hP hS (met_layBest l dC dI dA n (mdS (mdS (mdS (mdS s44 5 rent wl) 6 rent pu) 7 rent wa) 15 0 (nI (rent + 1))) ab be ev many h0c hm (rent + 1) hhc (by omega)) card_layBest rfl rfl ⟨Nat.le_of_ble_eq_true rfl, Nat.le_of_ble_eq_true rfl⟩ hl.1 (Nat.le_of_ble_eq_true rfl) dX5_more_96 (fun s96 H locs hs96 hP hS => ?_)
        refine lv_aload_n hx hb dX5_more_99 rfl (lv_at hl 1 rfl) ?_
        refine md_g14 C hP dX5_more_100 ?_
        refine lv_iload hx hb dX5_more_103 (lv_at hl 0 rfl) ?_
        refine lv_isub hx hb dX5_more_105 ?_
        exact md_ri C hr hlk hP hS dX5_more_106 (by rw [sp_more, if_pos c_4, if_pos c_14, if_neg (by rw [h1]; exact fun z => c_30 ((nI_eq (by omega) (by omega)).mp (z.trans (show (6 : Int32) = nI 6 from rfl)))), rv_bN, h0, h1, rv_cln (by omega), rv_cln (by omega), (hl3.best hm hs96).1, hb1.1]; exact ⟨rfl, hQ.tr (((mdQ.S0 s44 (a := 5) rent wl (by decide)).tr ((mdQ.S0 _ (a := 6) rent pu (by decide)).tr ((mdQ.S0 _ (a := 7) rent wa (by decide)).tr (mdQ.S15 _ (k := 0) _ (by decide))))).tr hs96.Q)⟩)
      · refine lv_aload_n hx hb dX5_more_33 rfl (lv_at hl 0 rfl) ?_
        refine md_cWe (As := []) (rest := []) C hP hS (met_no l dC dI dA n σ ab be) card_no rfl rfl ⟨Nat.le_of_ble_eq_true rfl, Nat.le_of_ble_eq_true rfl⟩ hl.1 (Nat.le_of_ble_eq_true rfl) dX5_more_34 (fun H locs hP hS => ?_)
        exact md_ri C hr hlk hP hS dX5_more_37 (by rw [sp_more, if_pos c_4, if_pos c_14, if_pos (by rw [h1, c_30]; rfl)]; exact ⟨rfl, (mdQ.rf σ).no⟩)
    · refine lv_aload_n hx hb dX5_more_17 rfl (lv_at hl 0 rfl) ?_
      refine lv_bipush (v := (-2)) hx hb dX5_more_18 rfl ?_
      refine md_cWe (As := [.int (-2)]) (rest := []) C hP hS (met_bad l dC dI dA n σ ab be (-2)) card_bad rfl rfl ⟨Nat.le_of_ble_eq_true rfl, Nat.le_of_ble_eq_true rfl⟩ hl.1 (Nat.le_of_ble_eq_true rfl) dX5_more_20 (fun H locs hP hS => ?_)
      exact md_ri C hr hlk hP hS dX5_more_23 (by first | (rw [sp_more, if_neg (rv_nf c_4)]; exact ⟨rfl, (mdQ.rf σ).bad _⟩) | (rw [sp_more, if_pos c_4, if_neg (rv_nf c_14)]; exact ⟨rfl, (mdQ.rf σ).bad _⟩))
theorem rv_chgy {σ1 u : mdT} {f : Nat → Int32} {j many rent : Nat} {x ev : Int32} {many' hand' : Nat} (hy : σ1 15 0 = nI rent ∧ (∀ q, q < many → (q ≠ j → σ1 4 q = rv_cost (f (7 + 6 * q)) (f (7 + 6 * q + 2))) ∧ σ1 0 (7 + 6 * q) = f (7 + 6 * q) ∧ σ1 0 (7 + 6 * q + 1) = f (7 + 6 * q + 1) ∧ σ1 0 (7 + 6 * q + 3) = f (7 + 6 * q + 3)) ∧ (∀ r, r < rent → σ1 5 r = f (43 + 3 * r) ∧ σ1 6 r = f (43 + 3 * r + 1) ∧ σ1 7 r = f (43 + 3 * r + 2))) (h : mdBest (mdS σ1 4 j x) many' hand' ev u) :
    u 15 0 = nI rent ∧ (∀ q, q < many → (q ≠ j → u 4 q = rv_cost (f (7 + 6 * q)) (f (7 + 6 * q + 2))) ∧ u 0 (7 + 6 * q) = f (7 + 6 * q) ∧ u 0 (7 + 6 * q + 1) = f (7 + 6 * q + 1) ∧ u 0 (7 + 6 * q + 3) = f (7 + 6 * q + 3)) ∧ (∀ r, r < rent → u 5 r = f (43 + 3 * r) ∧ u 6 r = f (43 + 3 * r + 1) ∧ u 7 r = f (43 + 3 * r + 2)) := by
  refine ⟨by rw [h.2.1 0 (by decide) (by decide), mdS_o _ (by decide)]; exact hy.1, fun q hq => ?_, fun r hr => ?_⟩
  · obtain ⟨a1, a2⟩ := hy.2.1 q hq
    refine ⟨fun e => ?_, ?_⟩
    · rw [h.1 4 (by decide) (by decide) (by decide) (by decide), mdS_ne e]; exact a1 e
    · rw [h.1 0 (by decide) (by decide) (by decide) (by decide), mdS_row _ _ _ (by decide)]; exact a2
  · rw [h.1 5 (by decide) (by decide) (by decide) (by decide), h.1 6 (by decide) (by decide) (by decide) (by decide), h.1 7 (by decide) (by decide) (by decide) (by decide), mdS_row _ _ _ (by decide), mdS_row _ _ _ (by decide), mdS_row _ _ _ (by decide)]; exact hy.2.2 r hr
set_option maxHeartbeats 1000000 in
theorem met_changed (l : Launch) (dC : Nat → ClassId) (dI : Nat → Nat → Nat) (dA : Nat → ClassId) (n : Nat) (σ : mdT) (ab be : Int64) (ev : Int32) (v : Int32) (many : Nat) (h0 : σ 0 0 = nI many) (hm : many ≤ 6) (rent : Nat) (h1 : σ 0 1 = nI rent) (hr6 : rent ≤ 6) : Met l yX5_changed (ws_ yX5_changed cX5_changed 6 (some .int)) { frames := 7, cells := 0, slots := 0, locals := 420 } (mdPc dC dI dA n σ ab be [.ref n, .int ev, .int v]) (va_Qi (fun r_ u => r_ = (sp_changed σ ev v).1 ∧ mdQ (sp_changed σ ev v).2 u) (mdB dC dI dA n ab be) (mdA n)) 0 0 (mdA n) := by
  refine md_in (by decide) rfl (Nat.le_of_ble_eq_true rfl) (lv := [(0, .ref n), (1, .int ev), (2, .int v)]) rfl ?_
  intro p e s m below meth c C hr hlk hP ls hl
  have hx := C.1
  have hb := C.2.1
  have hown := C.2.2.2.1
  have hts := C.2.2.2.2.1
  have hS : va_S (mdA n) s.heap s.heap [] := va_S.rf
  have K34 : ∀ (k34_ : Nat) (j : Nat) (bs : Int32) (mo : Int32) (p_ : Nat) (σ1 : mdT) (H : Heap) (locs : List Loc), 100 - p_ = k34_ → (v = nI j) → (j < many) → (sp_changed σ ev v = ((rv_chg (rv_chM (σ 0) many rent ev j) 100).1, σ)) → (p_ ≤ 100) → (mdQ σ σ1) → (σ1 15 0 = nI rent ∧ (∀ q, q < many → (q ≠ j → σ1 4 q = rv_cost (σ 0 (7 + 6 * q)) (σ 0 (7 + 6 * q + 2))) ∧ σ1 0 (7 + 6 * q) = σ 0 (7 + 6 * q) ∧ σ1 0 (7 + 6 * q + 1) = σ 0 (7 + 6 * q + 1) ∧ σ1 0 (7 + 6 * q + 3) = σ 0 (7 + 6 * q + 3)) ∧ (∀ r, r < rent → σ1 5 r = σ 0 (43 + 3 * r) ∧ σ1 6 r = σ 0 (43 + 3 * r + 1) ∧ σ1 7 r = σ 0 (43 + 3 * r + 2))) → ((bs, mo) = rv_chg (rv_chM (σ 0) many rent ev j) p_) → mdP dC dI dA n σ1 ab be H → va_S (mdA n) s.heap H locs → ∀ ls, lv_has ls 6 [(0, .ref n), (1, .int ev), (2, .int v), (3, .int bs), (4, .int mo), (5, .int (nI p_))] → W p l e { frames := 7, cells := 0, slots := 0, locals := 420 } s m [.ref n, .int ev, .int v].toArray below meth c H locs 0 0 (MQ below (va_Qi (fun r_ u => r_ = (sp_changed σ ev v).1 ∧ mdQ (sp_changed σ ev v).2 u) (mdB dC dI dA n ab be) (mdA n)) [.ref n, .int ev, .int v].toArray s 0 0 (mdA n)) (F0 m 34 ls []) := by
    intro k34_
    induction k34_ using Nat.strongRecOn with
    | _ k34_ ih34 =>
      intro j bs mo p_ σ1 H locs hm34_ hv hj U hp hQ hy hbm hP hS ls hl
      have h0a : σ1 0 0 = nI many := by rw [hQ.1]; exact h0
      refine lv_iload hx hb dX5_changed_34 (lv_at hl 5 rfl) ?_
      refine lv_bipush (v := nI 100) hx hb dX5_changed_36 rfl ?_
      refine rn_icmp_ge (tgt := 105) hx hb (by omega) (by omega) dX5_changed_38 (by decide) (fun c_38 => ?_) (fun c_38 => ?_)
      · refine lv_iload_n hx hb dX5_changed_105 rfl (lv_at hl 3 rfl) ?_
        exact md_ri C hr hlk hP hS dX5_changed_106 (by rw [U, ← (show p_ = 100 by omega), ← hbm]; exact ⟨rfl, hQ⟩)
      · refine lv_aload_n hx hb dX5_changed_41 rfl (lv_at hl 0 rfl) ?_
        refine md_g6 C hP dX5_changed_42 ?_
        refine lv_iload_n hx hb dX5_changed_45 rfl (lv_at hl 2 rfl) ?_
        refine rn_co (y := nI j) hv ?_
        refine lv_aload_n hx hb dX5_changed_46 rfl (lv_at hl 0 rfl) ?_
        refine lv_iload_n hx hb dX5_changed_47 rfl (lv_at hl 2 rfl) ?_
        refine rn_co (y := nI j) hv ?_
        refine lv_iconst (v := nI 0) hx hb dX5_changed_48 rfl ?_
        refine md_cSe (As := [.int (nI j), .int (nI 0)]) (rest := [.int (nI j), .ref (n + 5)]) C hP (met_viewHas l dC dI dA n σ1 ab be j 0 (by omega) (by omega)) card_viewHas rfl rfl ⟨Nat.le_of_ble_eq_true rfl, Nat.le_of_ble_eq_true rfl⟩ hl.1 (Nat.le_of_ble_eq_true rfl) dX5_changed_49 ?_
        refine lv_iload hx hb dX5_changed_52 (lv_at hl 5 rfl) ?_
        refine md_sSe (As := [.int (σ1 0 (7 + 6 * j + 0)), .int (nI p_)]) (rest := [.int (nI j), .ref (n + 5)]) C (met_costOf l (σ1 0 (7 + 6 * j + 0)) (nI p_)) card_costOf rfl rfl ⟨Nat.le_of_ble_eq_true rfl, Nat.le_of_ble_eq_true rfl⟩ hl.1 (Nat.le_of_ble_eq_true rfl) dX5_changed_54 ?_
        refine md_s4 C hP hS (by omega) dX5_changed_57 (fun H locs hP hS => ?_)
        have h0c : mdS σ1 4 j (rv_cost (σ1 0 (7 + 6 * j + 0)) (nI p_)) 0 0 = nI many := by rw [mdS_o _ (by decide)]; exact h0a
        have hhc : mdS σ1 4 j (rv_cost (σ1 0 (7 + 6 * j + 0)) (nI p_)) 15 0 = nI rent := by rw [mdS_o _ (by decide)]; exact hy.1
        have hl3 : mdLike (mdS σ1 4 j (rv_cost (σ1 0 (7 + 6 * j + 0)) (nI p_))) many rent (upd (σ 0) (7 + 6 * j + 2) (nI p_)) := by
          refine ⟨hhc, fun q hq => ?_, fun r hr => ?_⟩
          · obtain ⟨a1, a2, a3, a4⟩ := hy.2.1 q hq
            by_cases e : q = j
            · subst e; simp only [mdS_at, upd]; refine ⟨?_, ?_, ?_, ?_⟩ <;> grind
            · have a1 := a1 e; simp only [mdS_at, upd]; refine ⟨?_, ?_, ?_, ?_⟩ <;> grind
          · obtain ⟨w5, w6, w7⟩ := hy.2.2 r hr
            simp only [mdS_at, upd]; refine ⟨?_, ?_, ?_⟩ <;> grind
        refine lv_aload_n hx hb dX5_changed_58 rfl (lv_at hl 0 rfl) ?_
        refine lv_iload_n hx hb dX5_changed_59 rfl (lv_at hl 1 rfl) ?_
        refine md_cWv (As := [.int ev]) (rest := []) C hP hS (met_layBest l dC dI dA n (mdS σ1 4 j (rv_cost (σ1 0 (7 + 6 * j + 0)) (nI p_))) ab be ev many h0c hm rent hhc (by omega)) card_layBest rfl rfl ⟨Nat.le_of_ble_eq_true rfl, Nat.le_of_ble_eq_true rfl⟩ hl.1 (Nat.le_of_ble_eq_true rfl) dX5_changed_60 (fun s60 H locs hs60 hP hS => ?_)
        have hb3 := (hl3.best hm hs60).2.1
        refine lv_aload_n hx hb dX5_changed_63 rfl (lv_at hl 0 rfl) ?_
        refine md_g15 C hP dX5_changed_64 ?_
        refine lv_iload hx hb dX5_changed_67 (lv_at hl 4 rfl) ?_
        refine lv_icmp_le (tgt := 77) hx hb dX5_changed_69 (by decide) (fun (c_69 : s60 15 2 ≤ mo) => ?_) (fun (c_69 : ¬ s60 15 2 ≤ mo) => ?_)
        · refine lv_iload_n hx hb dX5_changed_77 rfl (lv_at hl 3 rfl) ?_
          refine lv_istore_n (lv' := [(3, .int bs), (0, .ref n), (1, .int ev), (2, .int v), (4, .int mo), (5, .int (nI p_))]) hx hb dX5_changed_78 rfl hl (by decide) rfl (fun ls hl => ?_)
          refine lv_aload_n hx hb dX5_changed_79 rfl (lv_at hl 1 rfl) ?_
          refine md_g15 C hP dX5_changed_80 ?_
          refine lv_iload hx hb dX5_changed_83 (lv_at hl 4 rfl) ?_
          refine lv_icmp_le (tgt := 95) hx hb dX5_changed_85 (by decide) (fun (c_85 : s60 15 2 ≤ mo) => ?_) (fun (c_85 : ¬ s60 15 2 ≤ mo) => ?_)
          · refine lv_iload hx hb dX5_changed_95 (lv_at hl 4 rfl) ?_
            refine lv_istore (lv' := [(4, .int mo), (3, .int bs), (0, .ref n), (1, .int ev), (2, .int v), (5, .int (nI p_))]) hx hb dX5_changed_97 hl (by decide) rfl (fun ls hl => ?_)
            refine rn_iinc (lv' := [(5, .int (nI (p_ + 1))), (4, .int mo), (3, .int bs), (0, .ref n), (1, .int ev), (2, .int v)]) hx hb dX5_changed_99 hl (k := 5) rfl (by decide) rfl (fun ls hl => ?_)
            refine lv_goto (tgt := 34) hx hb dX5_changed_102 (by decide) ?_
            exact ih34 _ (by omega) j bs mo (p_ + 1) s60 _ _ rfl hv hj U (by omega) (hQ.tr ((mdQ.S0 σ1 (a := 4) _ _ (by decide)).tr hs60.Q)) (rv_chgy hy hs60) (by rw [rv_chg, ← hbm]; show _ = if (rv_bestN (upd (σ 0) (7 + 6 * j + 2) (nI p_)) many rent ev).2.1 ≤ mo then _ else _; rw [← hb3]; first | rw [if_pos c_69] | (rw [if_neg c_69, rv_chM, ← hb3]; done)) hP hS ls (lv_sub hl [3, 4, 5, 2, 1, 0] rfl)
          · first | exact absurd c_69 c_85 | exact absurd c_85 c_69
        · refine lv_iload hx hb dX5_changed_72 (lv_at hl 5 rfl) ?_
          refine lv_goto (tgt := 78) hx hb dX5_changed_74 (by decide) ?_
          refine lv_istore_n (lv' := [(3, .int (nI p_)), (0, .ref n), (1, .int ev), (2, .int v), (4, .int mo), (5, .int (nI p_))]) hx hb dX5_changed_78 rfl hl (by decide) rfl (fun ls hl => ?_)
          refine lv_aload_n hx hb dX5_changed_79 rfl (lv_at hl 1 rfl) ?_
          refine md_g15 C hP dX5_changed_80 ?_
          refine lv_iload hx hb dX5_changed_83 (lv_at hl 4 rfl) ?_
          refine lv_icmp_le (tgt := 95) hx hb dX5_changed_85 (by decide) (fun (c_85 : s60 15 2 ≤ mo) => ?_) (fun (c_85 : ¬ s60 15 2 ≤ mo) => ?_)
          · first | exact absurd c_69 c_85 | exact absurd c_85 c_69
          · refine lv_aload_n hx hb dX5_changed_88 rfl (lv_at hl 1 rfl) ?_
            refine md_g15 C hP dX5_changed_89 ?_
            refine lv_goto (tgt := 97) hx hb dX5_changed_92 (by decide) ?_
            refine lv_istore (lv' := [(4, .int (s60 15 2)), (3, .int (nI p_)), (0, .ref n), (1, .int ev), (2, .int v), (5, .int (nI p_))]) hx hb dX5_changed_97 hl (by decide) rfl (fun ls hl => ?_)
            refine rn_iinc (lv' := [(5, .int (nI (p_ + 1))), (4, .int (s60 15 2)), (3, .int (nI p_)), (0, .ref n), (1, .int ev), (2, .int v)]) hx hb dX5_changed_99 hl (k := 5) rfl (by decide) rfl (fun ls hl => ?_)
            refine lv_goto (tgt := 34) hx hb dX5_changed_102 (by decide) ?_
            exact ih34 _ (by omega) j (nI p_) (s60 15 2) (p_ + 1) s60 _ _ rfl hv hj U (by omega) (hQ.tr ((mdQ.S0 σ1 (a := 4) _ _ (by decide)).tr hs60.Q)) (rv_chgy hy hs60) (by rw [rv_chg, ← hbm]; show _ = if (rv_bestN (upd (σ 0) (7 + 6 * j + 2) (nI p_)) many rent ev).2.1 ≤ mo then _ else _; rw [← hb3]; first | rw [if_pos c_69] | (rw [if_neg c_69, rv_chM, ← hb3]; done)) hP hS ls (lv_sub hl [3, 4, 5, 2, 1, 0] rfl)
  refine lv_iload_n hx hb dX5_changed_0 rfl (lv_at hl 1 rfl) ?_
  refine md_sSe (As := [.int ev]) (rest := []) C (met_isEvening l ev) card_isEvening rfl rfl ⟨Nat.le_of_ble_eq_true rfl, Nat.le_of_ble_eq_true rfl⟩ hl.1 (Nat.le_of_ble_eq_true rfl) dX5_changed_1 ?_
  refine rn_zt (tgt := 15) hx hb dX5_changed_4 (by decide) (fun c_4 => ?_) (fun c_4 => ?_)
  · refine lv_aload_n hx hb dX5_changed_15 rfl (lv_at hl 0 rfl) ?_
    refine lv_bipush (v := (-2)) hx hb dX5_changed_16 rfl ?_
    refine md_cWe (As := [.int (-2)]) (rest := []) C hP hS (met_bad l dC dI dA n σ ab be (-2)) card_bad rfl rfl ⟨Nat.le_of_ble_eq_true rfl, Nat.le_of_ble_eq_true rfl⟩ hl.1 (Nat.le_of_ble_eq_true rfl) dX5_changed_18 (fun H locs hP hS => ?_)
    exact md_ri C hr hlk hP hS dX5_changed_21 (by first | (rw [sp_changed, if_neg (rv_nf c_4)]; exact ⟨rfl, (mdQ.rf σ).bad _⟩) | (rw [sp_changed, if_pos c_4, if_neg (rv_nf c_12)]; exact ⟨rfl, (mdQ.rf σ).bad _⟩))
  · refine lv_aload_n hx hb dX5_changed_7 rfl (lv_at hl 0 rfl) ?_
    refine lv_iload_n hx hb dX5_changed_8 rfl (lv_at hl 2 rfl) ?_
    refine md_cSe (As := [.int v]) (rest := []) C hP (met_isView l dC dI dA n σ ab be v) card_isView rfl rfl ⟨Nat.le_of_ble_eq_true rfl, Nat.le_of_ble_eq_true rfl⟩ hl.1 (Nat.le_of_ble_eq_true rfl) dX5_changed_9 ?_
    refine rn_zf (tgt := 22) hx hb dX5_changed_12 (by decide) (fun c_12 => ?_) (fun c_12 => ?_)
    · obtain ⟨j, hj, hv⟩ := rv_isx h0 hm c_12
      have U : sp_changed σ ev v = ((rv_chg (rv_chM (σ 0) many rent ev j) 100).1, σ) := by rw [sp_changed, if_pos c_4, if_pos c_12, h0, h1, hv, rv_cln (by omega), rv_cln (by omega), rv_cln (by omega)]
      refine lv_iconst (v := nI 0) hx hb dX5_changed_22 rfl ?_
      refine lv_istore_n (lv' := [(3, .int (nI 0)), (0, .ref n), (1, .int ev), (2, .int v)]) hx hb dX5_changed_23 rfl hl (by decide) rfl (fun ls hl => ?_)
      refine lv_iconst (v := (-1)) hx hb dX5_changed_24 rfl ?_
      refine lv_istore (lv' := [(4, .int (-1)), (3, .int (nI 0)), (0, .ref n), (1, .int ev), (2, .int v)]) hx hb dX5_changed_25 hl (by decide) rfl (fun ls hl => ?_)
      refine lv_aload_n hx hb dX5_changed_27 rfl (lv_at hl 2 rfl) ?_
      refine md_cWv (As := []) (rest := []) C hP hS (met_layHand l dC dI dA n σ ab be many h0 hm rent h1 hr6) card_layHand rfl rfl ⟨Nat.le_of_ble_eq_true rfl, Nat.le_of_ble_eq_true rfl⟩ hl.1 (Nat.le_of_ble_eq_true rfl) dX5_changed_28 (fun s28 H locs hs28 hP hS => ?_)
      refine lv_iconst (v := nI 0) hx hb dX5_changed_31 rfl ?_
      refine lv_istore (lv' := [(5, .int (nI 0)), (4, .int (-1)), (3, .int (nI 0)), (0, .ref n), (1, .int ev), (2, .int v)]) hx hb dX5_changed_32 hl (by decide) rfl (fun ls hl => ?_)
      exact K34 _ j (nI 0) (-1) 0 s28 _ _ rfl hv hj U (by omega) hs28.Q ⟨hs28.2.2.1, fun q hq => ⟨fun _ => hs28.2.2.2.1 q hq, by rw [hs28.Q.1], by rw [hs28.Q.1], by rw [hs28.Q.1]⟩, hs28.2.2.2.2⟩ rfl hP hS ls (lv_sub hl [3, 4, 5, 2, 1, 0] rfl)
    · refine lv_aload_n hx hb dX5_changed_15 rfl (lv_at hl 0 rfl) ?_
      refine lv_bipush (v := (-2)) hx hb dX5_changed_16 rfl ?_
      refine md_cWe (As := [.int (-2)]) (rest := []) C hP hS (met_bad l dC dI dA n σ ab be (-2)) card_bad rfl rfl ⟨Nat.le_of_ble_eq_true rfl, Nat.le_of_ble_eq_true rfl⟩ hl.1 (Nat.le_of_ble_eq_true rfl) dX5_changed_18 (fun H locs hP hS => ?_)
      exact md_ri C hr hlk hP hS dX5_changed_21 (by first | (rw [sp_changed, if_neg (rv_nf c_4)]; exact ⟨rfl, (mdQ.rf σ).bad _⟩) | (rw [sp_changed, if_pos c_4, if_neg (rv_nf c_12)]; exact ⟨rfl, (mdQ.rf σ).bad _⟩))
