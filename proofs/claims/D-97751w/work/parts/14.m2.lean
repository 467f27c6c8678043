set_option maxRecDepth 100000
/-! the Model: views, renters, what is asked -/
abbrev rv_cl (x : Int32) : Nat := x.toNatClampNeg
theorem rv_cln {k : Nat} (h : k < 2 ^ 31) : rv_cl (nI k) = k := nI_clamp h
theorem rv_nf {b : Bool} (h : b = false) : ¬ b = true := by rw [h]; decide
abbrev rv_inI (x : Int32) (lo hi : Int64) : Bool := rv_inL x.toInt64 lo hi
/-- whether v is a view, a renter (the numbers at 0 and 1 of 'now') -/
abbrev rv_isV (σ : mdT) (v : Int32) : Bool := rv_in v 0 (σ 0 0 - nI 1).toInt
abbrev rv_isR (σ : mdT) (v : Int32) : Bool := rv_in v 0 (σ 0 1 - nI 1).toInt
theorem rv_isx {v x : Int32} {many : Nat} (h0 : x = nI many) (hm : many ≤ 6) (h : rv_in v 0 (x - nI 1).toInt = true) : ∃ j : Nat, j < many ∧ v = nI j := by
  rw [h0, pk_sub_toInt (by omega) (by omega)] at h
  exact rv_in_lt h (by omega)
theorem rv_inIx {v : Int32} {hi : Int64} (n : Nat) (hh : hi.toInt = n) (hn : n < 2 ^ 30) (h : rv_inI v 0 hi = true) : ∃ j : Nat, j ≤ n ∧ v = nI j := by
  have h2 : rv_in v 0 (((n + 1 : Nat) : Int) - 1) = true := by
    rw [rv_inI, rv_inL_i, hh] at h
    rw [show (((n + 1 : Nat) : Int) - 1) = (n : Int) by omega]
    exact h
  obtain ⟨j, hj, e⟩ := rv_in_lt h2 (by omega)
  exact ⟨j, by omega, e⟩
/-- 'now' set -/
def mdN (σ : mdT) (f : Nat → Int32) : mdT := va_up σ 0 f
theorem mdN_0 (σ : mdT) (f : Nat → Int32) : mdN σ f 0 = f := rfl
theorem mdN_ne (σ : mdT) (f : Nat → Int32) {a : Nat} (h : a ≠ 0) : mdN σ f a = σ a := va_up_ne σ f h
theorem mdN_self (σ : mdT) : mdN σ (σ 0) = σ := by
  funext a
  by_cases h : a = 0
  · subst h; rfl
  · exact mdN_ne σ _ h
theorem mdN_S (σ : mdT) (f : Nat → Int32) (k : Nat) (v : Int32) : mdS (mdN σ f) 0 k v = mdN σ (upd f k v) := by
  funext a
  by_cases h : a = 0
  · subst h; rfl
  · rw [mdS_row _ _ _ h, mdN_ne _ _ h, mdN_ne _ _ h]
theorem mdN_s (σ : mdT) (k : Nat) (v : Int32) : mdS σ 0 k v = mdN σ (upd (σ 0) k v) := by
  rw [← mdN_S, mdN_self]
theorem mdN_N (σ : mdT) (f g : Nat → Int32) : mdN (mdN σ f) g = mdN σ g := by
  funext a
  by_cases h : a = 0
  · subst h; rfl
  · rw [mdN_ne _ _ h, mdN_ne _ _ h, mdN_ne _ _ h]
def sBad (t : Int32) (σ : mdT) : Int32 × mdT := (t, mdS σ 3 0 (σ 3 0 + nI 1))
def sNo (σ : mdT) : Int32 × mdT := ((-3), mdS σ 3 1 (σ 3 1 + nI 1))
def sFull (σ : mdT) : Int32 × mdT := ((-4), mdS σ 3 2 (σ 3 2 + nI 1))
def sp_view (σ : mdT) (kd sz pr we : Int32) : Int32 × mdT :=
  if (rv_in kd 0 5 && rv_in sz 1 9 && rv_in pr 0 99 && rv_in we 0 5) = true then (if σ 0 0 = 6 then sFull σ else (σ 0 0, mdS (md_layV σ 0 (rv_cl (σ 0 0)) kd sz pr we) 0 6 0)) else sBad (-2) σ
def sp_renter (σ : mdT) (wl pu wa : Int32) : Int32 × mdT :=
  if (rv_in wl 1 9 && rv_in pu 0 999 && rv_in wa 0 6) = true then (if σ 0 1 = 6 then sFull σ else (σ 0 1, mdS (md_layR σ 0 (rv_cl (σ 0 1)) wl pu wa) 0 6 0)) else sBad (-2) σ
def sp_things (σ : mdT) (v set : Int32) : Int32 × mdT :=
  if rv_isV σ v = true then (if rv_inI set 0 255 = true then (σ 0 (7 + 6 * rv_cl v + 5), mdS σ 0 (7 + 6 * rv_cl v + 5) set) else sBad (-2) σ) else sBad (-2) σ
theorem met_view (l : Launch) (dC : Nat → ClassId) (dI : Nat → Nat → Nat) (dA : Nat → ClassId) (n : Nat) (σ : mdT) (ab be : Int64) (kd : Int32) (sz : Int32) (pr : Int32) (we : Int32) (many : Nat) (h0 : σ 0 0 = nI many) (hm : many ≤ 6) : Met l yX5_view (ws_ yX5_view cX5_view 5 (some .int)) { frames := 4, cells := 0, slots := 0, locals := 240 } (mdPc dC dI dA n σ ab be [.ref n, .int kd, .int sz, .int pr, .int we]) (va_Qi (fun r_ u => r_ = (sp_view σ kd sz pr we).1 ∧ u = (sp_view σ kd sz pr we).2) (mdB dC dI dA n ab be) (mdA n)) 0 0 (mdA n) := by
  refine md_in (by decide) rfl (Nat.le_of_ble_eq_true rfl) (lv := [(0, .ref n), (1, .int kd), (2, .int sz), (3, .int pr), (4, .int we)]) rfl ?_
  intro p e s m below meth c C hr hlk hP ls hl
  have hx := C.1
  have hb := C.2.1
  have hown := C.2.2.2.1
  have hts := C.2.2.2.2.1
  have hS : va_S (mdA n) s.heap s.heap [] := va_S.rf
  refine lv_iload_n hx hb dX5_view_0 rfl (lv_at hl 1 rfl) ?_
  refine lv_iload_n hx hb dX5_view_1 rfl (lv_at hl 2 rfl) ?_
  refine lv_iload_n hx hb dX5_view_2 rfl (lv_at hl 3 rfl) ?_
  refine lv_iload hx hb dX5_view_3 (lv_at hl 4 rfl) ?_
  refine md_sSe (As := [.int kd, .int sz, .int pr, .int we]) (rest := []) C (met_isViewTold l kd sz pr we) card_isViewTold rfl rfl ⟨Nat.le_of_ble_eq_true rfl, Nat.le_of_ble_eq_true rfl⟩ hl.1 (Nat.le_of_ble_eq_true rfl) dX5_view_5 ?_
  refine rn_zf (tgt := 18) hx hb dX5_view_8 (by decide) (fun c_8 => ?_) (fun c_8 => ?_)
  · refine lv_aload_n hx hb dX5_view_18 rfl (lv_at hl 0 rfl) ?_
    refine md_cSe (As := []) (rest := []) C hP (met_views l dC dI dA n σ ab be) card_views rfl rfl ⟨Nat.le_of_ble_eq_true rfl, Nat.le_of_ble_eq_true rfl⟩ hl.1 (Nat.le_of_ble_eq_true rfl) dX5_view_19 ?_
    refine rn_co (y := nI many) h0 ?_
    refine lv_bipush (v := nI 6) hx hb dX5_view_22 rfl ?_
    refine rn_icmp_ne (tgt := 32) hx hb (by omega) (by omega) dX5_view_24 (by decide) (fun c24 => ?_) (fun c24 => ?_)
    · refine lv_aload_n hx hb dX5_view_32 rfl (lv_at hl 0 rfl) ?_
      refine md_g0 C hP dX5_view_33 ?_
      refine lv_iload_n hx hb dX5_view_36 rfl (lv_at hl 1 rfl) ?_
      refine lv_iload_n hx hb dX5_view_37 rfl (lv_at hl 2 rfl) ?_
      refine lv_iload_n hx hb dX5_view_38 rfl (lv_at hl 3 rfl) ?_
      refine lv_iload hx hb dX5_view_39 (lv_at hl 4 rfl) ?_
      refine md_sWve (As := [.ref (n + 1), .int kd, .int sz, .int pr, .int we]) (rest := []) C hP hS (met_layView_0 l dC dI dA n σ ab be kd sz pr we many (by omega) h0) card_layView rfl rfl ⟨Nat.le_of_ble_eq_true rfl, Nat.le_of_ble_eq_true rfl⟩ hl.1 (Nat.le_of_ble_eq_true rfl) dX5_view_41 (fun H locs hP hS => ?_)
      refine lv_aload_n hx hb dX5_view_44 rfl (lv_at hl 0 rfl) ?_
      refine md_g0 C hP dX5_view_45 ?_
      refine lv_bipush (v := nI 6) hx hb dX5_view_48 rfl ?_
      refine lv_iconst (v := nI 0) hx hb dX5_view_50 rfl ?_
      refine md_s0 C hP hS (by omega) dX5_view_51 (fun H locs hP hS => ?_)
      refine lv_aload_n hx hb dX5_view_52 rfl (lv_at hl 0 rfl) ?_
      refine md_cSe (As := []) (rest := []) C hP (met_views l dC dI dA n (mdS (md_layV σ 0 many kd sz pr we) 0 6 (nI 0)) ab be) card_views rfl rfl ⟨Nat.le_of_ble_eq_true rfl, Nat.le_of_ble_eq_true rfl⟩ hl.1 (Nat.le_of_ble_eq_true rfl) dX5_view_53 ?_
      refine lv_iconst (v := nI 1) hx hb dX5_view_56 rfl ?_
      refine lv_isub hx hb dX5_view_57 ?_
      exact md_ri C hr hlk hP hS dX5_view_58 (by rw [sp_view, if_pos c_8, if_neg (by rw [h0]; exact fun z => c24 ((nI_eq (by omega) (by omega)).mp (z.trans (show (6 : Int32) = nI 6 from rfl)))), h0, rv_cln (by omega)]; exact ⟨by simp [md_layV, mdS_at, pk_sub], rfl⟩)
    · refine lv_aload_n hx hb dX5_view_27 rfl (lv_at hl 0 rfl) ?_
      refine md_cWe (As := []) (rest := []) C hP hS (met_full l dC dI dA n σ ab be) card_full rfl rfl ⟨Nat.le_of_ble_eq_true rfl, Nat.le_of_ble_eq_true rfl⟩ hl.1 (Nat.le_of_ble_eq_true rfl) dX5_view_28 (fun H locs hP hS => ?_)
      exact md_ri C hr hlk hP hS dX5_view_31 (by rw [sp_view, if_pos c_8, if_pos (by rw [h0, c24]; rfl)]; exact ⟨rfl, rfl⟩)
  · refine lv_aload_n hx hb dX5_view_11 rfl (lv_at hl 0 rfl) ?_
    refine lv_bipush (v := (-2)) hx hb dX5_view_12 rfl ?_
    refine md_cWe (As := [.int (-2)]) (rest := []) C hP hS (met_bad l dC dI dA n σ ab be (-2)) card_bad rfl rfl ⟨Nat.le_of_ble_eq_true rfl, Nat.le_of_ble_eq_true rfl⟩ hl.1 (Nat.le_of_ble_eq_true rfl) dX5_view_14 (fun H locs hP hS => ?_)
    exact md_ri C hr hlk hP hS dX5_view_17 (by rw [sp_view, if_neg (rv_nf c_8)]; exact ⟨rfl, rfl⟩)
theorem met_renter (l : Launch) (dC : Nat → ClassId) (dI : Nat → Nat → Nat) (dA : Nat → ClassId) (n : Nat) (σ : mdT) (ab be : Int64) (wl : Int32) (pu : Int32) (wa : Int32) (rent : Nat) (h1 : σ 0 1 = nI rent) (hr6 : rent ≤ 6) : Met l yX5_renter (ws_ yX5_renter cX5_renter 4 (some .int)) { frames := 3, cells := 0, slots := 0, locals := 180 } (mdPc dC dI dA n σ ab be [.ref n, .int wl, .int pu, .int wa]) (va_Qi (fun r_ u => r_ = (sp_renter σ wl pu wa).1 ∧ u = (sp_renter σ wl pu wa).2) (mdB dC dI dA n ab be) (mdA n)) 0 0 (mdA n) := by
  refine md_in (by decide) rfl (Nat.le_of_ble_eq_true rfl) (lv := [(0, .ref n), (1, .int wl), (2, .int pu), (3, .int wa)]) rfl ?_
  intro p e s m below meth c C hr hlk hP ls hl
  have hx := C.1
  have hb := C.2.1
  have hown := C.2.2.2.1
  have hts := C.2.2.2.2.1
  have hS : va_S (mdA n) s.heap s.heap [] := va_S.rf
  refine lv_iload_n hx hb dX5_renter_0 rfl (lv_at hl 1 rfl) ?_
  refine lv_iload_n hx hb dX5_renter_1 rfl (lv_at hl 2 rfl) ?_
  refine lv_iload_n hx hb dX5_renter_2 rfl (lv_at hl 3 rfl) ?_
  refine md_sSe (As := [.int wl, .int pu, .int wa]) (rest := []) C (met_isRenterTold l wl pu wa) card_isRenterTold rfl rfl ⟨Nat.le_of_ble_eq_true rfl, Nat.le_of_ble_eq_true rfl⟩ hl.1 (Nat.le_of_ble_eq_true rfl) dX5_renter_3 ?_
  refine rn_zf (tgt := 16) hx hb dX5_renter_6 (by decide) (fun c_6 => ?_) (fun c_6 => ?_)
  · refine lv_aload_n hx hb dX5_renter_16 rfl (lv_at hl 0 rfl) ?_
    refine md_cSe (As := []) (rest := []) C hP (met_renters l dC dI dA n σ ab be) card_renters rfl rfl ⟨Nat.le_of_ble_eq_true rfl, Nat.le_of_ble_eq_true rfl⟩ hl.1 (Nat.le_of_ble_eq_true rfl) dX5_renter_17 ?_
    refine rn_co (y := nI rent) h1 ?_
    refine lv_bipush (v := nI 6) hx hb dX5_renter_20 rfl ?_
    refine rn_icmp_ne (tgt := 30) hx hb (by omega) (by omega) dX5_renter_22 (by decide) (fun c24 => ?_) (fun c24 => ?_)
    · refine lv_aload_n hx hb dX5_renter_30 rfl (lv_at hl 0 rfl) ?_
      refine md_g0 C hP dX5_renter_31 ?_
      refine lv_iload_n hx hb dX5_renter_34 rfl (lv_at hl 1 rfl) ?_
      refine lv_iload_n hx hb dX5_renter_35 rfl (lv_at hl 2 rfl) ?_
      refine lv_iload_n hx hb dX5_renter_36 rfl (lv_at hl 3 rfl) ?_
      refine md_sWve (As := [.ref (n + 1), .int wl, .int pu, .int wa]) (rest := []) C hP hS (met_layRenter_0 l dC dI dA n σ ab be wl pu wa rent (by omega) h1) card_layRenter rfl rfl ⟨Nat.le_of_ble_eq_true rfl, Nat.le_of_ble_eq_true rfl⟩ hl.1 (Nat.le_of_ble_eq_true rfl) dX5_renter_37 (fun H locs hP hS => ?_)
      refine lv_aload_n hx hb dX5_renter_40 rfl (lv_at hl 0 rfl) ?_
      refine md_g0 C hP dX5_renter_41 ?_
      refine lv_bipush (v := nI 6) hx hb dX5_renter_44 rfl ?_
      refine lv_iconst (v := nI 0) hx hb dX5_renter_46 rfl ?_
      refine md_s0 C hP hS (by omega) dX5_renter_47 (fun H locs hP hS => ?_)
      refine lv_aload_n hx hb dX5_renter_48 rfl (lv_at hl 0 rfl) ?_
      refine md_cSe (As := []) (rest := []) C hP (met_renters l dC dI dA n (mdS (md_layR σ 0 rent wl pu wa) 0 6 (nI 0)) ab be) card_renters rfl rfl ⟨Nat.le_of_ble_eq_true rfl, Nat.le_of_ble_eq_true rfl⟩ hl.1 (Nat.le_of_ble_eq_true rfl) dX5_renter_49 ?_
      refine lv_iconst (v := nI 1) hx hb dX5_renter_52 rfl ?_
      refine lv_isub hx hb dX5_renter_53 ?_
      exact md_ri C hr hlk hP hS dX5_renter_54 (by rw [sp_renter, if_pos c_6, if_neg (by rw [h1]; exact fun z => c24 ((nI_eq (by omega) (by omega)).mp (z.trans (show (6 : Int32) = nI 6 from rfl)))), h1, rv_cln (by omega)]; exact ⟨by simp [md_layR, mdS_at, pk_sub], rfl⟩)
    · refine lv_aload_n hx hb dX5_renter_25 rfl (lv_at hl 0 rfl) ?_
      refine md_cWe (As := []) (rest := []) C hP hS (met_full l dC dI dA n σ ab be) card_full rfl rfl ⟨Nat.le_of_ble_eq_true rfl, Nat.le_of_ble_eq_true rfl⟩ hl.1 (Nat.le_of_ble_eq_true rfl) dX5_renter_26 (fun H locs hP hS => ?_)
      exact md_ri C hr hlk hP hS dX5_renter_29 (by rw [sp_renter, if_pos c_6, if_pos (by rw [h1, c24]; rfl)]; exact ⟨rfl, rfl⟩)
  · refine lv_aload_n hx hb dX5_renter_9 rfl (lv_at hl 0 rfl) ?_
    refine lv_bipush (v := (-2)) hx hb dX5_renter_10 rfl ?_
    refine md_cWe (As := [.int (-2)]) (rest := []) C hP hS (met_bad l dC dI dA n σ ab be (-2)) card_bad rfl rfl ⟨Nat.le_of_ble_eq_true rfl, Nat.le_of_ble_eq_true rfl⟩ hl.1 (Nat.le_of_ble_eq_true rfl) dX5_renter_12 (fun H locs hP hS => ?_)
    exact md_ri C hr hlk hP hS dX5_renter_15 (by rw [sp_renter, if_neg (rv_nf c_6)]; exact ⟨rfl, rfl⟩)
theorem met_things (l : Launch) (dC : Nat → ClassId) (dI : Nat → Nat → Nat) (dA : Nat → ClassId) (n : Nat) (σ : mdT) (ab be : Int64) (v : Int32) (st : Int32) (many : Nat) (h0 : σ 0 0 = nI many) (hm : many ≤ 6) : Met l yX5_things (ws_ yX5_things cX5_things 4 (some .int)) { frames := 3, cells := 0, slots := 0, locals := 180 } (mdPc dC dI dA n σ ab be [.ref n, .int v, .int st]) (va_Qi (fun r_ u => r_ = (sp_things σ v st).1 ∧ u = (sp_things σ v st).2) (mdB dC dI dA n ab be) (mdA n)) 0 0 (mdA n) := by
  refine md_in (by decide) rfl (Nat.le_of_ble_eq_true rfl) (lv := [(0, .ref n), (1, .int v), (2, .int st)]) rfl ?_
  intro p e s m below meth c C hr hlk hP ls hl
  have hx := C.1
  have hb := C.2.1
  have hown := C.2.2.2.1
  have hts := C.2.2.2.2.1
  have hS : va_S (mdA n) s.heap s.heap [] := va_S.rf
  refine lv_aload_n hx hb dX5_things_0 rfl (lv_at hl 0 rfl) ?_
  refine lv_iload_n hx hb dX5_things_1 rfl (lv_at hl 1 rfl) ?_
  refine md_cSe (As := [.int v]) (rest := []) C hP (met_isView l dC dI dA n σ ab be v) card_isView rfl rfl ⟨Nat.le_of_ble_eq_true rfl, Nat.le_of_ble_eq_true rfl⟩ hl.1 (Nat.le_of_ble_eq_true rfl) dX5_things_2 ?_
  refine rn_zt (tgt := 20) hx hb dX5_things_5 (by decide) (fun c_5 => ?_) (fun c_5 => ?_)
  · refine lv_aload_n hx hb dX5_things_20 rfl (lv_at hl 0 rfl) ?_
    refine lv_bipush (v := (-2)) hx hb dX5_things_21 rfl ?_
    refine md_cWe (As := [.int (-2)]) (rest := []) C hP hS (met_bad l dC dI dA n σ ab be (-2)) card_bad rfl rfl ⟨Nat.le_of_ble_eq_true rfl, Nat.le_of_ble_eq_true rfl⟩ hl.1 (Nat.le_of_ble_eq_true rfl) dX5_things_23 (fun H locs hP hS => ?_)
    exact md_ri C hr hlk hP hS dX5_things_26 (by first | (rw [sp_things, if_neg (rv_nf c_5)]; exact ⟨rfl, rfl⟩) | (rw [sp_things, if_pos c_5, if_neg (rv_nf c_17)]; exact ⟨rfl, rfl⟩))
  · obtain ⟨j, hj, hv⟩ := rv_isx h0 hm c_5
    refine lv_iload_n hx hb dX5_things_8 rfl (lv_at hl 2 rfl) ?_
    refine lv_i2l hx hb dX5_things_9 rfl ?_
    refine lv_lconst (v := 0) hx hb dX5_things_10 rfl ?_
    refine lv_ldc2 (v := 255) hx hb hown (hts _ q1041) dX5_things_11 ?_
    refine md_sSe (As := [.long (Int32.toInt64 st), .long 0, .long 255]) (rest := []) C (met_in l (Int32.toInt64 st) 0 255) card_in rfl rfl ⟨Nat.le_of_ble_eq_true rfl, Nat.le_of_ble_eq_true rfl⟩ hl.1 (Nat.le_of_ble_eq_true rfl) dX5_things_14 ?_
    refine rn_zf (tgt := 27) hx hb dX5_things_17 (by decide) (fun c_17 => ?_) (fun c_17 => ?_)
    · refine lv_aload_n hx hb dX5_things_27 rfl (lv_at hl 0 rfl) ?_
      refine lv_iload_n hx hb dX5_things_28 rfl (lv_at hl 1 rfl) ?_
      refine rn_co (y := nI j) hv ?_
      refine lv_iconst (v := nI 5) hx hb dX5_things_29 rfl ?_
      refine md_cSe (As := [.int (nI j), .int (nI 5)]) (rest := []) C hP (met_viewHas l dC dI dA n σ ab be j 5 (by omega) (by omega)) card_viewHas rfl rfl ⟨Nat.le_of_ble_eq_true rfl, Nat.le_of_ble_eq_true rfl⟩ hl.1 (Nat.le_of_ble_eq_true rfl) dX5_things_30 ?_
      refine lv_istore_n (lv' := [(3, .int (σ 0 (7 + 6 * j + 5))), (0, .ref n), (1, .int v), (2, .int st)]) hx hb dX5_things_33 rfl hl (by decide) rfl (fun ls hl => ?_)
      refine lv_aload_n hx hb dX5_things_34 rfl (lv_at hl 1 rfl) ?_
      refine md_g0 C hP dX5_things_35 ?_
      refine lv_bipush (v := nI 7) hx hb dX5_things_38 rfl ?_
      refine lv_bipush (v := nI 6) hx hb dX5_things_40 rfl ?_
      refine lv_iload_n hx hb dX5_things_42 rfl (lv_at hl 2 rfl) ?_
      refine rn_co (y := nI j) hv ?_
      refine rn_imul hx hb dX5_things_43 ?_
      refine rn_iadd hx hb dX5_things_44 ?_
      refine lv_iconst (v := nI 5) hx hb dX5_things_45 rfl ?_
      refine rn_iadd hx hb dX5_things_46 ?_
      refine lv_iload_n hx hb dX5_things_47 rfl (lv_at hl 3 rfl) ?_
      refine md_s0 C hP hS (by omega) dX5_things_48 (fun H locs hP hS => ?_)
      refine lv_iload_n hx hb dX5_things_49 rfl (lv_at hl 0 rfl) ?_
      exact md_ri C hr hlk hP hS dX5_things_50 (by rw [sp_things, if_pos c_5, if_pos c_17, hv, rv_cln (by omega)]; exact ⟨rfl, rfl⟩)
    · refine lv_aload_n hx hb dX5_things_20 rfl (lv_at hl 0 rfl) ?_
      refine lv_bipush (v := (-2)) hx hb dX5_things_21 rfl ?_
      refine md_cWe (As := [.int (-2)]) (rest := []) C hP hS (met_bad l dC dI dA n σ ab be (-2)) card_bad rfl rfl ⟨Nat.le_of_ble_eq_true rfl, Nat.le_of_ble_eq_true rfl⟩ hl.1 (Nat.le_of_ble_eq_true rfl) dX5_things_23 (fun H locs hP hS => ?_)
      exact md_ri C hr hlk hP hS dX5_things_26 (by first | (rw [sp_things, if_neg (rv_nf c_5)]; exact ⟨rfl, rfl⟩) | (rw [sp_things, if_pos c_5, if_neg (rv_nf c_17)]; exact ⟨rfl, rfl⟩))
theorem met_showsIn (l : Launch) (dC : Nat → ClassId) (dI : Nat → Nat → Nat) (dA : Nat → ClassId) (n : Nat) (σ : mdT) (ab be : Int64) (v : Nat) (ev : Int32) (hv : v < 6) : Met l yX5_showsIn (ws_ yX5_showsIn cX5_showsIn 3 (some .int)) { frames := 3, cells := 0, slots := 0, locals := 180 } (mdPc dC dI dA n σ ab be [.ref n, .int (nI v), .int ev]) (vp_Si (fun r_ => r_ = (rv_weather (σ 0 (7 + 6 * v)) (σ 0 (7 + 6 * v + 3)) ev))) 0 0 (fun _ => False) := by
  refine md_in (by decide) rfl (Nat.le_of_ble_eq_true rfl) (lv := [(0, .ref n), (1, .int (nI v)), (2, .int ev)]) rfl ?_
  intro p e s m below meth c C hr hlk hP ls hl
  have hx := C.1
  have hb := C.2.1
  have hown := C.2.2.2.1
  have hts := C.2.2.2.2.1
  refine lv_aload_n hx hb dX5_showsIn_0 rfl (lv_at hl 0 rfl) ?_
  refine lv_iload_n hx hb dX5_showsIn_1 rfl (lv_at hl 1 rfl) ?_
  refine lv_iconst (v := nI 0) hx hb dX5_showsIn_2 rfl ?_
  refine md_cSe (As := [.int (nI v), .int (nI 0)]) (rest := []) C hP (met_viewHas l dC dI dA n σ ab be v 0 (by omega) (by omega)) card_viewHas rfl rfl ⟨Nat.le_of_ble_eq_true rfl, Nat.le_of_ble_eq_true rfl⟩ hl.1 (Nat.le_of_ble_eq_true rfl) dX5_showsIn_3 ?_
  refine lv_aload_n hx hb dX5_showsIn_6 rfl (lv_at hl 0 rfl) ?_
  refine lv_iload_n hx hb dX5_showsIn_7 rfl (lv_at hl 1 rfl) ?_
  refine lv_iconst (v := nI 3) hx hb dX5_showsIn_8 rfl ?_
  refine md_cSe (As := [.int (nI v), .int (nI 3)]) (rest := [.int (σ 0 (7 + 6 * v + 0))]) C hP (met_viewHas l dC dI dA n σ ab be v 3 (by omega) (by omega)) card_viewHas rfl rfl ⟨Nat.le_of_ble_eq_true rfl, Nat.le_of_ble_eq_true rfl⟩ hl.1 (Nat.le_of_ble_eq_true rfl) dX5_showsIn_9 ?_
  refine lv_iload_n hx hb dX5_showsIn_12 rfl (lv_at hl 2 rfl) ?_
  refine md_sSe (As := [.int (σ 0 (7 + 6 * v + 0)), .int (σ 0 (7 + 6 * v + 3)), .int ev]) (rest := []) C (met_weatherOf l (σ 0 (7 + 6 * v + 0)) (σ 0 (7 + 6 * v + 3)) ev) card_weatherOf rfl rfl ⟨Nat.le_of_ble_eq_true rfl, Nat.le_of_ble_eq_true rfl⟩ hl.1 (Nat.le_of_ble_eq_true rfl) dX5_showsIn_13 ?_
  exact rv_ri hx hb hr hlk dX5_showsIn_16 rfl
theorem met_fits (l : Launch) (dC : Nat → ClassId) (dI : Nat → Nat → Nat) (dA : Nat → ClassId) (n : Nat) (σ : mdT) (ab be : Int64) (v : Nat) (wl : Int32) (hv : v < 6) : Met l yX5_fits (ws_ yX5_fits cX5_fits 3 (some .boolean)) { frames := 2, cells := 0, slots := 0, locals := 120 } (mdPc dC dI dA n σ ab be [.ref n, .int (nI v), .int wl]) (vp_Si (fun r_ => r_ = (rb_i (rv_fits (σ 0 (7 + 6 * v)) (σ 0 (7 + 6 * v + 1)) wl)))) 0 0 (fun _ => False) := by
  refine md_in (by decide) rfl (Nat.le_of_ble_eq_true rfl) (lv := [(0, .ref n), (1, .int (nI v)), (2, .int wl)]) rfl ?_
  intro p e s m below meth c C hr hlk hP ls hl
  have hx := C.1
  have hb := C.2.1
  have hown := C.2.2.2.1
  have hts := C.2.2.2.2.1
  refine lv_aload_n hx hb dX5_fits_0 rfl (lv_at hl 0 rfl) ?_
  refine lv_iload_n hx hb dX5_fits_1 rfl (lv_at hl 1 rfl) ?_
  refine lv_iconst (v := nI 0) hx hb dX5_fits_2 rfl ?_
  refine md_cSe (As := [.int (nI v), .int (nI 0)]) (rest := []) C hP (met_viewHas l dC dI dA n σ ab be v 0 (by omega) (by omega)) card_viewHas rfl rfl ⟨Nat.le_of_ble_eq_true rfl, Nat.le_of_ble_eq_true rfl⟩ hl.1 (Nat.le_of_ble_eq_true rfl) dX5_fits_3 ?_
  refine lv_iconst (v := nI 4) hx hb dX5_fits_6 rfl ?_
  refine lv_icmp_eq (tgt := 20) hx hb dX5_fits_7 (by decide) (fun (c_7 : σ 0 (7 + 6 * v + 0) = 4) => ?_) (fun (c_7 : ¬ σ 0 (7 + 6 * v + 0) = 4) => ?_)
  · refine lv_iconst (v := nI 1) hx hb dX5_fits_20 rfl ?_
    refine lv_goto (tgt := 25) hx hb dX5_fits_21 (by decide) ?_
    exact rv_rz hx hb hr hlk rfl dX5_fits_25 (by first | exact (rb_is1 (by simp_all [rv_fits])) | exact (rb_is0 (by simp_all [rv_fits])))
  · refine lv_aload_n hx hb dX5_fits_10 rfl (lv_at hl 0 rfl) ?_
    refine lv_iload_n hx hb dX5_fits_11 rfl (lv_at hl 1 rfl) ?_
    refine lv_iconst (v := nI 1) hx hb dX5_fits_12 rfl ?_
    refine md_cSe (As := [.int (nI v), .int (nI 1)]) (rest := []) C hP (met_viewHas l dC dI dA n σ ab be v 1 (by omega) (by omega)) card_viewHas rfl rfl ⟨Nat.le_of_ble_eq_true rfl, Nat.le_of_ble_eq_true rfl⟩ hl.1 (Nat.le_of_ble_eq_true rfl) dX5_fits_13 ?_
    refine lv_iload_n hx hb dX5_fits_16 rfl (lv_at hl 2 rfl) ?_
    refine lv_icmp_gt (tgt := 24) hx hb dX5_fits_17 (by decide) (fun (c_17 : wl < σ 0 (7 + 6 * v + 1)) => ?_) (fun (c_17 : ¬ wl < σ 0 (7 + 6 * v + 1)) => ?_)
    · refine lv_iconst (v := nI 0) hx hb dX5_fits_24 rfl ?_
      exact rv_rz hx hb hr hlk rfl dX5_fits_25 (by first | exact (rb_is1 (by simp_all [rv_fits])) | exact (rb_is0 (by simp_all [rv_fits])))
    · refine lv_iconst (v := nI 1) hx hb dX5_fits_20 rfl ?_
      refine lv_goto (tgt := 25) hx hb dX5_fits_21 (by decide) ?_
      exact rv_rz hx hb hr hlk rfl dX5_fits_25 (by first | exact (rb_is1 (by simp_all [rv_fits])) | exact (rb_is0 (by simp_all [rv_fits])))
def rv_suitM (σ : mdT) (v r : Nat) (ev : Int32) : Bool := rv_fits (σ 0 (7 + 6 * v)) (σ 0 (7 + 6 * v + 1)) (σ 5 r) && (decide (σ 4 v ≤ σ 6 r) && (decide (σ 7 r = 6) || decide (σ 7 r = rv_weather (σ 0 (7 + 6 * v)) (σ 0 (7 + 6 * v + 3)) ev)))
theorem met_doesSuit (l : Launch) (dC : Nat → ClassId) (dI : Nat → Nat → Nat) (dA : Nat → ClassId) (n : Nat) (σ : mdT) (ab be : Int64) (v : Nat) (r : Nat) (ev : Int32) (hv : v < 6) (hr7 : r < 7) : Met l yX5_doesSuit (ws_ yX5_doesSuit cX5_doesSuit 4 (some .boolean)) { frames := 4, cells := 0, slots := 0, locals := 240 } (mdPc dC dI dA n σ ab be [.ref n, .int (nI v), .int (nI r), .int ev]) (vp_Si (fun r_ => r_ = (rb_i (rv_suitM σ v r ev)))) 0 0 (fun _ => False) := by
  refine md_in (by decide) rfl (Nat.le_of_ble_eq_true rfl) (lv := [(0, .ref n), (1, .int (nI v)), (2, .int (nI r)), (3, .int ev)]) rfl ?_
  intro p e s m below meth c C hr hlk hP ls hl
  have hx := C.1
  have hb := C.2.1
  have hown := C.2.2.2.1
  have hts := C.2.2.2.2.1
  refine lv_aload_n hx hb dX5_doesSuit_0 rfl (lv_at hl 0 rfl) ?_
  refine lv_iload_n hx hb dX5_doesSuit_1 rfl (lv_at hl 1 rfl) ?_
  refine lv_aload_n hx hb dX5_doesSuit_2 rfl (lv_at hl 0 rfl) ?_
  refine md_g8 C hP dX5_doesSuit_3 ?_
  refine lv_iload_n hx hb dX5_doesSuit_6 rfl (lv_at hl 2 rfl) ?_
  refine md_l5 C hP (by omega) dX5_doesSuit_7 ?_
  refine md_cSe (As := [.int (nI v), .int (σ 5 r)]) (rest := []) C hP (met_fits l dC dI dA n σ ab be v (σ 5 r) (by omega)) card_fits rfl rfl ⟨Nat.le_of_ble_eq_true rfl, Nat.le_of_ble_eq_true rfl⟩ hl.1 (Nat.le_of_ble_eq_true rfl) dX5_doesSuit_8 ?_
  refine rn_zt (tgt := 59) hx hb dX5_doesSuit_11 (by decide) (fun c_11 => ?_) (fun c_11 => ?_)
  · refine lv_iconst (v := nI 0) hx hb dX5_doesSuit_59 rfl ?_
    exact rv_rz hx hb hr hlk rfl dX5_doesSuit_60 (by first | exact (rb_is1 (by simp_all [rv_suitM])) | exact (rb_is0 (by unfold rv_suitM; rw [decide_eq_false (Int32.not_le.mpr c_26)]; simp)) | exact (rb_is0 (by simp_all [rv_suitM])))
  · refine lv_aload_n hx hb dX5_doesSuit_14 rfl (lv_at hl 0 rfl) ?_
    refine md_g6 C hP dX5_doesSuit_15 ?_
    refine lv_iload_n hx hb dX5_doesSuit_18 rfl (lv_at hl 1 rfl) ?_
    refine md_l4 C hP (by omega) dX5_doesSuit_19 ?_
    refine lv_aload_n hx hb dX5_doesSuit_20 rfl (lv_at hl 0 rfl) ?_
    refine md_g9 C hP dX5_doesSuit_21 ?_
    refine lv_iload_n hx hb dX5_doesSuit_24 rfl (lv_at hl 2 rfl) ?_
    refine md_l6 C hP (by omega) dX5_doesSuit_25 ?_
    refine lv_icmp_gt (tgt := 59) hx hb dX5_doesSuit_26 (by decide) (fun (c_26 : σ 6 r < σ 4 v) => ?_) (fun (c_26 : ¬ σ 6 r < σ 4 v) => ?_)
    · refine lv_iconst (v := nI 0) hx hb dX5_doesSuit_59 rfl ?_
      exact rv_rz hx hb hr hlk rfl dX5_doesSuit_60 (by first | exact (rb_is1 (by simp_all [rv_suitM])) | exact (rb_is0 (by unfold rv_suitM; rw [decide_eq_false (Int32.not_le.mpr c_26)]; simp)) | exact (rb_is0 (by simp_all [rv_suitM])))
    · refine lv_aload_n hx hb dX5_doesSuit_29 rfl (lv_at hl 0 rfl) ?_
      refine md_g10 C hP dX5_doesSuit_30 ?_
      refine lv_iload_n hx hb dX5_doesSuit_33 rfl (lv_at hl 2 rfl) ?_
      refine md_l7 C hP (by omega) dX5_doesSuit_34 ?_
      refine lv_bipush (v := nI 6) hx hb dX5_doesSuit_35 rfl ?_
      refine lv_icmp_eq (tgt := 55) hx hb dX5_doesSuit_37 (by decide) (fun (c_37 : σ 7 r = 6) => ?_) (fun (c_37 : ¬ σ 7 r = 6) => ?_)
      · refine lv_iconst (v := nI 1) hx hb dX5_doesSuit_55 rfl ?_
        refine lv_goto (tgt := 60) hx hb dX5_doesSuit_56 (by decide) ?_
        exact rv_rz hx hb hr hlk rfl dX5_doesSuit_60 (by first | exact (rb_is1 (by simp_all [rv_suitM])) | exact (rb_is0 (by unfold rv_suitM; rw [decide_eq_false (Int32.not_le.mpr c_26)]; simp)) | exact (rb_is0 (by simp_all [rv_suitM])))
      · refine lv_aload_n hx hb dX5_doesSuit_40 rfl (lv_at hl 0 rfl) ?_
        refine md_g10 C hP dX5_doesSuit_41 ?_
        refine lv_iload_n hx hb dX5_doesSuit_44 rfl (lv_at hl 2 rfl) ?_
        refine md_l7 C hP (by omega) dX5_doesSuit_45 ?_
        refine lv_aload_n hx hb dX5_doesSuit_46 rfl (lv_at hl 0 rfl) ?_
        refine lv_iload_n hx hb dX5_doesSuit_47 rfl (lv_at hl 1 rfl) ?_
        refine lv_iload_n hx hb dX5_doesSuit_48 rfl (lv_at hl 3 rfl) ?_
        refine md_cSe (As := [.int (nI v), .int ev]) (rest := [.int (σ 7 r)]) C hP (met_showsIn l dC dI dA n σ ab be v ev (by omega)) card_showsIn rfl rfl ⟨Nat.le_of_ble_eq_true rfl, Nat.le_of_ble_eq_true rfl⟩ hl.1 (Nat.le_of_ble_eq_true rfl) dX5_doesSuit_49 ?_
        refine lv_icmp_ne (tgt := 59) hx hb dX5_doesSuit_52 (by decide) (fun (c_52 : ¬ σ 7 r = rv_weather (σ 0 (7 + 6 * v)) (σ 0 (7 + 6 * v + 3)) ev) => ?_) (fun (c_52 : σ 7 r = rv_weather (σ 0 (7 + 6 * v)) (σ 0 (7 + 6 * v + 3)) ev) => ?_)
        · refine lv_iconst (v := nI 0) hx hb dX5_doesSuit_59 rfl ?_
          exact rv_rz hx hb hr hlk rfl dX5_doesSuit_60 (by first | exact (rb_is1 (by simp_all [rv_suitM])) | exact (rb_is0 (by unfold rv_suitM; rw [decide_eq_false (Int32.not_le.mpr c_26)]; simp)) | exact (rb_is0 (by simp_all [rv_suitM])))
        · refine lv_iconst (v := nI 1) hx hb dX5_doesSuit_55 rfl ?_
          refine lv_goto (tgt := 60) hx hb dX5_doesSuit_56 (by decide) ?_
          exact rv_rz hx hb hr hlk rfl dX5_doesSuit_60 (by first | exact (rb_is1 (by simp_all [rv_suitM])) | exact (rb_is0 (by unfold rv_suitM; rw [decide_eq_false (Int32.not_le.mpr c_26)]; simp)) | exact (rb_is0 (by simp_all [rv_suitM])))
theorem met_viewOf (l : Launch) (dC : Nat → ClassId) (dI : Nat → Nat → Nat) (dA : Nat → ClassId) (n : Nat) (σ : mdT) (ab be : Int64) (r : Int32) (many : Nat) (h0 : σ 0 0 = nI many) (hm : many ≤ 6) : Met l yX5_viewOf (ws_ yX5_viewOf cX5_viewOf 4 (some .int)) { frames := 2, cells := 0, slots := 0, locals := 120 } (mdPc dC dI dA n σ ab be [.ref n, .int r]) (vp_Si (fun r_ => r_ = (rv_vo (fun v => σ 0 (7 + 6 * v + 4)) r many))) 0 0 (fun _ => False) := by
  refine md_in (by decide) rfl (Nat.le_of_ble_eq_true rfl) (lv := [(0, .ref n), (1, .int r)]) rfl ?_
  intro p e s m below meth c C hr hlk hP ls hl
  have hx := C.1
  have hb := C.2.1
  have hown := C.2.2.2.1
  have hts := C.2.2.2.2.1
  have K4 : ∀ (k4_ : Nat) (f : Int32) (i : Nat), many - i = k4_ → (i ≤ many) → (f = rv_vo (fun v => σ 0 (7 + 6 * v + 4)) r i) → ∀ ls, lv_has ls 4 [(0, .ref n), (1, .int r), (2, .int f), (3, .int (nI i))] → W p l e { frames := 2, cells := 0, slots := 0, locals := 120 } s m [.ref n, .int r].toArray below meth c s.heap [] 0 0 (MQ below (vp_Si (fun r_ => r_ = (rv_vo (fun v => σ 0 (7 + 6 * v + 4)) r many))) [.ref n, .int r].toArray s 0 0 (fun _ => False)) (F0 m 4 ls []) := by
    intro k4_
    induction k4_ using Nat.strongRecOn with
    | _ k4_ ih4 =>
      intro f i hm4_ hi hf ls hl
      refine lv_iload_n hx hb dX5_viewOf_4 rfl (lv_at hl 3 rfl) ?_
      refine lv_aload_n hx hb dX5_viewOf_5 rfl (lv_at hl 0 rfl) ?_
      refine md_cSe (As := []) (rest := [.int (nI i)]) C hP (met_views l dC dI dA n σ ab be) card_views rfl rfl ⟨Nat.le_of_ble_eq_true rfl, Nat.le_of_ble_eq_true rfl⟩ hl.1 (Nat.le_of_ble_eq_true rfl) dX5_viewOf_6 ?_
      refine rn_co (y := nI many) h0 ?_
      refine rn_icmp_ge (tgt := 34) hx hb (by omega) (by omega) dX5_viewOf_9 (by decide) (fun c_9 => ?_) (fun c_9 => ?_)
      · refine lv_iload_n hx hb dX5_viewOf_34 rfl (lv_at hl 2 rfl) ?_
        exact rv_ri hx hb hr hlk dX5_viewOf_35 (by rw [hf, show i = many by omega])
      · refine lv_aload_n hx hb dX5_viewOf_12 rfl (lv_at hl 0 rfl) ?_
        refine lv_iload_n hx hb dX5_viewOf_13 rfl (lv_at hl 3 rfl) ?_
        refine lv_iconst (v := nI 4) hx hb dX5_viewOf_14 rfl ?_
        refine md_cSe (As := [.int (nI i), .int (nI 4)]) (rest := []) C hP (met_viewHas l dC dI dA n σ ab be i 4 (by omega) (by omega)) card_viewHas rfl rfl ⟨Nat.le_of_ble_eq_true rfl, Nat.le_of_ble_eq_true rfl⟩ hl.1 (Nat.le_of_ble_eq_true rfl) dX5_viewOf_15 ?_
        refine lv_iload_n hx hb dX5_viewOf_18 rfl (lv_at hl 1 rfl) ?_
        refine lv_icmp_ne (tgt := 26) hx hb dX5_viewOf_19 (by decide) (fun (c_19 : ¬ σ 0 (7 + 6 * i + 4) = r) => ?_) (fun (c_19 : σ 0 (7 + 6 * i + 4) = r) => ?_)
        · refine lv_iload_n hx hb dX5_viewOf_26 rfl (lv_at hl 2 rfl) ?_
          refine lv_istore_n (lv' := [(2, .int f), (0, .ref n), (1, .int r), (3, .int (nI i))]) hx hb dX5_viewOf_27 rfl hl (by decide) rfl (fun ls hl => ?_)
          refine rn_iinc (lv' := [(3, .int (nI (i + 1))), (2, .int f), (0, .ref n), (1, .int r)]) hx hb dX5_viewOf_28 hl (k := 3) rfl (by decide) rfl (fun ls hl => ?_)
          refine lv_goto (tgt := 4) hx hb dX5_viewOf_31 (by decide) ?_
          exact ih4 _ (by omega) f (i + 1) rfl (by omega) (by simp only [rv_vo]; first | rw [if_pos c_19] | rw [if_neg c_19, hf]) ls (lv_sub hl [2, 3, 1, 0] rfl)
        · refine lv_iload_n hx hb dX5_viewOf_22 rfl (lv_at hl 3 rfl) ?_
          refine lv_goto (tgt := 27) hx hb dX5_viewOf_23 (by decide) ?_
          refine lv_istore_n (lv' := [(2, .int (nI i)), (0, .ref n), (1, .int r), (3, .int (nI i))]) hx hb dX5_viewOf_27 rfl hl (by decide) rfl (fun ls hl => ?_)
          refine rn_iinc (lv' := [(3, .int (nI (i + 1))), (2, .int (nI i)), (0, .ref n), (1, .int r)]) hx hb dX5_viewOf_28 hl (k := 3) rfl (by decide) rfl (fun ls hl => ?_)
          refine lv_goto (tgt := 4) hx hb dX5_viewOf_31 (by decide) ?_
          exact ih4 _ (by omega) (nI i) (i + 1) rfl (by omega) (by simp only [rv_vo]; first | rw [if_pos c_19] | rw [if_neg c_19, hf]) ls (lv_sub hl [2, 3, 1, 0] rfl)
  refine lv_iconst (v := (-1)) hx hb dX5_viewOf_0 rfl ?_
  refine lv_istore_n (lv' := [(2, .int (-1)), (0, .ref n), (1, .int r)]) hx hb dX5_viewOf_1 rfl hl (by decide) rfl (fun ls hl => ?_)
  refine lv_iconst (v := nI 0) hx hb dX5_viewOf_2 rfl ?_
  refine lv_istore_n (lv' := [(3, .int (nI 0)), (2, .int (-1)), (0, .ref n), (1, .int r)]) hx hb dX5_viewOf_3 rfl hl (by decide) rfl (fun ls hl => ?_)
  exact K4 _ (-1) 0 rfl (by omega) rfl ls (lv_sub hl [2, 3, 1, 0] rfl)
theorem met_manyLet (l : Launch) (dC : Nat → ClassId) (dI : Nat → Nat → Nat) (dA : Nat → ClassId) (n : Nat) (σ : mdT) (ab be : Int64) (many : Nat) (h0 : σ 0 0 = nI many) (hm : many ≤ 6) : Met l yX5_manyLet (ws_ yX5_manyLet cX5_manyLet 3 (some .int)) { frames := 2, cells := 0, slots := 0, locals := 120 } (mdPc dC dI dA n σ ab be [.ref n]) (vp_Si (fun r_ => r_ = (rv_out (fun v => σ 0 (7 + 6 * v + 4)) many))) 0 0 (fun _ => False) := by
  refine md_in (by decide) rfl (Nat.le_of_ble_eq_true rfl) (lv := [(0, .ref n)]) rfl ?_
  intro p e s m below meth c C hr hlk hP ls hl
  have hx := C.1
  have hb := C.2.1
  have hown := C.2.2.2.1
  have hts := C.2.2.2.2.1
  have K4 : ∀ (k4_ : Nat) (f : Int32) (i : Nat), many - i = k4_ → (i ≤ many) → (f = rv_out (fun v => σ 0 (7 + 6 * v + 4)) i) → ∀ ls, lv_has ls 3 [(0, .ref n), (1, .int f), (2, .int (nI i))] → W p l e { frames := 2, cells := 0, slots := 0, locals := 120 } s m [.ref n].toArray below meth c s.heap [] 0 0 (MQ below (vp_Si (fun r_ => r_ = (rv_out (fun v => σ 0 (7 + 6 * v + 4)) many))) [.ref n].toArray s 0 0 (fun _ => False)) (F0 m 4 ls []) := by
    intro k4_
    induction k4_ using Nat.strongRecOn with
    | _ k4_ ih4 =>
      intro f i hm4_ hi hf ls hl
      refine lv_iload_n hx hb dX5_manyLet_4 rfl (lv_at hl 2 rfl) ?_
      refine lv_aload_n hx hb dX5_manyLet_5 rfl (lv_at hl 0 rfl) ?_
      refine md_cSe (As := []) (rest := [.int (nI i)]) C hP (met_views l dC dI dA n σ ab be) card_views rfl rfl ⟨Nat.le_of_ble_eq_true rfl, Nat.le_of_ble_eq_true rfl⟩ hl.1 (Nat.le_of_ble_eq_true rfl) dX5_manyLet_6 ?_
      refine rn_co (y := nI many) h0 ?_
      refine rn_icmp_ge (tgt := 36) hx hb (by omega) (by omega) dX5_manyLet_9 (by decide) (fun c_9 => ?_) (fun c_9 => ?_)
      · refine lv_iload_n hx hb dX5_manyLet_36 rfl (lv_at hl 1 rfl) ?_
        exact rv_ri hx hb hr hlk dX5_manyLet_37 (by rw [hf, show i = many by omega])
      · refine lv_iload_n hx hb dX5_manyLet_12 rfl (lv_at hl 1 rfl) ?_
        refine lv_aload_n hx hb dX5_manyLet_13 rfl (lv_at hl 0 rfl) ?_
        refine lv_iload_n hx hb dX5_manyLet_14 rfl (lv_at hl 2 rfl) ?_
        refine lv_iconst (v := nI 4) hx hb dX5_manyLet_15 rfl ?_
        refine md_cSe (As := [.int (nI i), .int (nI 4)]) (rest := [.int f]) C hP (met_viewHas l dC dI dA n σ ab be i 4 (by omega) (by omega)) card_viewHas rfl rfl ⟨Nat.le_of_ble_eq_true rfl, Nat.le_of_ble_eq_true rfl⟩ hl.1 (Nat.le_of_ble_eq_true rfl) dX5_manyLet_16 ?_
        refine lv_iconst (v := (-1)) hx hb dX5_manyLet_19 rfl ?_
        refine lv_icmp_ne (tgt := 27) hx hb dX5_manyLet_20 (by decide) (fun (c_20 : ¬ σ 0 (7 + 6 * i + 4) = (-1)) => ?_) (fun (c_20 : σ 0 (7 + 6 * i + 4) = (-1)) => ?_)
        · refine lv_iconst (v := nI 1) hx hb dX5_manyLet_27 rfl ?_
          refine lv_iadd hx hb dX5_manyLet_28 ?_
          refine lv_istore_n (lv' := [(1, .int (f + 1)), (0, .ref n), (2, .int (nI i))]) hx hb dX5_manyLet_29 rfl hl (by decide) rfl (fun ls hl => ?_)
          refine rn_iinc (lv' := [(2, .int (nI (i + 1))), (1, .int (f + 1)), (0, .ref n)]) hx hb dX5_manyLet_30 hl (k := 2) rfl (by decide) rfl (fun ls hl => ?_)
          refine lv_goto (tgt := 4) hx hb dX5_manyLet_33 (by decide) ?_
          exact ih4 _ (by omega) (f + 1) (i + 1) rfl (by omega) (by simp only [rv_out]; first | (rw [if_pos c_20, hf]) | (rw [if_neg c_20, hf])) ls (lv_sub hl [2, 1, 0] rfl)
        · refine lv_iconst (v := nI 0) hx hb dX5_manyLet_23 rfl ?_
          refine lv_goto (tgt := 28) hx hb dX5_manyLet_24 (by decide) ?_
          refine lv_iadd hx hb dX5_manyLet_28 ?_
          refine lv_istore_n (lv' := [(1, .int (f + 0)), (0, .ref n), (2, .int (nI i))]) hx hb dX5_manyLet_29 rfl hl (by decide) rfl (fun ls hl => ?_)
          refine rn_iinc (lv' := [(2, .int (nI (i + 1))), (1, .int (f + 0)), (0, .ref n)]) hx hb dX5_manyLet_30 hl (k := 2) rfl (by decide) rfl (fun ls hl => ?_)
          refine lv_goto (tgt := 4) hx hb dX5_manyLet_33 (by decide) ?_
          exact ih4 _ (by omega) (f + 0) (i + 1) rfl (by omega) (by simp only [rv_out]; first | (rw [if_pos c_20, hf]) | (rw [if_neg c_20, hf])) ls (lv_sub hl [2, 1, 0] rfl)
  refine lv_iconst (v := nI 0) hx hb dX5_manyLet_0 rfl ?_
  refine lv_istore_n (lv' := [(1, .int (nI 0)), (0, .ref n)]) hx hb dX5_manyLet_1 rfl hl (by decide) rfl (fun ls hl => ?_)
  refine lv_iconst (v := nI 0) hx hb dX5_manyLet_2 rfl ?_
  refine lv_istore_n (lv' := [(2, .int (nI 0)), (1, .int (nI 0)), (0, .ref n)]) hx hb dX5_manyLet_3 rfl hl (by decide) rfl (fun ls hl => ?_)
  exact K4 _ (nI 0) 0 rfl (by omega) rfl ls (lv_sub hl [2, 1, 0] rfl)
def sp_counted (σ : mdT) (w : Int32) : Int32 := if w = 4 then rv_out (fun v => σ 0 (7 + 6 * v + 4)) (rv_cl (σ 0 0)) else if w = 5 then σ 0 4 else if w = 6 then σ 0 5 else if w = 7 then σ 0 6 else if w = 8 then σ 15 5 else σ 0 (rv_cl w)
theorem met_counted (l : Launch) (dC : Nat → ClassId) (dI : Nat → Nat → Nat) (dA : Nat → ClassId) (n : Nat) (σ : mdT) (ab be : Int64) (w : Nat) (many : Nat) (h0 : σ 0 0 = nI many) (hm : many ≤ 6) (hw : w ≤ 8) : Met l yX5_counted (ws_ yX5_counted cX5_counted 2 (some .int)) { frames := 3, cells := 0, slots := 0, locals := 180 } (mdPc dC dI dA n σ ab be [.ref n, .int (nI w)]) (vp_Si (fun r_ => r_ = (sp_counted σ (nI w)))) 0 0 (fun _ => False) := by
  refine md_in (by decide) rfl (Nat.le_of_ble_eq_true rfl) (lv := [(0, .ref n), (1, .int (nI w))]) rfl ?_
  intro p e s m below meth c C hr hlk hP ls hl
  have hx := C.1
  have hb := C.2.1
  have hown := C.2.2.2.1
  have hts := C.2.2.2.2.1
  have hwi : (nI w).toInt = (w : Int) := nI_toInt (by omega)
  refine lv_iload_n hx hb dX5_counted_0 rfl (lv_at hl 1 rfl) ?_
  refine rn_switch (x := (nI w)) (lo := 4) (k := 5) (fun j_ hj_ c_1 => ?_) (fun c_1 => ?_)
  · match j_, hj_ with
    | 0, _ =>
      have c_1 : (nI w) = 4 := rn_swe rfl c_1
      refine lv_tableIn (tgt := 36) hx hb dX5_counted_1 (by rw [c_1]; decide) (by rw [c_1]; decide) (off := 35) (by rw [c_1]; rfl) (by decide) ?_
      refine lv_aload_n hx hb dX5_counted_36 rfl (lv_at hl 0 rfl) ?_
      refine md_cSe (As := []) (rest := []) C hP (met_manyLet l dC dI dA n σ ab be many h0 hm) card_manyLet rfl rfl ⟨Nat.le_of_ble_eq_true rfl, Nat.le_of_ble_eq_true rfl⟩ hl.1 (Nat.le_of_ble_eq_true rfl) dX5_counted_37 ?_
      exact rv_ri hx hb hr hlk dX5_counted_40 (by rw [show (nI w) = _ from c_1]; simp [sp_counted, h0, rv_cln (show many < 2 ^ 31 by omega)])
    | 1, _ =>
      have c_1 : (nI w) = 5 := rn_swe rfl c_1
      refine lv_tableIn (tgt := 41) hx hb dX5_counted_1 (by rw [c_1]; decide) (by rw [c_1]; decide) (off := 40) (by rw [c_1]; rfl) (by decide) ?_
      refine lv_aload_n hx hb dX5_counted_41 rfl (lv_at hl 0 rfl) ?_
      refine md_g0 C hP dX5_counted_42 ?_
      refine lv_iconst (v := nI 4) hx hb dX5_counted_45 rfl ?_
      refine md_l0 C hP (by omega) dX5_counted_46 ?_
      exact rv_ri hx hb hr hlk dX5_counted_47 (by rw [show (nI w) = _ from c_1]; simp [sp_counted, h0, rv_cln (show many < 2 ^ 31 by omega)])
    | 2, _ =>
      have c_1 : (nI w) = 6 := rn_swe rfl c_1
      refine lv_tableIn (tgt := 48) hx hb dX5_counted_1 (by rw [c_1]; decide) (by rw [c_1]; decide) (off := 47) (by rw [c_1]; rfl) (by decide) ?_
      refine lv_aload_n hx hb dX5_counted_48 rfl (lv_at hl 0 rfl) ?_
      refine md_g0 C hP dX5_counted_49 ?_
      refine lv_iconst (v := nI 5) hx hb dX5_counted_52 rfl ?_
      refine md_l0 C hP (by omega) dX5_counted_53 ?_
      exact rv_ri hx hb hr hlk dX5_counted_54 (by rw [show (nI w) = _ from c_1]; simp [sp_counted, h0, rv_cln (show many < 2 ^ 31 by omega)])
    | 3, _ =>
      have c_1 : (nI w) = 7 := rn_swe rfl c_1
      refine lv_tableIn (tgt := 55) hx hb dX5_counted_1 (by rw [c_1]; decide) (by rw [c_1]; decide) (off := 54) (by rw [c_1]; rfl) (by decide) ?_
      refine lv_aload_n hx hb dX5_counted_55 rfl (lv_at hl 0 rfl) ?_
      refine md_g0 C hP dX5_counted_56 ?_
      refine lv_bipush (v := nI 6) hx hb dX5_counted_59 rfl ?_
      refine md_l0 C hP (by omega) dX5_counted_61 ?_
      exact rv_ri hx hb hr hlk dX5_counted_62 (by rw [show (nI w) = _ from c_1]; simp [sp_counted, h0, rv_cln (show many < 2 ^ 31 by omega)])
    | 4, _ =>
      have c_1 : (nI w) = 8 := rn_swe rfl c_1
      refine lv_tableIn (tgt := 63) hx hb dX5_counted_1 (by rw [c_1]; decide) (by rw [c_1]; decide) (off := 62) (by rw [c_1]; rfl) (by decide) ?_
      refine lv_aload_n hx hb dX5_counted_63 rfl (lv_at hl 0 rfl) ?_
      refine md_g20 C hP dX5_counted_64 ?_
      exact rv_ri hx hb hr hlk dX5_counted_67 (by rw [show (nI w) = _ from c_1]; simp [sp_counted, h0, rv_cln (show many < 2 ^ 31 by omega)])
    | (_ + 5), hj_ => exact absurd hj_ (by omega)
  · refine lv_tableOut (tgt := 68) hx hb dX5_counted_1 (by omega) (by decide) ?_
    refine lv_aload_n hx hb dX5_counted_68 rfl (lv_at hl 0 rfl) ?_
    refine md_g0 C hP dX5_counted_69 ?_
    refine lv_iload_n hx hb dX5_counted_72 rfl (lv_at hl 1 rfl) ?_
    refine md_l0 C hP (by omega) dX5_counted_73 ?_
    exact rv_ri hx hb hr hlk dX5_counted_74 (by have h4 : ∀ k : Nat, 4 ≤ k → k < 9 → nI w ≠ nI k := (fun k h1 h2 z => by have := (nI_eq (by omega) (by omega)).mp z; rw [hwi] at c_1; omega); unfold sp_counted; rw [if_neg (show ¬ nI w = 4 from h4 4 (by omega) (by omega)), if_neg (show ¬ nI w = 5 from h4 5 (by omega) (by omega)), if_neg (show ¬ nI w = 6 from h4 6 (by omega) (by omega)), if_neg (show ¬ nI w = 7 from h4 7 (by omega) (by omega)), if_neg (show ¬ nI w = 8 from h4 8 (by omega) (by omega)), rv_cln (by omega)])
def sp_count (σ : mdT) (w : Int32) : Int32 × mdT := if rv_inI w 0 8 = true then (sp_counted σ w, σ) else sBad (-2) σ
def sp_status (σ : mdT) (w : Int32) : Int32 × mdT := if rv_inI w 0 2 = true then (σ 3 (rv_cl w), σ) else sBad (-1) σ
def sp_type (σ : mdT) (c : Int32) : Int32 × mdT := if rv_inI c 0 127 = true then (if σ 15 5 = 150 then sFull σ else (σ 15 5 + 1, mdS (mdS σ 12 (rv_cl (σ 15 5)) c) 15 5 (σ 15 5 + 1))) else sBad (-2) σ
def sp_clear (σ : mdT) : Int32 × mdT := (σ 15 5, mdS σ 15 5 0)
def sp_forget (σ : mdT) : Int32 × mdT := (σ 0 5, mdS σ 0 5 0)
def sp_reading (σ : mdT) (v ev we : Int32) : Int32 × mdT :=
  if rv_isV σ v = true then (if rv_in ev 0 99 = true then (if rv_in we 0 5 = true then (if σ 0 5 = 6 then sFull σ else (σ 0 5 + 1, mdS (mdS (mdS (mdS σ 0 (97 + 3 * rv_cl (σ 0 5)) v) 0 (97 + 3 * rv_cl (σ 0 5) + 1) ev) 0 (97 + 3 * rv_cl (σ 0 5) + 2) we) 0 5 (σ 0 5 + 1))) else sBad (-2) σ) else sBad (-2) σ) else sBad (-2) σ
def sp_shows (σ : mdT) (v ev : Int32) : Int32 × mdT := if rv_isV σ v = true then (if rv_in ev 0 99 = true then (rv_weather (σ 0 (7 + 6 * rv_cl v)) (σ 0 (7 + 6 * rv_cl v + 3)) ev, σ) else sBad (-2) σ) else sBad (-2) σ
def sp_about (σ : mdT) (r w : Int32) : Int32 × mdT := if rv_isR σ r = true then (if rv_inI w 0 3 = true then ((if w = 3 then rv_vo (fun v => σ 0 (7 + 6 * v + 4)) r (rv_cl (σ 0 0)) else σ 0 (43 + 3 * rv_cl r + rv_cl w)), σ) else sBad (-10) σ) else sBad (-10) σ
def sp_of (σ : mdT) (v w : Int32) : Int32 × mdT := if rv_isV σ v = true then (if rv_inI w 0 7 = true then ((if w = 4 then rv_weather (σ 0 (7 + 6 * rv_cl v)) (σ 0 (7 + 6 * rv_cl v + 3)) (σ 0 2) else if w = 5 then rv_cost (σ 0 (7 + 6 * rv_cl v)) (σ 0 (7 + 6 * rv_cl v + 2)) else if w = 6 then σ 0 (7 + 6 * rv_cl v + 4) else if w = 7 then σ 0 (7 + 6 * rv_cl v + 5) else σ 0 (7 + 6 * rv_cl v + rv_cl w)), σ) else sBad (-10) σ) else sBad (-10) σ
theorem met_count (l : Launch) (dC : Nat → ClassId) (dI : Nat → Nat → Nat) (dA : Nat → ClassId) (n : Nat) (σ : mdT) (ab be : Int64) (w : Int32) (many : Nat) (h0 : σ 0 0 = nI many) (hm : many ≤ 6) : Met l yX5_count (ws_ yX5_count cX5_count 2 (some .int)) { frames := 4, cells := 0, slots := 0, locals := 240 } (mdPc dC dI dA n σ ab be [.ref n, .int w]) (va_Qi (fun r_ u => r_ = (sp_count σ w).1 ∧ u = (sp_count σ w).2) (mdB dC dI dA n ab be) (mdA n)) 0 0 (mdA n) := by
  refine md_in (by decide) rfl (Nat.le_of_ble_eq_true rfl) (lv := [(0, .ref n), (1, .int w)]) rfl ?_
  intro p e s m below meth c C hr hlk hP ls hl
  have hx := C.1
  have hb := C.2.1
  have hown := C.2.2.2.1
  have hts := C.2.2.2.2.1
  have hS : va_S (mdA n) s.heap s.heap [] := va_S.rf
  refine lv_iload_n hx hb dX5_count_0 rfl (lv_at hl 1 rfl) ?_
  refine lv_i2l hx hb dX5_count_1 rfl ?_
  refine lv_lconst (v := 0) hx hb dX5_count_2 rfl ?_
  refine lv_ldc2 (v := 8) hx hb hown (hts _ q1314) dX5_count_3 ?_
  refine md_sSe (As := [.long (Int32.toInt64 w), .long 0, .long 8]) (rest := []) C (met_in l (Int32.toInt64 w) 0 8) card_in rfl rfl ⟨Nat.le_of_ble_eq_true rfl, Nat.le_of_ble_eq_true rfl⟩ hl.1 (Nat.le_of_ble_eq_true rfl) dX5_count_6 ?_
  refine rn_zt (tgt := 20) hx hb dX5_count_9 (by decide) (fun c_9 => ?_) (fun c_9 => ?_)
  · refine lv_aload_n hx hb dX5_count_20 rfl (lv_at hl 0 rfl) ?_
    refine lv_bipush (v := (-2)) hx hb dX5_count_21 rfl ?_
    refine md_cWe (As := [.int (-2)]) (rest := []) C hP hS (met_bad l dC dI dA n σ ab be (-2)) card_bad rfl rfl ⟨Nat.le_of_ble_eq_true rfl, Nat.le_of_ble_eq_true rfl⟩ hl.1 (Nat.le_of_ble_eq_true rfl) dX5_count_23 (fun H locs hP hS => ?_)
    exact md_ri C hr hlk hP hS dX5_count_26 (by first | (rw [sp_count, if_neg (rv_nf c_9)]; exact ⟨rfl, rfl⟩) | (rw [sp_count, if_pos c_9, hw]; exact ⟨rfl, rfl⟩))
  · obtain ⟨j, hj, hw⟩ := rv_inIx (v := w) 8 rfl (by omega) c_9
    refine lv_aload_n hx hb dX5_count_12 rfl (lv_at hl 0 rfl) ?_
    refine lv_iload_n hx hb dX5_count_13 rfl (lv_at hl 1 rfl) ?_
    refine rn_co (y := nI j) hw ?_
    refine md_cSe (As := [.int (nI j)]) (rest := []) C hP (met_counted l dC dI dA n σ ab be j many h0 hm (by omega)) card_counted rfl rfl ⟨Nat.le_of_ble_eq_true rfl, Nat.le_of_ble_eq_true rfl⟩ hl.1 (Nat.le_of_ble_eq_true rfl) dX5_count_14 ?_
    refine lv_goto (tgt := 26) hx hb dX5_count_17 (by decide) ?_
    exact md_ri C hr hlk hP hS dX5_count_26 (by first | (rw [sp_count, if_neg (rv_nf c_9)]; exact ⟨rfl, rfl⟩) | (rw [sp_count, if_pos c_9, hw]; exact ⟨rfl, rfl⟩))
theorem met_status (l : Launch) (dC : Nat → ClassId) (dI : Nat → Nat → Nat) (dA : Nat → ClassId) (n : Nat) (σ : mdT) (ab be : Int64) (w : Int32) : Met l yX5_status (ws_ yX5_status cX5_status 2 (some .int)) { frames := 2, cells := 0, slots := 0, locals := 120 } (mdPc dC dI dA n σ ab be [.ref n, .int w]) (va_Qi (fun r_ u => r_ = (sp_status σ w).1 ∧ u = (sp_status σ w).2) (mdB dC dI dA n ab be) (mdA n)) 0 0 (mdA n) := by
  refine md_in (by decide) rfl (Nat.le_of_ble_eq_true rfl) (lv := [(0, .ref n), (1, .int w)]) rfl ?_
  intro p e s m below meth c C hr hlk hP ls hl
  have hx := C.1
  have hb := C.2.1
  have hown := C.2.2.2.1
  have hts := C.2.2.2.2.1
  have hS : va_S (mdA n) s.heap s.heap [] := va_S.rf
  refine lv_iload_n hx hb dX5_status_0 rfl (lv_at hl 1 rfl) ?_
  refine lv_i2l hx hb dX5_status_1 rfl ?_
  refine lv_lconst (v := 0) hx hb dX5_status_2 rfl ?_
  refine lv_ldc2 (v := 2) hx hb hown (hts _ q1161) dX5_status_3 ?_
  refine md_sSe (As := [.long (Int32.toInt64 w), .long 0, .long 2]) (rest := []) C (met_in l (Int32.toInt64 w) 0 2) card_in rfl rfl ⟨Nat.le_of_ble_eq_true rfl, Nat.le_of_ble_eq_true rfl⟩ hl.1 (Nat.le_of_ble_eq_true rfl) dX5_status_6 ?_
  refine rn_zt (tgt := 21) hx hb dX5_status_9 (by decide) (fun c_9 => ?_) (fun c_9 => ?_)
  · refine lv_aload_n hx hb dX5_status_21 rfl (lv_at hl 0 rfl) ?_
    refine lv_iconst (v := (-1)) hx hb dX5_status_22 rfl ?_
    refine md_cWe (As := [.int (-1)]) (rest := []) C hP hS (met_bad l dC dI dA n σ ab be (-1)) card_bad rfl rfl ⟨Nat.le_of_ble_eq_true rfl, Nat.le_of_ble_eq_true rfl⟩ hl.1 (Nat.le_of_ble_eq_true rfl) dX5_status_23 (fun H locs hP hS => ?_)
    exact md_ri C hr hlk hP hS dX5_status_26 (by first | (rw [sp_status, if_neg (rv_nf c_9)]; exact ⟨rfl, rfl⟩) | (rw [sp_status, if_pos c_9, hw, rv_cln (by omega)]; exact ⟨rfl, rfl⟩))
  · obtain ⟨j, hj, hw⟩ := rv_inIx (v := w) 2 rfl (by omega) c_9
    refine lv_aload_n hx hb dX5_status_12 rfl (lv_at hl 0 rfl) ?_
    refine md_g3 C hP dX5_status_13 ?_
    refine lv_iload_n hx hb dX5_status_16 rfl (lv_at hl 1 rfl) ?_
    refine rn_co (y := nI j) hw ?_
    refine md_l3 C hP (by omega) dX5_status_17 ?_
    refine lv_goto (tgt := 26) hx hb dX5_status_18 (by decide) ?_
    exact md_ri C hr hlk hP hS dX5_status_26 (by first | (rw [sp_status, if_neg (rv_nf c_9)]; exact ⟨rfl, rfl⟩) | (rw [sp_status, if_pos c_9, hw, rv_cln (by omega)]; exact ⟨rfl, rfl⟩))
theorem met_type (l : Launch) (dC : Nat → ClassId) (dI : Nat → Nat → Nat) (dA : Nat → ClassId) (n : Nat) (σ : mdT) (ab be : Int64) (cc_ : Int32) (ty : Nat) (ht : σ 15 5 = nI ty) (ht6 : ty ≤ 150) : Met l yX5_type (ws_ yX5_type cX5_type 2 (some .int)) { frames := 2, cells := 0, slots := 0, locals := 120 } (mdPc dC dI dA n σ ab be [.ref n, .int cc_]) (va_Qi (fun r_ u => r_ = (sp_type σ cc_).1 ∧ u = (sp_type σ cc_).2) (mdB dC dI dA n ab be) (mdA n)) 0 0 (mdA n) := by
  refine md_in (by decide) rfl (Nat.le_of_ble_eq_true rfl) (lv := [(0, .ref n), (1, .int cc_)]) rfl ?_
  intro p e s m below meth c C hr hlk hP ls hl
  have hx := C.1
  have hb := C.2.1
  have hown := C.2.2.2.1
  have hts := C.2.2.2.2.1
  have hS : va_S (mdA n) s.heap s.heap [] := va_S.rf
  refine lv_iload_n hx hb dX5_type_0 rfl (lv_at hl 1 rfl) ?_
  refine lv_i2l hx hb dX5_type_1 rfl ?_
  refine lv_lconst (v := 0) hx hb dX5_type_2 rfl ?_
  refine lv_ldc2 (v := 127) hx hb hown (hts _ q1243) dX5_type_3 ?_
  refine md_sSe (As := [.long (Int32.toInt64 cc_), .long 0, .long 127]) (rest := []) C (met_in l (Int32.toInt64 cc_) 0 127) card_in rfl rfl ⟨Nat.le_of_ble_eq_true rfl, Nat.le_of_ble_eq_true rfl⟩ hl.1 (Nat.le_of_ble_eq_true rfl) dX5_type_6 ?_
  refine rn_zf (tgt := 19) hx hb dX5_type_9 (by decide) (fun c_9 => ?_) (fun c_9 => ?_)
  · refine lv_aload_n hx hb dX5_type_19 rfl (lv_at hl 0 rfl) ?_
    refine md_g20 C hP dX5_type_20 ?_
    refine rn_co (y := nI ty) ht ?_
    refine lv_sipush (v := nI 150) hx hb dX5_type_23 rfl ?_
    refine rn_icmp_ne (tgt := 34) hx hb (by omega) (by omega) dX5_type_26 (by decide) (fun c_26 => ?_) (fun c_26 => ?_)
    · refine lv_aload_n hx hb dX5_type_34 rfl (lv_at hl 0 rfl) ?_
      refine md_g19 C hP dX5_type_35 ?_
      refine lv_aload_n hx hb dX5_type_38 rfl (lv_at hl 0 rfl) ?_
      refine md_g20 C hP dX5_type_39 ?_
      refine rn_co (y := nI ty) ht ?_
      refine lv_iload_n hx hb dX5_type_42 rfl (lv_at hl 1 rfl) ?_
      refine md_s12 C hP hS (by omega) dX5_type_43 (fun H locs hP hS => ?_)
      refine lv_aload_n hx hb dX5_type_44 rfl (lv_at hl 0 rfl) ?_
      refine lv_dup hx hb dX5_type_45 rfl ?_
      refine md_g20 C hP dX5_type_46 ?_
      refine rn_co (y := nI ty) ht ?_
      refine lv_iconst (v := nI 1) hx hb dX5_type_49 rfl ?_
      refine rn_iadd hx hb dX5_type_50 ?_
      refine md_p20 C hP hS dX5_type_51 (fun H locs hP hS => ?_)
      refine lv_aload_n hx hb dX5_type_54 rfl (lv_at hl 0 rfl) ?_
      refine md_g20 C hP dX5_type_55 ?_
      exact md_ri C hr hlk hP hS dX5_type_58 (by rw [sp_type, if_pos c_9, if_neg (by rw [ht]; exact fun z => c_26 ((nI_eq (by omega) (by omega)).mp (z.trans (show (150 : Int32) = nI 150 from rfl)))), ht, rv_cln (by omega), ← nI_1]; exact ⟨rfl, rfl⟩)
    · refine lv_aload_n hx hb dX5_type_29 rfl (lv_at hl 0 rfl) ?_
      refine md_cWe (As := []) (rest := []) C hP hS (met_full l dC dI dA n σ ab be) card_full rfl rfl ⟨Nat.le_of_ble_eq_true rfl, Nat.le_of_ble_eq_true rfl⟩ hl.1 (Nat.le_of_ble_eq_true rfl) dX5_type_30 (fun H locs hP hS => ?_)
      exact md_ri C hr hlk hP hS dX5_type_33 (by first | (rw [sp_type, if_pos c_9, if_pos (by rw [ht, c_26]; rfl)]; exact ⟨rfl, rfl⟩))
  · refine lv_aload_n hx hb dX5_type_12 rfl (lv_at hl 0 rfl) ?_
    refine lv_bipush (v := (-2)) hx hb dX5_type_13 rfl ?_
    refine md_cWe (As := [.int (-2)]) (rest := []) C hP hS (met_bad l dC dI dA n σ ab be (-2)) card_bad rfl rfl ⟨Nat.le_of_ble_eq_true rfl, Nat.le_of_ble_eq_true rfl⟩ hl.1 (Nat.le_of_ble_eq_true rfl) dX5_type_15 (fun H locs hP hS => ?_)
    exact md_ri C hr hlk hP hS dX5_type_18 (by first | (rw [sp_type, if_neg (rv_nf c_9)]; exact ⟨rfl, rfl⟩))
theorem met_clear (l : Launch) (dC : Nat → ClassId) (dI : Nat → Nat → Nat) (dA : Nat → ClassId) (n : Nat) (σ : mdT) (ab be : Int64) : Met l yX5_clear (ws_ yX5_clear cX5_clear 2 (some .int)) { frames := 1, cells := 0, slots := 0, locals := 60 } (mdPc dC dI dA n σ ab be [.ref n]) (va_Qi (fun r_ u => r_ = (sp_clear σ ).1 ∧ u = (sp_clear σ ).2) (mdB dC dI dA n ab be) (mdA n)) 0 0 (mdA n) := by
  refine md_in (by decide) rfl (Nat.le_of_ble_eq_true rfl) (lv := [(0, .ref n)]) rfl ?_
  intro p e s m below meth c C hr hlk hP ls hl
  have hx := C.1
  have hb := C.2.1
  have hown := C.2.2.2.1
  have hts := C.2.2.2.2.1
  have hS : va_S (mdA n) s.heap s.heap [] := va_S.rf
  refine lv_aload_n hx hb dX5_clear_0 rfl (lv_at hl 0 rfl) ?_
  refine md_g20 C hP dX5_clear_1 ?_
  refine lv_istore_n (lv' := [(1, .int (σ 15 5)), (0, .ref n)]) hx hb dX5_clear_4 rfl hl (by decide) rfl (fun ls hl => ?_)
  refine lv_aload_n hx hb dX5_clear_5 rfl (lv_at hl 1 rfl) ?_
  refine lv_iconst (v := nI 0) hx hb dX5_clear_6 rfl ?_
  refine md_p20 C hP hS dX5_clear_7 (fun H locs hP hS => ?_)
  refine lv_iload_n hx hb dX5_clear_10 rfl (lv_at hl 0 rfl) ?_
  exact md_ri C hr hlk hP hS dX5_clear_11 ⟨rfl, rfl⟩
theorem met_forget (l : Launch) (dC : Nat → ClassId) (dI : Nat → Nat → Nat) (dA : Nat → ClassId) (n : Nat) (σ : mdT) (ab be : Int64) : Met l yX5_forget (ws_ yX5_forget cX5_forget 2 (some .int)) { frames := 1, cells := 0, slots := 0, locals := 60 } (mdPc dC dI dA n σ ab be [.ref n]) (va_Qi (fun r_ u => r_ = (sp_forget σ ).1 ∧ u = (sp_forget σ ).2) (mdB dC dI dA n ab be) (mdA n)) 0 0 (mdA n) := by
  refine md_in (by decide) rfl (Nat.le_of_ble_eq_true rfl) (lv := [(0, .ref n)]) rfl ?_
  intro p e s m below meth c C hr hlk hP ls hl
  have hx := C.1
  have hb := C.2.1
  have hown := C.2.2.2.1
  have hts := C.2.2.2.2.1
  have hS : va_S (mdA n) s.heap s.heap [] := va_S.rf
  refine lv_aload_n hx hb dX5_forget_0 rfl (lv_at hl 0 rfl) ?_
  refine md_g0 C hP dX5_forget_1 ?_
  refine lv_iconst (v := nI 5) hx hb dX5_forget_4 rfl ?_
  refine md_l0 C hP (by omega) dX5_forget_5 ?_
  refine lv_istore_n (lv' := [(1, .int (σ 0 5)), (0, .ref n)]) hx hb dX5_forget_6 rfl hl (by decide) rfl (fun ls hl => ?_)
  refine lv_aload_n hx hb dX5_forget_7 rfl (lv_at hl 1 rfl) ?_
  refine md_g0 C hP dX5_forget_8 ?_
  refine lv_iconst (v := nI 5) hx hb dX5_forget_11 rfl ?_
  refine lv_iconst (v := nI 0) hx hb dX5_forget_12 rfl ?_
  refine md_s0 C hP hS (by omega) dX5_forget_13 (fun H locs hP hS => ?_)
  refine lv_iload_n hx hb dX5_forget_14 rfl (lv_at hl 0 rfl) ?_
  exact md_ri C hr hlk hP hS dX5_forget_15 ⟨rfl, rfl⟩
theorem met_reading (l : Launch) (dC : Nat → ClassId) (dI : Nat → Nat → Nat) (dA : Nat → ClassId) (n : Nat) (σ : mdT) (ab be : Int64) (v : Int32) (ev : Int32) (we : Int32) (rd : Nat) (h5 : σ 0 5 = nI rd) (hd6 : rd ≤ 6) : Met l yX5_reading (ws_ yX5_reading cX5_reading 5 (some .int)) { frames := 3, cells := 0, slots := 0, locals := 180 } (mdPc dC dI dA n σ ab be [.ref n, .int v, .int ev, .int we]) (va_Qi (fun r_ u => r_ = (sp_reading σ v ev we).1 ∧ u = (sp_reading σ v ev we).2) (mdB dC dI dA n ab be) (mdA n)) 0 0 (mdA n) := by
  refine md_in (by decide) rfl (Nat.le_of_ble_eq_true rfl) (lv := [(0, .ref n), (1, .int v), (2, .int ev), (3, .int we)]) rfl ?_
  intro p e s m below meth c C hr hlk hP ls hl
  have hx := C.1
  have hb := C.2.1
  have hown := C.2.2.2.1
  have hts := C.2.2.2.2.1
  have hS : va_S (mdA n) s.heap s.heap [] := va_S.rf
  refine lv_aload_n hx hb dX5_reading_0 rfl (lv_at hl 0 rfl) ?_
  refine lv_iload_n hx hb dX5_reading_1 rfl (lv_at hl 1 rfl) ?_
  refine md_cSe (As := [.int v]) (rest := []) C hP (met_isView l dC dI dA n σ ab be v) card_isView rfl rfl ⟨Nat.le_of_ble_eq_true rfl, Nat.le_of_ble_eq_true rfl⟩ hl.1 (Nat.le_of_ble_eq_true rfl) dX5_reading_2 ?_
  refine rn_zt (tgt := 22) hx hb dX5_reading_5 (by decide) (fun c_5 => ?_) (fun c_5 => ?_)
  · refine lv_aload_n hx hb dX5_reading_22 rfl (lv_at hl 0 rfl) ?_
    refine lv_bipush (v := (-2)) hx hb dX5_reading_23 rfl ?_
    refine md_cWe (As := [.int (-2)]) (rest := []) C hP hS (met_bad l dC dI dA n σ ab be (-2)) card_bad rfl rfl ⟨Nat.le_of_ble_eq_true rfl, Nat.le_of_ble_eq_true rfl⟩ hl.1 (Nat.le_of_ble_eq_true rfl) dX5_reading_25 (fun H locs hP hS => ?_)
    exact md_ri C hr hlk hP hS dX5_reading_28 (by first | (rw [sp_reading, if_neg (rv_nf c_5)]; exact ⟨rfl, rfl⟩) | (rw [sp_reading, if_pos c_5, if_neg (rv_nf c_12)]; exact ⟨rfl, rfl⟩) | (rw [sp_reading, if_pos c_5, if_pos c_12, if_neg (rv_nf c_19)]; exact ⟨rfl, rfl⟩))
  · refine lv_iload_n hx hb dX5_reading_8 rfl (lv_at hl 2 rfl) ?_
    refine md_sSe (As := [.int ev]) (rest := []) C (met_isEvening l ev) card_isEvening rfl rfl ⟨Nat.le_of_ble_eq_true rfl, Nat.le_of_ble_eq_true rfl⟩ hl.1 (Nat.le_of_ble_eq_true rfl) dX5_reading_9 ?_
    refine rn_zt (tgt := 22) hx hb dX5_reading_12 (by decide) (fun c_12 => ?_) (fun c_12 => ?_)
    · refine lv_aload_n hx hb dX5_reading_22 rfl (lv_at hl 0 rfl) ?_
      refine lv_bipush (v := (-2)) hx hb dX5_reading_23 rfl ?_
      refine md_cWe (As := [.int (-2)]) (rest := []) C hP hS (met_bad l dC dI dA n σ ab be (-2)) card_bad rfl rfl ⟨Nat.le_of_ble_eq_true rfl, Nat.le_of_ble_eq_true rfl⟩ hl.1 (Nat.le_of_ble_eq_true rfl) dX5_reading_25 (fun H locs hP hS => ?_)
      exact md_ri C hr hlk hP hS dX5_reading_28 (by first | (rw [sp_reading, if_neg (rv_nf c_5)]; exact ⟨rfl, rfl⟩) | (rw [sp_reading, if_pos c_5, if_neg (rv_nf c_12)]; exact ⟨rfl, rfl⟩) | (rw [sp_reading, if_pos c_5, if_pos c_12, if_neg (rv_nf c_19)]; exact ⟨rfl, rfl⟩))
    · refine lv_iload_n hx hb dX5_reading_15 rfl (lv_at hl 3 rfl) ?_
      refine md_sSe (As := [.int we]) (rest := []) C (met_isWeather l we) card_isWeather rfl rfl ⟨Nat.le_of_ble_eq_true rfl, Nat.le_of_ble_eq_true rfl⟩ hl.1 (Nat.le_of_ble_eq_true rfl) dX5_reading_16 ?_
      refine rn_zf (tgt := 29) hx hb dX5_reading_19 (by decide) (fun c_19 => ?_) (fun c_19 => ?_)
      · refine lv_aload_n hx hb dX5_reading_29 rfl (lv_at hl 0 rfl) ?_
        refine md_g0 C hP dX5_reading_30 ?_
        refine lv_iconst (v := nI 5) hx hb dX5_reading_33 rfl ?_
        refine md_l0 C hP (by omega) dX5_reading_34 ?_
        refine rn_co (y := nI rd) h5 ?_
        refine lv_bipush (v := nI 6) hx hb dX5_reading_35 rfl ?_
        refine rn_icmp_ne (tgt := 45) hx hb (by omega) (by omega) dX5_reading_37 (by decide) (fun c_37 => ?_) (fun c_37 => ?_)
        · refine lv_bipush (v := nI 97) hx hb dX5_reading_45 rfl ?_
          refine lv_iconst (v := nI 3) hx hb dX5_reading_47 rfl ?_
          refine lv_aload_n hx hb dX5_reading_48 rfl (lv_at hl 0 rfl) ?_
          refine md_g0 C hP dX5_reading_49 ?_
          refine lv_iconst (v := nI 5) hx hb dX5_reading_52 rfl ?_
          refine md_l0 C hP (by omega) dX5_reading_53 ?_
          refine rn_co (y := nI rd) h5 ?_
          refine rn_imul hx hb dX5_reading_54 ?_
          refine rn_iadd hx hb dX5_reading_55 ?_
          refine lv_istore (lv' := [(4, .int (nI (97 + (3 * rd)))), (0, .ref n), (1, .int v), (2, .int ev), (3, .int we)]) hx hb dX5_reading_56 hl (by decide) rfl (fun ls hl => ?_)
          refine lv_aload_n hx hb dX5_reading_58 rfl (lv_at hl 1 rfl) ?_
          refine md_g0 C hP dX5_reading_59 ?_
          refine lv_iload hx hb dX5_reading_62 (lv_at hl 0 rfl) ?_
          refine lv_iload_n hx hb dX5_reading_64 rfl (lv_at hl 2 rfl) ?_
          refine md_s0 C hP hS (by omega) dX5_reading_65 (fun H locs hP hS => ?_)
          refine lv_aload_n hx hb dX5_reading_66 rfl (lv_at hl 1 rfl) ?_
          refine md_g0 C hP dX5_reading_67 ?_
          refine lv_iload hx hb dX5_reading_70 (lv_at hl 0 rfl) ?_
          refine lv_iconst (v := nI 1) hx hb dX5_reading_72 rfl ?_
          refine rn_iadd hx hb dX5_reading_73 ?_
          refine lv_iload_n hx hb dX5_reading_74 rfl (lv_at hl 3 rfl) ?_
          refine md_s0 C hP hS (by omega) dX5_reading_75 (fun H locs hP hS => ?_)
          refine lv_aload_n hx hb dX5_reading_76 rfl (lv_at hl 1 rfl) ?_
          refine md_g0 C hP dX5_reading_77 ?_
          refine lv_iload hx hb dX5_reading_80 (lv_at hl 0 rfl) ?_
          refine lv_iconst (v := nI 2) hx hb dX5_reading_82 rfl ?_
          refine rn_iadd hx hb dX5_reading_83 ?_
          refine lv_iload_n hx hb dX5_reading_84 rfl (lv_at hl 4 rfl) ?_
          refine md_s0 C hP hS (by omega) dX5_reading_85 (fun H locs hP hS => ?_)
          refine lv_aload_n hx hb dX5_reading_86 rfl (lv_at hl 1 rfl) ?_
          refine md_g0 C hP dX5_reading_87 ?_
          refine lv_iconst (v := nI 5) hx hb dX5_reading_90 rfl ?_
          refine lv_dup2_11 hx hb dX5_reading_91 rfl rfl ?_
          refine md_l0 C hP (by omega) dX5_reading_92 ?_
          refine lv_iconst (v := nI 1) hx hb dX5_reading_93 rfl ?_
          refine lv_iadd hx hb dX5_reading_94 ?_
          refine md_s0 C hP hS (by omega) dX5_reading_95 (fun H locs hP hS => ?_)
          refine lv_aload_n hx hb dX5_reading_96 rfl (lv_at hl 1 rfl) ?_
          refine md_g0 C hP dX5_reading_97 ?_
          refine lv_iconst (v := nI 5) hx hb dX5_reading_100 rfl ?_
          refine md_l0 C hP (by omega) dX5_reading_101 ?_
          exact md_ri C hr hlk hP hS dX5_reading_102 (by rw [sp_reading, if_pos c_5, if_pos c_12, if_pos c_19, if_neg (by rw [h5]; exact fun z => c_37 ((nI_eq (by omega) (by omega)).mp (z.trans (show (6 : Int32) = nI 6 from rfl)))), h5, rv_cln (by omega)]; have e : (mdS (mdS (mdS σ 0 (97 + 3 * rd) v) 0 (97 + 3 * rd + 1) ev) 0 (97 + 3 * rd + 2) we) 0 5 = nI rd := (by rw [← h5, mdS_ne (by omega), mdS_ne (by omega), mdS_ne (by omega)]); exact ⟨by rw [mdS_eq, e]; rfl, by rw [e]; rfl⟩)
        · refine lv_aload_n hx hb dX5_reading_40 rfl (lv_at hl 0 rfl) ?_
          refine md_cWe (As := []) (rest := []) C hP hS (met_full l dC dI dA n σ ab be) card_full rfl rfl ⟨Nat.le_of_ble_eq_true rfl, Nat.le_of_ble_eq_true rfl⟩ hl.1 (Nat.le_of_ble_eq_true rfl) dX5_reading_41 (fun H locs hP hS => ?_)
          exact md_ri C hr hlk hP hS dX5_reading_44 (by first | (rw [sp_reading, if_pos c_5, if_pos c_12, if_pos c_19, if_pos (by rw [h5, c_37]; rfl)]; exact ⟨rfl, rfl⟩))
      · refine lv_aload_n hx hb dX5_reading_22 rfl (lv_at hl 0 rfl) ?_
        refine lv_bipush (v := (-2)) hx hb dX5_reading_23 rfl ?_
        refine md_cWe (As := [.int (-2)]) (rest := []) C hP hS (met_bad l dC dI dA n σ ab be (-2)) card_bad rfl rfl ⟨Nat.le_of_ble_eq_true rfl, Nat.le_of_ble_eq_true rfl⟩ hl.1 (Nat.le_of_ble_eq_true rfl) dX5_reading_25 (fun H locs hP hS => ?_)
        exact md_ri C hr hlk hP hS dX5_reading_28 (by first | (rw [sp_reading, if_neg (rv_nf c_5)]; exact ⟨rfl, rfl⟩) | (rw [sp_reading, if_pos c_5, if_neg (rv_nf c_12)]; exact ⟨rfl, rfl⟩) | (rw [sp_reading, if_pos c_5, if_pos c_12, if_neg (rv_nf c_19)]; exact ⟨rfl, rfl⟩))
theorem met_shows (l : Launch) (dC : Nat → ClassId) (dI : Nat → Nat → Nat) (dA : Nat → ClassId) (n : Nat) (σ : mdT) (ab be : Int64) (v : Int32) (ev : Int32) (many : Nat) (h0 : σ 0 0 = nI many) (hm : many ≤ 6) : Met l yX5_shows (ws_ yX5_shows cX5_shows 3 (some .int)) { frames := 4, cells := 0, slots := 0, locals := 240 } (mdPc dC dI dA n σ ab be [.ref n, .int v, .int ev]) (va_Qi (fun r_ u => r_ = (sp_shows σ v ev).1 ∧ u = (sp_shows σ v ev).2) (mdB dC dI dA n ab be) (mdA n)) 0 0 (mdA n) := by
  refine md_in (by decide) rfl (Nat.le_of_ble_eq_true rfl) (lv := [(0, .ref n), (1, .int v), (2, .int ev)]) rfl ?_
  intro p e s m below meth c C hr hlk hP ls hl
  have hx := C.1
  have hb := C.2.1
  have hown := C.2.2.2.1
  have hts := C.2.2.2.2.1
  have hS : va_S (mdA n) s.heap s.heap [] := va_S.rf
  refine lv_aload_n hx hb dX5_shows_0 rfl (lv_at hl 0 rfl) ?_
  refine lv_iload_n hx hb dX5_shows_1 rfl (lv_at hl 1 rfl) ?_
  refine md_cSe (As := [.int v]) (rest := []) C hP (met_isView l dC dI dA n σ ab be v) card_isView rfl rfl ⟨Nat.le_of_ble_eq_true rfl, Nat.le_of_ble_eq_true rfl⟩ hl.1 (Nat.le_of_ble_eq_true rfl) dX5_shows_2 ?_
  refine rn_zt (tgt := 24) hx hb dX5_shows_5 (by decide) (fun c_5 => ?_) (fun c_5 => ?_)
  · refine lv_aload_n hx hb dX5_shows_24 rfl (lv_at hl 0 rfl) ?_
    refine lv_bipush (v := (-2)) hx hb dX5_shows_25 rfl ?_
    refine md_cWe (As := [.int (-2)]) (rest := []) C hP hS (met_bad l dC dI dA n σ ab be (-2)) card_bad rfl rfl ⟨Nat.le_of_ble_eq_true rfl, Nat.le_of_ble_eq_true rfl⟩ hl.1 (Nat.le_of_ble_eq_true rfl) dX5_shows_27 (fun H locs hP hS => ?_)
    exact md_ri C hr hlk hP hS dX5_shows_30 (by first | (rw [sp_shows, if_neg (rv_nf c_5)]; exact ⟨rfl, rfl⟩) | (rw [sp_shows, if_pos c_5, if_neg (rv_nf c_12)]; exact ⟨rfl, rfl⟩) | (rw [sp_shows, if_pos c_5, if_pos c_12, hv, rv_cln (by omega)]; exact ⟨rfl, rfl⟩))
  · obtain ⟨j, hj, hv⟩ := rv_isx h0 hm c_5
    refine lv_iload_n hx hb dX5_shows_8 rfl (lv_at hl 2 rfl) ?_
    refine md_sSe (As := [.int ev]) (rest := []) C (met_isEvening l ev) card_isEvening rfl rfl ⟨Nat.le_of_ble_eq_true rfl, Nat.le_of_ble_eq_true rfl⟩ hl.1 (Nat.le_of_ble_eq_true rfl) dX5_shows_9 ?_
    refine rn_zt (tgt := 24) hx hb dX5_shows_12 (by decide) (fun c_12 => ?_) (fun c_12 => ?_)
    · refine lv_aload_n hx hb dX5_shows_24 rfl (lv_at hl 0 rfl) ?_
      refine lv_bipush (v := (-2)) hx hb dX5_shows_25 rfl ?_
      refine md_cWe (As := [.int (-2)]) (rest := []) C hP hS (met_bad l dC dI dA n σ ab be (-2)) card_bad rfl rfl ⟨Nat.le_of_ble_eq_true rfl, Nat.le_of_ble_eq_true rfl⟩ hl.1 (Nat.le_of_ble_eq_true rfl) dX5_shows_27 (fun H locs hP hS => ?_)
      exact md_ri C hr hlk hP hS dX5_shows_30 (by first | (rw [sp_shows, if_neg (rv_nf c_5)]; exact ⟨rfl, rfl⟩) | (rw [sp_shows, if_pos c_5, if_neg (rv_nf c_12)]; exact ⟨rfl, rfl⟩) | (rw [sp_shows, if_pos c_5, if_pos c_12, hv, rv_cln (by omega)]; exact ⟨rfl, rfl⟩))
    · refine lv_aload_n hx hb dX5_shows_15 rfl (lv_at hl 0 rfl) ?_
      refine lv_iload_n hx hb dX5_shows_16 rfl (lv_at hl 1 rfl) ?_
      refine rn_co (y := nI j) hv ?_
      refine lv_iload_n hx hb dX5_shows_17 rfl (lv_at hl 2 rfl) ?_
      refine md_cSe (As := [.int (nI j), .int ev]) (rest := []) C hP (met_showsIn l dC dI dA n σ ab be j ev (by omega)) card_showsIn rfl rfl ⟨Nat.le_of_ble_eq_true rfl, Nat.le_of_ble_eq_true rfl⟩ hl.1 (Nat.le_of_ble_eq_true rfl) dX5_shows_18 ?_
      refine lv_goto (tgt := 30) hx hb dX5_shows_21 (by decide) ?_
      exact md_ri C hr hlk hP hS dX5_shows_30 (by first | (rw [sp_shows, if_neg (rv_nf c_5)]; exact ⟨rfl, rfl⟩) | (rw [sp_shows, if_pos c_5, if_neg (rv_nf c_12)]; exact ⟨rfl, rfl⟩) | (rw [sp_shows, if_pos c_5, if_pos c_12, hv, rv_cln (by omega)]; exact ⟨rfl, rfl⟩))
theorem met_about (l : Launch) (dC : Nat → ClassId) (dI : Nat → Nat → Nat) (dA : Nat → ClassId) (n : Nat) (σ : mdT) (ab be : Int64) (r : Int32) (w : Int32) (many : Nat) (h0 : σ 0 0 = nI many) (hm : many ≤ 6) (rent : Nat) (h1 : σ 0 1 = nI rent) (hr6 : rent ≤ 6) : Met l yX5_about (ws_ yX5_about cX5_about 3 (some .int)) { frames := 3, cells := 0, slots := 0, locals := 180 } (mdPc dC dI dA n σ ab be [.ref n, .int r, .int w]) (va_Qi (fun r_ u => r_ = (sp_about σ r w).1 ∧ u = (sp_about σ r w).2) (mdB dC dI dA n ab be) (mdA n)) 0 0 (mdA n) := by
  refine md_in (by decide) rfl (Nat.le_of_ble_eq_true rfl) (lv := [(0, .ref n), (1, .int r), (2, .int w)]) rfl ?_
  intro p e s m below meth c C hr hlk hP ls hl
  have hx := C.1
  have hb := C.2.1
  have hown := C.2.2.2.1
  have hts := C.2.2.2.2.1
  have hS : va_S (mdA n) s.heap s.heap [] := va_S.rf
  refine lv_aload_n hx hb dX5_about_0 rfl (lv_at hl 0 rfl) ?_
  refine lv_iload_n hx hb dX5_about_1 rfl (lv_at hl 1 rfl) ?_
  refine md_cSe (As := [.int r]) (rest := []) C hP (met_isRenter l dC dI dA n σ ab be r) card_isRenter rfl rfl ⟨Nat.le_of_ble_eq_true rfl, Nat.le_of_ble_eq_true rfl⟩ hl.1 (Nat.le_of_ble_eq_true rfl) dX5_about_2 ?_
  refine rn_zt (tgt := 20) hx hb dX5_about_5 (by decide) (fun c_5 => ?_) (fun c_5 => ?_)
  · refine lv_aload_n hx hb dX5_about_20 rfl (lv_at hl 0 rfl) ?_
    refine lv_bipush (v := (-10)) hx hb dX5_about_21 rfl ?_
    refine md_cWe (As := [.int (-10)]) (rest := []) C hP hS (met_bad l dC dI dA n σ ab be (-10)) card_bad rfl rfl ⟨Nat.le_of_ble_eq_true rfl, Nat.le_of_ble_eq_true rfl⟩ hl.1 (Nat.le_of_ble_eq_true rfl) dX5_about_23 (fun H locs hP hS => ?_)
    exact md_ri C hr hlk hP hS dX5_about_26 (by first | (rw [sp_about, if_neg (rv_nf c_5)]; exact ⟨rfl, rfl⟩) | (rw [sp_about, if_pos c_5, if_neg (rv_nf c_17)]; exact ⟨rfl, rfl⟩))
  · obtain ⟨j, hj, hv⟩ := rv_isx h1 hr6 c_5
    refine lv_iload_n hx hb dX5_about_8 rfl (lv_at hl 2 rfl) ?_
    refine lv_i2l hx hb dX5_about_9 rfl ?_
    refine lv_lconst (v := 0) hx hb dX5_about_10 rfl ?_
    refine lv_ldc2 (v := 3) hx hb hown (hts _ q1112) dX5_about_11 ?_
    refine md_sSe (As := [.long (Int32.toInt64 w), .long 0, .long 3]) (rest := []) C (met_in l (Int32.toInt64 w) 0 3) card_in rfl rfl ⟨Nat.le_of_ble_eq_true rfl, Nat.le_of_ble_eq_true rfl⟩ hl.1 (Nat.le_of_ble_eq_true rfl) dX5_about_14 ?_
    refine rn_zf (tgt := 27) hx hb dX5_about_17 (by decide) (fun c_17 => ?_) (fun c_17 => ?_)
    · obtain ⟨k, hk, hw⟩ := rv_inIx (v := w) 3 rfl (by omega) c_17
      refine lv_iload_n hx hb dX5_about_27 rfl (lv_at hl 2 rfl) ?_
      refine rn_co (y := nI k) hw ?_
      refine lv_iconst (v := nI 3) hx hb dX5_about_28 rfl ?_
      refine rn_icmp_ne (tgt := 40) hx hb (by omega) (by omega) dX5_about_29 (by decide) (fun c_28 => ?_) (fun c_28 => ?_)
      · refine lv_aload_n hx hb dX5_about_40 rfl (lv_at hl 0 rfl) ?_
        refine lv_iload_n hx hb dX5_about_41 rfl (lv_at hl 1 rfl) ?_
        refine rn_co (y := nI j) hv ?_
        refine lv_iload_n hx hb dX5_about_42 rfl (lv_at hl 2 rfl) ?_
        refine rn_co (y := nI k) hw ?_
        refine md_cSe (As := [.int (nI j), .int (nI k)]) (rest := []) C hP (met_renterHas l dC dI dA n σ ab be j k (by omega) (by omega)) card_renterHas rfl rfl ⟨Nat.le_of_ble_eq_true rfl, Nat.le_of_ble_eq_true rfl⟩ hl.1 (Nat.le_of_ble_eq_true rfl) dX5_about_43 ?_
        exact md_ri C hr hlk hP hS dX5_about_46 (by first | (rw [sp_about, if_pos c_5, if_pos c_17, if_pos (by rw [hw, c_28]; rfl), h0, rv_cln (by omega), hv]; exact ⟨rfl, rfl⟩) | (rw [sp_about, if_pos c_5, if_pos c_17, if_neg (by rw [hw]; exact fun z => c_28 ((nI_eq (by omega) (by omega)).mp (z.trans (show (3 : Int32) = nI 3 from rfl)))), hv, hw, rv_cln (by omega), rv_cln (by omega)]; exact ⟨rfl, rfl⟩))
      · refine lv_aload_n hx hb dX5_about_32 rfl (lv_at hl 0 rfl) ?_
        refine lv_iload_n hx hb dX5_about_33 rfl (lv_at hl 1 rfl) ?_
        refine rn_co (y := nI j) hv ?_
        refine md_cSe (As := [.int (nI j)]) (rest := []) C hP (met_viewOf l dC dI dA n σ ab be (nI j) many h0 hm) card_viewOf rfl rfl ⟨Nat.le_of_ble_eq_true rfl, Nat.le_of_ble_eq_true rfl⟩ hl.1 (Nat.le_of_ble_eq_true rfl) dX5_about_34 ?_
        refine lv_goto (tgt := 46) hx hb dX5_about_37 (by decide) ?_
        exact md_ri C hr hlk hP hS dX5_about_46 (by first | (rw [sp_about, if_pos c_5, if_pos c_17, if_pos (by rw [hw, c_28]; rfl), h0, rv_cln (by omega), hv]; exact ⟨rfl, rfl⟩) | (rw [sp_about, if_pos c_5, if_pos c_17, if_neg (by rw [hw]; exact fun z => c_28 ((nI_eq (by omega) (by omega)).mp (z.trans (show (3 : Int32) = nI 3 from rfl)))), hv, hw, rv_cln (by omega), rv_cln (by omega)]; exact ⟨rfl, rfl⟩))
    · refine lv_aload_n hx hb dX5_about_20 rfl (lv_at hl 0 rfl) ?_
      refine lv_bipush (v := (-10)) hx hb dX5_about_21 rfl ?_
      refine md_cWe (As := [.int (-10)]) (rest := []) C hP hS (met_bad l dC dI dA n σ ab be (-10)) card_bad rfl rfl ⟨Nat.le_of_ble_eq_true rfl, Nat.le_of_ble_eq_true rfl⟩ hl.1 (Nat.le_of_ble_eq_true rfl) dX5_about_23 (fun H locs hP hS => ?_)
      exact md_ri C hr hlk hP hS dX5_about_26 (by first | (rw [sp_about, if_neg (rv_nf c_5)]; exact ⟨rfl, rfl⟩) | (rw [sp_about, if_pos c_5, if_neg (rv_nf c_17)]; exact ⟨rfl, rfl⟩))
theorem met_of (l : Launch) (dC : Nat → ClassId) (dI : Nat → Nat → Nat) (dA : Nat → ClassId) (n : Nat) (σ : mdT) (ab be : Int64) (v : Int32) (w : Int32) (many : Nat) (h0 : σ 0 0 = nI many) (hm : many ≤ 6) : Met l yX5_of (ws_ yX5_of cX5_of 3 (some .int)) { frames := 4, cells := 0, slots := 0, locals := 240 } (mdPc dC dI dA n σ ab be [.ref n, .int v, .int w]) (va_Qi (fun r_ u => r_ = (sp_of σ v w).1 ∧ u = (sp_of σ v w).2) (mdB dC dI dA n ab be) (mdA n)) 0 0 (mdA n) := by
  refine md_in (by decide) rfl (Nat.le_of_ble_eq_true rfl) (lv := [(0, .ref n), (1, .int v), (2, .int w)]) rfl ?_
  intro p e s m below meth c C hr hlk hP ls hl
  have hx := C.1
  have hb := C.2.1
  have hown := C.2.2.2.1
  have hts := C.2.2.2.2.1
  have hS : va_S (mdA n) s.heap s.heap [] := va_S.rf
  refine lv_aload_n hx hb dX5_of_0 rfl (lv_at hl 0 rfl) ?_
  refine lv_iload_n hx hb dX5_of_1 rfl (lv_at hl 1 rfl) ?_
  refine md_cSe (As := [.int v]) (rest := []) C hP (met_isView l dC dI dA n σ ab be v) card_isView rfl rfl ⟨Nat.le_of_ble_eq_true rfl, Nat.le_of_ble_eq_true rfl⟩ hl.1 (Nat.le_of_ble_eq_true rfl) dX5_of_2 ?_
  refine rn_zt (tgt := 20) hx hb dX5_of_5 (by decide) (fun c_5 => ?_) (fun c_5 => ?_)
  · refine lv_aload_n hx hb dX5_of_20 rfl (lv_at hl 0 rfl) ?_
    refine lv_bipush (v := (-10)) hx hb dX5_of_21 rfl ?_
    refine md_cWe (As := [.int (-10)]) (rest := []) C hP hS (met_bad l dC dI dA n σ ab be (-10)) card_bad rfl rfl ⟨Nat.le_of_ble_eq_true rfl, Nat.le_of_ble_eq_true rfl⟩ hl.1 (Nat.le_of_ble_eq_true rfl) dX5_of_23 (fun H locs hP hS => ?_)
    exact md_ri C hr hlk hP hS dX5_of_26 (by first | (rw [sp_of, if_neg (rv_nf c_5)]; exact ⟨rfl, rfl⟩) | (rw [sp_of, if_pos c_5, if_neg (rv_nf c_17)]; exact ⟨rfl, rfl⟩))
  · obtain ⟨j, hj, hv⟩ := rv_isx h0 hm c_5
    refine lv_iload_n hx hb dX5_of_8 rfl (lv_at hl 2 rfl) ?_
    refine lv_i2l hx hb dX5_of_9 rfl ?_
    refine lv_lconst (v := 0) hx hb dX5_of_10 rfl ?_
    refine lv_ldc2 (v := 7) hx hb hown (hts _ q1097) dX5_of_11 ?_
    refine md_sSe (As := [.long (Int32.toInt64 w), .long 0, .long 7]) (rest := []) C (met_in l (Int32.toInt64 w) 0 7) card_in rfl rfl ⟨Nat.le_of_ble_eq_true rfl, Nat.le_of_ble_eq_true rfl⟩ hl.1 (Nat.le_of_ble_eq_true rfl) dX5_of_14 ?_
    refine rn_zf (tgt := 27) hx hb dX5_of_17 (by decide) (fun c_17 => ?_) (fun c_17 => ?_)
    · obtain ⟨k, hk, hw⟩ := rv_inIx (v := w) 7 rfl (by omega) c_17
      refine lv_iload_n hx hb dX5_of_27 rfl (lv_at hl 2 rfl) ?_
      refine rn_switch (x := w) (lo := 4) (k := 4) (fun j_ hj_ c_28 => ?_) (fun c_28 => ?_)
      · match j_, hj_ with
        | 0, _ =>
          have c_28 : w = 4 := rn_swe rfl c_28
          refine lv_tableIn (tgt := 60) hx hb dX5_of_28 (by rw [c_28]; decide) (by rw [c_28]; decide) (off := 32) (by rw [c_28]; rfl) (by decide) ?_
          refine lv_aload_n hx hb dX5_of_60 rfl (lv_at hl 0 rfl) ?_
          refine lv_iload_n hx hb dX5_of_61 rfl (lv_at hl 1 rfl) ?_
          refine rn_co (y := nI j) hv ?_
          refine lv_aload_n hx hb dX5_of_62 rfl (lv_at hl 0 rfl) ?_
          refine md_g0 C hP dX5_of_63 ?_
          refine lv_iconst (v := nI 2) hx hb dX5_of_66 rfl ?_
          refine md_l0 C hP (by omega) dX5_of_67 ?_
          refine md_cSe (As := [.int (nI j), .int (σ 0 2)]) (rest := []) C hP (met_showsIn l dC dI dA n σ ab be j (σ 0 2) (by omega)) card_showsIn rfl rfl ⟨Nat.le_of_ble_eq_true rfl, Nat.le_of_ble_eq_true rfl⟩ hl.1 (Nat.le_of_ble_eq_true rfl) dX5_of_68 ?_
          exact md_ri C hr hlk hP hS dX5_of_71 (by first | (rw [sp_of, if_pos c_5, if_pos c_17, if_pos c_28, hv, rv_cln (by omega)]; exact ⟨rfl, rfl⟩))
        | 1, _ =>
          have c_28 : w = 5 := rn_swe rfl c_28
          refine lv_tableIn (tgt := 72) hx hb dX5_of_28 (by rw [c_28]; decide) (by rw [c_28]; decide) (off := 44) (by rw [c_28]; rfl) (by decide) ?_
          refine lv_aload_n hx hb dX5_of_72 rfl (lv_at hl 0 rfl) ?_
          refine lv_iload_n hx hb dX5_of_73 rfl (lv_at hl 1 rfl) ?_
          refine rn_co (y := nI j) hv ?_
          refine lv_iconst (v := nI 0) hx hb dX5_of_74 rfl ?_
          refine md_cSe (As := [.int (nI j), .int (nI 0)]) (rest := []) C hP (met_viewHas l dC dI dA n σ ab be j 0 (by omega) (by omega)) card_viewHas rfl rfl ⟨Nat.le_of_ble_eq_true rfl, Nat.le_of_ble_eq_true rfl⟩ hl.1 (Nat.le_of_ble_eq_true rfl) dX5_of_75 ?_
          refine lv_aload_n hx hb dX5_of_78 rfl (lv_at hl 0 rfl) ?_
          refine lv_iload_n hx hb dX5_of_79 rfl (lv_at hl 1 rfl) ?_
          refine rn_co (y := nI j) hv ?_
          refine lv_iconst (v := nI 2) hx hb dX5_of_80 rfl ?_
          refine md_cSe (As := [.int (nI j), .int (nI 2)]) (rest := [.int (σ 0 (7 + 6 * j + 0))]) C hP (met_viewHas l dC dI dA n σ ab be j 2 (by omega) (by omega)) card_viewHas rfl rfl ⟨Nat.le_of_ble_eq_true rfl, Nat.le_of_ble_eq_true rfl⟩ hl.1 (Nat.le_of_ble_eq_true rfl) dX5_of_81 ?_
          refine md_sSe (As := [.int (σ 0 (7 + 6 * j + 0)), .int (σ 0 (7 + 6 * j + 2))]) (rest := []) C (met_costOf l (σ 0 (7 + 6 * j + 0)) (σ 0 (7 + 6 * j + 2))) card_costOf rfl rfl ⟨Nat.le_of_ble_eq_true rfl, Nat.le_of_ble_eq_true rfl⟩ hl.1 (Nat.le_of_ble_eq_true rfl) dX5_of_84 ?_
          exact md_ri C hr hlk hP hS dX5_of_87 (by first | (rw [sp_of, if_pos c_5, if_pos c_17, if_neg (by rw [c_28]; decide), if_pos c_28, hv, rv_cln (by omega)]; exact ⟨rfl, rfl⟩))
        | 2, _ =>
          have c_28 : w = 6 := rn_swe rfl c_28
          refine lv_tableIn (tgt := 88) hx hb dX5_of_28 (by rw [c_28]; decide) (by rw [c_28]; decide) (off := 60) (by rw [c_28]; rfl) (by decide) ?_
          refine lv_aload_n hx hb dX5_of_88 rfl (lv_at hl 0 rfl) ?_
          refine lv_iload_n hx hb dX5_of_89 rfl (lv_at hl 1 rfl) ?_
          refine rn_co (y := nI j) hv ?_
          refine lv_iconst (v := nI 4) hx hb dX5_of_90 rfl ?_
          refine md_cSe (As := [.int (nI j), .int (nI 4)]) (rest := []) C hP (met_viewHas l dC dI dA n σ ab be j 4 (by omega) (by omega)) card_viewHas rfl rfl ⟨Nat.le_of_ble_eq_true rfl, Nat.le_of_ble_eq_true rfl⟩ hl.1 (Nat.le_of_ble_eq_true rfl) dX5_of_91 ?_
          exact md_ri C hr hlk hP hS dX5_of_94 (by first | (rw [sp_of, if_pos c_5, if_pos c_17, if_neg (by rw [c_28]; decide), if_neg (by rw [c_28]; decide), if_pos c_28, hv, rv_cln (by omega)]; exact ⟨rfl, rfl⟩))
        | 3, _ =>
          have c_28 : w = 7 := rn_swe rfl c_28
          refine lv_tableIn (tgt := 95) hx hb dX5_of_28 (by rw [c_28]; decide) (by rw [c_28]; decide) (off := 67) (by rw [c_28]; rfl) (by decide) ?_
          refine lv_aload_n hx hb dX5_of_95 rfl (lv_at hl 0 rfl) ?_
          refine lv_iload_n hx hb dX5_of_96 rfl (lv_at hl 1 rfl) ?_
          refine rn_co (y := nI j) hv ?_
          refine lv_iconst (v := nI 5) hx hb dX5_of_97 rfl ?_
          refine md_cSe (As := [.int (nI j), .int (nI 5)]) (rest := []) C hP (met_viewHas l dC dI dA n σ ab be j 5 (by omega) (by omega)) card_viewHas rfl rfl ⟨Nat.le_of_ble_eq_true rfl, Nat.le_of_ble_eq_true rfl⟩ hl.1 (Nat.le_of_ble_eq_true rfl) dX5_of_98 ?_
          exact md_ri C hr hlk hP hS dX5_of_101 (by first | (rw [sp_of, if_pos c_5, if_pos c_17, if_neg (by rw [c_28]; decide), if_neg (by rw [c_28]; decide), if_neg (by rw [c_28]; decide), if_pos c_28, hv, rv_cln (by omega)]; exact ⟨rfl, rfl⟩))
        | (_ + 4), hj_ => exact absurd hj_ (by omega)
      · refine lv_tableOut (tgt := 102) hx hb dX5_of_28 (by omega) (by decide) ?_
        have hwi : w.toInt = (k : Int) := by rw [hw]; exact nI_toInt (by omega)
        have hk4 : k < 4 := by omega
        refine lv_aload_n hx hb dX5_of_102 rfl (lv_at hl 0 rfl) ?_
        refine lv_iload_n hx hb dX5_of_103 rfl (lv_at hl 1 rfl) ?_
        refine rn_co (y := nI j) hv ?_
        refine lv_iload_n hx hb dX5_of_104 rfl (lv_at hl 2 rfl) ?_
        refine rn_co (y := nI k) hw ?_
        refine md_cSe (As := [.int (nI j), .int (nI k)]) (rest := []) C hP (met_viewHas l dC dI dA n σ ab be j k (by omega) (by omega)) card_viewHas rfl rfl ⟨Nat.le_of_ble_eq_true rfl, Nat.le_of_ble_eq_true rfl⟩ hl.1 (Nat.le_of_ble_eq_true rfl) dX5_of_105 ?_
        exact md_ri C hr hlk hP hS dX5_of_108 (by first | (rw [sp_of, if_pos c_5, if_pos c_17, if_neg (fun z => by rw [z] at hwi; exact absurd hwi (by change (4 : Int) ≠ _; omega)), if_neg (fun z => by rw [z] at hwi; exact absurd hwi (by change (5 : Int) ≠ _; omega)), if_neg (fun z => by rw [z] at hwi; exact absurd hwi (by change (6 : Int) ≠ _; omega)), if_neg (fun z => by rw [z] at hwi; exact absurd hwi (by change (7 : Int) ≠ _; omega)), hv, hw, rv_cln (by omega), rv_cln (by omega)]; exact ⟨rfl, rfl⟩))
    · refine lv_aload_n hx hb dX5_of_20 rfl (lv_at hl 0 rfl) ?_
      refine lv_bipush (v := (-10)) hx hb dX5_of_21 rfl ?_
      refine md_cWe (As := [.int (-10)]) (rest := []) C hP hS (met_bad l dC dI dA n σ ab be (-10)) card_bad rfl rfl ⟨Nat.le_of_ble_eq_true rfl, Nat.le_of_ble_eq_true rfl⟩ hl.1 (Nat.le_of_ble_eq_true rfl) dX5_of_23 (fun H locs hP hS => ?_)
      exact md_ri C hr hlk hP hS dX5_of_26 (by first | (rw [sp_of, if_neg (rv_nf c_5)]; exact ⟨rfl, rfl⟩) | (rw [sp_of, if_pos c_5, if_neg (rv_nf c_17)]; exact ⟨rfl, rfl⟩))
