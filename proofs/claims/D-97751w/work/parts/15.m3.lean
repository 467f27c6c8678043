set_option maxRecDepth 100000
/-! the Model: at hand, what suits -/
/-- what is at hand: costs, walls, purses, wants -/
def mdHand (σ : mdT) (many rent : Nat) (u : mdT) : Prop := (∀ a, a ≠ 4 → a ≠ 5 → a ≠ 6 → a ≠ 7 → a ≠ 15 → u a = σ a) ∧ (∀ j, j ≠ 0 → u 15 j = σ 15 j) ∧ u 15 0 = nI rent ∧ (∀ v, v < many → u 4 v = rv_cost (σ 0 (7 + 6 * v)) (σ 0 (7 + 6 * v + 2))) ∧ (∀ r, r < rent → u 5 r = σ 0 (43 + 3 * r) ∧ u 6 r = σ 0 (43 + 3 * r + 1) ∧ u 7 r = σ 0 (43 + 3 * r + 2))
theorem mdS_o {σ : mdT} {a k : Nat} {v : Int32} {a' : Nat} (k' : Nat) (h : a' ≠ a) : mdS σ a k v a' k' = σ a' k' := by rw [mdS_row _ _ _ h]
/-- the numbers that last over a call -/
def mdQ (τ u : mdT) : Prop := u 0 = τ 0 ∧ u 1 = τ 1 ∧ u 2 = τ 2 ∧ u 3 = τ 3 ∧ u 12 = τ 12 ∧ u 15 5 = τ 15 5
theorem mdQ.rf (τ : mdT) : mdQ τ τ := ⟨rfl, rfl, rfl, rfl, rfl, rfl⟩
theorem mdQ.tr {a b c : mdT} (h : mdQ a b) (g : mdQ b c) : mdQ a c := by
  obtain ⟨h1, h2, h3, h4, h5, h6⟩ := h
  obtain ⟨g1, g2, g3, g4, g5, g6⟩ := g
  exact ⟨g1.trans h1, g2.trans h2, g3.trans h3, g4.trans h4, g5.trans h5, g6.trans h6⟩
theorem mdHand.Q {σ u : mdT} {many rent : Nat} (h : mdHand σ many rent u) : mdQ σ u := ⟨h.1 0 (by decide) (by decide) (by decide) (by decide) (by decide), h.1 1 (by decide) (by decide) (by decide) (by decide) (by decide), h.1 2 (by decide) (by decide) (by decide) (by decide) (by decide), h.1 3 (by decide) (by decide) (by decide) (by decide) (by decide), h.1 12 (by decide) (by decide) (by decide) (by decide) (by decide), h.2.1 5 (by decide)⟩
/-- how rows of numbers go on: j < i + 1 -/
theorem rv_step {P : Nat → Prop} {i : Nat} (h : ∀ j, j < i → P j) (hi : P i) : ∀ j, j < i + 1 → P j := fun j hj => by
  rcases Nat.lt_or_ge j i with g | g
  · exact h j g
  · rw [show j = i by omega]; exact hi
theorem rv_step2 {P Q : Nat → Prop} {i : Nat} (h : ∀ j, j < i → P j) (hq : ∀ j, j < i → P j → Q j) (hi : Q i) : ∀ j, j < i + 1 → Q j := rv_step (fun j hj => hq j hj (h j hj)) hi
set_option maxHeartbeats 400000 in
theorem met_layHand (l : Launch) (dC : Nat → ClassId) (dI : Nat → Nat → Nat) (dA : Nat → ClassId) (n : Nat) (σ : mdT) (ab be : Int64) (many : Nat) (h0 : σ 0 0 = nI many) (hm : many ≤ 6) (rent : Nat) (h1 : σ 0 1 = nI rent) (hr6 : rent ≤ 6) : Met l yX5_layHand (ws_ yX5_layHand cX5_layHand 2 none) { frames := 2, cells := 0, slots := 0, locals := 120 } (mdPc dC dI dA n σ ab be [.ref n]) (va_Qv (fun u => mdHand σ many rent u) (mdB dC dI dA n ab be) (mdA n)) 0 0 (mdA n) := by
  refine md_in (by decide) rfl (Nat.le_of_ble_eq_true rfl) (lv := [(0, .ref n)]) rfl ?_
  intro p e s m below meth c C hr hlk hP ls hl
  have hx := C.1
  have hb := C.2.1
  have hown := C.2.2.2.1
  have hts := C.2.2.2.2.1
  have hS : va_S (mdA n) s.heap s.heap [] := va_S.rf
  have K47 : ∀ (k47_ : Nat) (i : Nat) (σ2 : mdT) (H : Heap) (locs : List Loc), rent - i = k47_ → (i ≤ rent) → (∀ a, a ≠ 4 → a ≠ 5 → a ≠ 6 → a ≠ 7 → a ≠ 15 → σ2 a = σ a) → (∀ j, j ≠ 0 → σ2 15 j = σ 15 j) → (σ2 15 0 = nI rent) → (∀ v, v < many → σ2 4 v = rv_cost (σ 0 (7 + 6 * v)) (σ 0 (7 + 6 * v + 2))) → (∀ r, r < i → σ2 5 r = σ 0 (43 + 3 * r) ∧ σ2 6 r = σ 0 (43 + 3 * r + 1) ∧ σ2 7 r = σ 0 (43 + 3 * r + 2)) → mdP dC dI dA n σ2 ab be H → va_S (mdA n) s.heap H locs → ∀ ls, lv_has ls 2 [(0, .ref n), (1, .int (nI i))] → W p l e { frames := 2, cells := 0, slots := 0, locals := 120 } s m [.ref n].toArray below meth c H locs 0 0 (MQ below (va_Qv (fun u => mdHand σ many rent u) (mdB dC dI dA n ab be) (mdA n)) [.ref n].toArray s 0 0 (mdA n)) (F0 m 47 ls []) := by
    intro k47_
    induction k47_ using Nat.strongRecOn with
    | _ k47_ ih47 =>
      intro i σ2 H locs hm47_ hi ho hs hr0 hc hw hP hS ls hl
      have e0 : σ2 0 = σ 0 := ho 0 (by decide) (by decide) (by decide) (by decide) (by decide)
      have h1b : σ2 0 1 = nI rent := by rw [e0]; exact h1
      refine lv_iload_n hx hb dX5_layHand_47 rfl (lv_at hl 1 rfl) ?_
      refine lv_aload_n hx hb dX5_layHand_48 rfl (lv_at hl 0 rfl) ?_
      refine md_cSe (As := []) (rest := [.int (nI i)]) C hP (met_renters l dC dI dA n σ2 ab be) card_renters rfl rfl ⟨Nat.le_of_ble_eq_true rfl, Nat.le_of_ble_eq_true rfl⟩ hl.1 (Nat.le_of_ble_eq_true rfl) dX5_layHand_49 ?_
      refine rn_co (y := nI rent) h1b ?_
      refine rn_icmp_ge (tgt := 97) hx hb (by omega) (by omega) dX5_layHand_52 (by decide) (fun c_52 => ?_) (fun c_52 => ?_)
      · exact md_rv C hr hlk hP hS dX5_layHand_97 ⟨ho, hs, hr0, hc, (fun r h => hw r (by omega))⟩
      · refine lv_aload_n hx hb dX5_layHand_55 rfl (lv_at hl 0 rfl) ?_
        refine md_g8 C hP dX5_layHand_56 ?_
        refine lv_iload_n hx hb dX5_layHand_59 rfl (lv_at hl 1 rfl) ?_
        refine lv_aload_n hx hb dX5_layHand_60 rfl (lv_at hl 0 rfl) ?_
        refine lv_iload_n hx hb dX5_layHand_61 rfl (lv_at hl 1 rfl) ?_
        refine lv_iconst (v := nI 0) hx hb dX5_layHand_62 rfl ?_
        refine md_cSe (As := [.int (nI i), .int (nI 0)]) (rest := [.int (nI i), .ref (n + 6)]) C hP (met_renterHas l dC dI dA n σ2 ab be i 0 (by omega) (by omega)) card_renterHas rfl rfl ⟨Nat.le_of_ble_eq_true rfl, Nat.le_of_ble_eq_true rfl⟩ hl.1 (Nat.le_of_ble_eq_true rfl) dX5_layHand_63 ?_
        refine md_s5 C hP hS (by omega) dX5_layHand_66 (fun H locs hP hS => ?_)
        refine lv_aload_n hx hb dX5_layHand_67 rfl (lv_at hl 0 rfl) ?_
        refine md_g9 C hP dX5_layHand_68 ?_
        refine lv_iload_n hx hb dX5_layHand_71 rfl (lv_at hl 1 rfl) ?_
        refine lv_aload_n hx hb dX5_layHand_72 rfl (lv_at hl 0 rfl) ?_
        refine lv_iload_n hx hb dX5_layHand_73 rfl (lv_at hl 1 rfl) ?_
        refine lv_iconst (v := nI 1) hx hb dX5_layHand_74 rfl ?_
        refine md_cSe (As := [.int (nI i), .int (nI 1)]) (rest := [.int (nI i), .ref (n + 7)]) C hP (met_renterHas l dC dI dA n (mdS σ2 5 i (σ2 0 (43 + 3 * i + 0))) ab be i 1 (by omega) (by omega)) card_renterHas rfl rfl ⟨Nat.le_of_ble_eq_true rfl, Nat.le_of_ble_eq_true rfl⟩ hl.1 (Nat.le_of_ble_eq_true rfl) dX5_layHand_75 ?_
        refine md_s6 C hP hS (by omega) dX5_layHand_78 (fun H locs hP hS => ?_)
        refine lv_aload_n hx hb dX5_layHand_79 rfl (lv_at hl 0 rfl) ?_
        refine md_g10 C hP dX5_layHand_80 ?_
        refine lv_iload_n hx hb dX5_layHand_83 rfl (lv_at hl 1 rfl) ?_
        refine lv_aload_n hx hb dX5_layHand_84 rfl (lv_at hl 0 rfl) ?_
        refine lv_iload_n hx hb dX5_layHand_85 rfl (lv_at hl 1 rfl) ?_
        refine lv_iconst (v := nI 2) hx hb dX5_layHand_86 rfl ?_
        refine md_cSe (As := [.int (nI i), .int (nI 2)]) (rest := [.int (nI i), .ref (n + 8)]) C hP (met_renterHas l dC dI dA n (mdS (mdS σ2 5 i (σ2 0 (43 + 3 * i + 0))) 6 i ((mdS σ2 5 i (σ2 0 (43 + 3 * i + 0))) 0 (43 + 3 * i + 1))) ab be i 2 (by omega) (by omega)) card_renterHas rfl rfl ⟨Nat.le_of_ble_eq_true rfl, Nat.le_of_ble_eq_true rfl⟩ hl.1 (Nat.le_of_ble_eq_true rfl) dX5_layHand_87 ?_
        refine md_s7 C hP hS (by omega) dX5_layHand_90 (fun H locs hP hS => ?_)
        refine rn_iinc (lv' := [(1, .int (nI (i + 1))), (0, .ref n)]) hx hb dX5_layHand_91 hl (k := 1) rfl (by decide) rfl (fun ls hl => ?_)
        refine lv_goto (tgt := 47) hx hb dX5_layHand_94 (by decide) ?_
        exact ih47 _ (by omega) (i + 1) (mdS (mdS (mdS σ2 5 i (σ2 0 (43 + 3 * i + 0))) 6 i ((mdS σ2 5 i (σ2 0 (43 + 3 * i + 0))) 0 (43 + 3 * i + 1))) 7 i ((mdS (mdS σ2 5 i (σ2 0 (43 + 3 * i + 0))) 6 i ((mdS σ2 5 i (σ2 0 (43 + 3 * i + 0))) 0 (43 + 3 * i + 1))) 0 (43 + 3 * i + 2))) _ _ rfl (by omega) (fun a b4 b5 b6 b7 b15 => by rw [mdS_row _ _ _ b7, mdS_row _ _ _ b6, mdS_row _ _ _ b5]; exact ho a b4 b5 b6 b7 b15) (fun j h => by rw [mdS_o _ (by decide), mdS_o _ (by decide), mdS_o _ (by decide)]; exact hs j h) (by rw [mdS_o _ (by decide), mdS_o _ (by decide), mdS_o _ (by decide)]; exact hr0) (fun v h => by rw [mdS_o _ (by decide), mdS_o _ (by decide), mdS_o _ (by decide)]; exact hc v h) (rv_step2 hw (fun j hj h => ⟨by rw [mdS_o _ (by decide), mdS_o _ (by decide), mdS_ne (by omega)]; exact h.1, by rw [mdS_o _ (by decide), mdS_ne (by omega), mdS_o _ (by decide)]; exact h.2.1, by rw [mdS_ne (by omega), mdS_o _ (by decide), mdS_o _ (by decide)]; exact h.2.2⟩) ⟨by rw [mdS_o _ (by decide), mdS_o _ (by decide), mdS_eq, e0]; rfl, by rw [mdS_o _ (by decide), mdS_eq, mdS_o _ (by decide), e0], by rw [mdS_eq, mdS_o _ (by decide), mdS_o _ (by decide), e0]⟩) hP hS ls (lv_sub hl [1, 0] rfl)
  have K2 : ∀ (k2_ : Nat) (i : Nat) (σ1 : mdT) (H : Heap) (locs : List Loc), many - i = k2_ → (i ≤ many) → (∀ a, a ≠ 4 → σ1 a = σ a) → (∀ v, v < i → σ1 4 v = rv_cost (σ 0 (7 + 6 * v)) (σ 0 (7 + 6 * v + 2))) → mdP dC dI dA n σ1 ab be H → va_S (mdA n) s.heap H locs → ∀ ls, lv_has ls 2 [(0, .ref n), (1, .int (nI i))] → W p l e { frames := 2, cells := 0, slots := 0, locals := 120 } s m [.ref n].toArray below meth c H locs 0 0 (MQ below (va_Qv (fun u => mdHand σ many rent u) (mdB dC dI dA n ab be) (mdA n)) [.ref n].toArray s 0 0 (mdA n)) (F0 m 2 ls []) := by
    intro k2_
    induction k2_ using Nat.strongRecOn with
    | _ k2_ ih2 =>
      intro i σ1 H locs hm2_ hi ho hc hP hS ls hl
      have e0 : σ1 0 = σ 0 := ho 0 (by decide)
      have h0a : σ1 0 0 = nI many := by rw [e0]; exact h0
      have h1a : σ1 0 1 = nI rent := by rw [e0]; exact h1
      refine lv_iload_n hx hb dX5_layHand_2 rfl (lv_at hl 1 rfl) ?_
      refine lv_aload_n hx hb dX5_layHand_3 rfl (lv_at hl 0 rfl) ?_
      refine md_cSe (As := []) (rest := [.int (nI i)]) C hP (met_views l dC dI dA n σ1 ab be) card_views rfl rfl ⟨Nat.le_of_ble_eq_true rfl, Nat.le_of_ble_eq_true rfl⟩ hl.1 (Nat.le_of_ble_eq_true rfl) dX5_layHand_4 ?_
      refine rn_co (y := nI many) h0a ?_
      refine rn_icmp_ge (tgt := 37) hx hb (by omega) (by omega) dX5_layHand_7 (by decide) (fun c_7 => ?_) (fun c_7 => ?_)
      · refine lv_aload_n hx hb dX5_layHand_37 rfl (lv_at hl 0 rfl) ?_
        refine lv_aload_n hx hb dX5_layHand_38 rfl (lv_at hl 0 rfl) ?_
        refine md_cSe (As := []) (rest := [.ref n]) C hP (met_renters l dC dI dA n σ1 ab be) card_renters rfl rfl ⟨Nat.le_of_ble_eq_true rfl, Nat.le_of_ble_eq_true rfl⟩ hl.1 (Nat.le_of_ble_eq_true rfl) dX5_layHand_39 ?_
        refine rn_co (y := nI rent) h1a ?_
        refine md_p7 C hP hS dX5_layHand_42 (fun H locs hP hS => ?_)
        refine lv_iconst (v := nI 0) hx hb dX5_layHand_45 rfl ?_
        refine lv_istore_n (lv' := [(1, .int (nI 0)), (0, .ref n)]) hx hb dX5_layHand_46 rfl hl (by decide) rfl (fun ls hl => ?_)
        exact K47 _ 0 (mdS σ1 15 0 (nI rent)) _ _ rfl (by omega) (fun a b4 b5 b6 b7 b15 => by rw [mdS_row _ _ _ b15]; exact ho a b4) (fun j h => by rw [mdS_ne h]; exact congrFun (ho 15 (by decide)) j) (by rw [mdS_eq]) (fun v h => by rw [mdS_o _ (by decide)]; exact hc v (by omega)) (fun r h => absurd h (Nat.not_lt_zero r)) hP hS ls (lv_sub hl [1, 0] rfl)
      · refine lv_aload_n hx hb dX5_layHand_10 rfl (lv_at hl 0 rfl) ?_
        refine md_g6 C hP dX5_layHand_11 ?_
        refine lv_iload_n hx hb dX5_layHand_14 rfl (lv_at hl 1 rfl) ?_
        refine lv_aload_n hx hb dX5_layHand_15 rfl (lv_at hl 0 rfl) ?_
        refine lv_iload_n hx hb dX5_layHand_16 rfl (lv_at hl 1 rfl) ?_
        refine lv_iconst (v := nI 0) hx hb dX5_layHand_17 rfl ?_
        refine md_cSe (As := [.int (nI i), .int (nI 0)]) (rest := [.int (nI i), .ref (n + 5)]) C hP (met_viewHas l dC dI dA n σ1 ab be i 0 (by omega) (by omega)) card_viewHas rfl rfl ⟨Nat.le_of_ble_eq_true rfl, Nat.le_of_ble_eq_true rfl⟩ hl.1 (Nat.le_of_ble_eq_true rfl) dX5_layHand_18 ?_
        refine lv_aload_n hx hb dX5_layHand_21 rfl (lv_at hl 0 rfl) ?_
        refine lv_iload_n hx hb dX5_layHand_22 rfl (lv_at hl 1 rfl) ?_
        refine lv_iconst (v := nI 2) hx hb dX5_layHand_23 rfl ?_
        refine md_cSe (As := [.int (nI i), .int (nI 2)]) (rest := [.int (σ1 0 (7 + 6 * i + 0)), .int (nI i), .ref (n + 5)]) C hP (met_viewHas l dC dI dA n σ1 ab be i 2 (by omega) (by omega)) card_viewHas rfl rfl ⟨Nat.le_of_ble_eq_true rfl, Nat.le_of_ble_eq_true rfl⟩ hl.1 (Nat.le_of_ble_eq_true rfl) dX5_layHand_24 ?_
        refine md_sSe (As := [.int (σ1 0 (7 + 6 * i + 0)), .int (σ1 0 (7 + 6 * i + 2))]) (rest := [.int (nI i), .ref (n + 5)]) C (met_costOf l (σ1 0 (7 + 6 * i + 0)) (σ1 0 (7 + 6 * i + 2))) card_costOf rfl rfl ⟨Nat.le_of_ble_eq_true rfl, Nat.le_of_ble_eq_true rfl⟩ hl.1 (Nat.le_of_ble_eq_true rfl) dX5_layHand_27 ?_
        refine md_s4 C hP hS (by omega) dX5_layHand_30 (fun H locs hP hS => ?_)
        refine rn_iinc (lv' := [(1, .int (nI (i + 1))), (0, .ref n)]) hx hb dX5_layHand_31 hl (k := 1) rfl (by decide) rfl (fun ls hl => ?_)
        refine lv_goto (tgt := 2) hx hb dX5_layHand_34 (by decide) ?_
        exact ih2 _ (by omega) (i + 1) (mdS σ1 4 i (rv_cost (σ1 0 (7 + 6 * i + 0)) (σ1 0 (7 + 6 * i + 2)))) _ _ rfl (by omega) (fun a b4 => by rw [mdS_row _ _ _ b4]; exact ho a b4) (rv_step2 hc (fun j hj h => by rw [mdS_ne (by omega)]; exact h) (by rw [mdS_eq, e0]; rfl)) hP hS ls (lv_sub hl [1, 0] rfl)
  refine lv_iconst (v := nI 0) hx hb dX5_layHand_0 rfl ?_
  refine lv_istore_n (lv' := [(1, .int (nI 0)), (0, .ref n)]) hx hb dX5_layHand_1 rfl hl (by decide) rfl (fun ls hl => ?_)
  exact K2 _ 0 σ _ _ rfl (by omega) (fun _ _ => rfl) (fun v h => absurd h (Nat.not_lt_zero v)) hP hS ls (lv_sub hl [1, 0] rfl)
/-- the bits of those of the first n that have p -/
def rv_mask (p : Nat → Bool) : Nat → Int32
  | 0 => 0
  | n + 1 => rv_mask p n ||| (if p n = true then (1 : Int32) <<< (nI n &&& 31) else 0)
def mdSuit (σ : mdT) (many hand : Nat) (ev : Int32) (u : mdT) : Prop := (∀ a, a ≠ 8 → u a = σ a) ∧ ∀ r, r < hand → u 8 r = rv_mask (fun v => rv_suitM σ v r ev) many
theorem rv_suitM_c {σ τ : mdT} (h : ∀ a, a ≠ 8 → τ a = σ a) (v r : Nat) (ev : Int32) : rv_suitM τ v r ev = rv_suitM σ v r ev := by
  unfold rv_suitM
  rw [h 0 (by decide), h 4 (by decide), h 5 (by decide), h 6 (by decide), h 7 (by decide)]
set_option maxHeartbeats 400000 in
theorem met_laySuit (l : Launch) (dC : Nat → ClassId) (dI : Nat → Nat → Nat) (dA : Nat → ClassId) (n : Nat) (σ : mdT) (ab be : Int64) (ev : Int32) (many : Nat) (h0 : σ 0 0 = nI many) (hm : many ≤ 6) (hand : Nat) (hh : σ 15 0 = nI hand) (hh7 : hand ≤ 7) : Met l yX5_laySuit (ws_ yX5_laySuit cX5_laySuit 4 none) { frames := 5, cells := 0, slots := 0, locals := 300 } (mdPc dC dI dA n σ ab be [.ref n, .int ev]) (va_Qv (fun u => mdSuit σ many hand ev u) (mdB dC dI dA n ab be) (mdA n)) 0 0 (mdA n) := by
  refine md_in (by decide) rfl (Nat.le_of_ble_eq_true rfl) (lv := [(0, .ref n), (1, .int ev)]) rfl ?_
  intro p e s m below meth c C hr hlk hP ls hl
  have hx := C.1
  have hb := C.2.1
  have hown := C.2.2.2.1
  have hts := C.2.2.2.2.1
  have hS : va_S (mdA n) s.heap s.heap [] := va_S.rf
  have K2 : ∀ (k2_ : Nat) (r : Nat) (σ1 : mdT) (H : Heap) (locs : List Loc), hand - r = k2_ → (r ≤ hand) → (∀ a, a ≠ 8 → σ1 a = σ a) → (∀ j, j < r → σ1 8 j = rv_mask (fun v => rv_suitM σ v j ev) many) → mdP dC dI dA n σ1 ab be H → va_S (mdA n) s.heap H locs → ∀ ls, lv_has ls 4 [(0, .ref n), (1, .int ev), (2, .int (nI r))] → W p l e { frames := 5, cells := 0, slots := 0, locals := 300 } s m [.ref n, .int ev].toArray below meth c H locs 0 0 (MQ below (va_Qv (fun u => mdSuit σ many hand ev u) (mdB dC dI dA n ab be) (mdA n)) [.ref n, .int ev].toArray s 0 0 (mdA n)) (F0 m 2 ls []) := by
    intro k2_
    induction k2_ using Nat.strongRecOn with
    | _ k2_ ih2 =>
      intro r σ1 H locs hm2_ hr_ ho hu hP hS ls hl
      have hha : σ1 15 0 = nI hand := by rw [ho 15 (by decide)]; exact hh
      have K19 : ∀ (k19_ : Nat) (i : Nat) (σ2 : mdT) (H : Heap) (locs : List Loc), many - i = k19_ → (i ≤ many) → (r < hand) → (∀ a, a ≠ 8 → σ2 a = σ a) → (∀ j, j < r → σ2 8 j = rv_mask (fun v => rv_suitM σ v j ev) many) → (σ2 8 r = rv_mask (fun v => rv_suitM σ v r ev) i) → mdP dC dI dA n σ2 ab be H → va_S (mdA n) s.heap H locs → ∀ ls, lv_has ls 4 [(0, .ref n), (1, .int ev), (2, .int (nI r)), (3, .int (nI i))] → W p l e { frames := 5, cells := 0, slots := 0, locals := 300 } s m [.ref n, .int ev].toArray below meth c H locs 0 0 (MQ below (va_Qv (fun u => mdSuit σ many hand ev u) (mdB dC dI dA n ab be) (mdA n)) [.ref n, .int ev].toArray s 0 0 (mdA n)) (F0 m 19 ls []) := by
        intro k19_
        induction k19_ using Nat.strongRecOn with
        | _ k19_ ih19 =>
          intro i σ2 H locs hm19_ hi hrh ho hu hf hP hS ls hl
          have h0a : σ2 0 0 = nI many := by rw [ho 0 (by decide)]; exact h0
          refine lv_iload_n hx hb dX5_laySuit_19 rfl (lv_at hl 3 rfl) ?_
          refine lv_aload_n hx hb dX5_laySuit_20 rfl (lv_at hl 0 rfl) ?_
          refine md_cSe (As := []) (rest := [.int (nI i)]) C hP (met_views l dC dI dA n σ2 ab be) card_views rfl rfl ⟨Nat.le_of_ble_eq_true rfl, Nat.le_of_ble_eq_true rfl⟩ hl.1 (Nat.le_of_ble_eq_true rfl) dX5_laySuit_21 ?_
          refine rn_co (y := nI many) h0a ?_
          refine rn_icmp_ge (tgt := 59) hx hb (by omega) (by omega) dX5_laySuit_24 (by decide) (fun c_24 => ?_) (fun c_24 => ?_)
          · refine rn_iinc (lv' := [(2, .int (nI (r + 1))), (0, .ref n), (1, .int ev), (3, .int (nI i))]) hx hb dX5_laySuit_59 hl (k := 2) rfl (by decide) rfl (fun ls hl => ?_)
            refine lv_goto (tgt := 2) hx hb dX5_laySuit_62 (by decide) ?_
            exact ih2 _ (by omega) (r + 1) σ2 _ _ rfl (by omega) ho (rv_step hu (by rw [hf, show i = many by omega])) hP hS ls (lv_sub hl [1, 2, 0] rfl)
          · refine lv_aload_n hx hb dX5_laySuit_27 rfl (lv_at hl 0 rfl) ?_
            refine md_g11 C hP dX5_laySuit_28 ?_
            refine lv_iload_n hx hb dX5_laySuit_31 rfl (lv_at hl 2 rfl) ?_
            refine lv_dup2_11 hx hb dX5_laySuit_32 rfl rfl ?_
            refine md_l8 C hP (by omega) dX5_laySuit_33 ?_
            refine lv_aload_n hx hb dX5_laySuit_34 rfl (lv_at hl 0 rfl) ?_
            refine lv_iload_n hx hb dX5_laySuit_35 rfl (lv_at hl 3 rfl) ?_
            refine lv_iload_n hx hb dX5_laySuit_36 rfl (lv_at hl 2 rfl) ?_
            refine lv_iload_n hx hb dX5_laySuit_37 rfl (lv_at hl 1 rfl) ?_
            refine md_cSe (As := [.int (nI i), .int (nI r), .int ev]) (rest := [.int (σ2 8 r), .int (nI r), .ref (n + 9)]) C hP (met_doesSuit l dC dI dA n σ2 ab be i r ev (by omega) (by omega)) card_doesSuit rfl rfl ⟨Nat.le_of_ble_eq_true rfl, Nat.le_of_ble_eq_true rfl⟩ hl.1 (Nat.le_of_ble_eq_true rfl) dX5_laySuit_38 ?_
            refine rn_zt (tgt := 50) hx hb dX5_laySuit_41 (by decide) (fun c_41 => ?_) (fun c_41 => ?_)
            · refine lv_iconst (v := nI 0) hx hb dX5_laySuit_50 rfl ?_
              refine lv_ior hx hb dX5_laySuit_51 ?_
              refine md_s8 C hP hS (by omega) dX5_laySuit_52 (fun H locs hP hS => ?_)
              refine rn_iinc (lv' := [(3, .int (nI (i + 1))), (0, .ref n), (1, .int ev), (2, .int (nI r))]) hx hb dX5_laySuit_53 hl (k := 3) rfl (by decide) rfl (fun ls hl => ?_)
              refine lv_goto (tgt := 19) hx hb dX5_laySuit_56 (by decide) ?_
              exact ih19 _ (by omega) (i + 1) (mdS σ2 8 r ((σ2 8 r) ||| 0)) _ _ rfl (by omega) (by omega) (fun a b => by rw [mdS_row _ _ _ b]; exact ho a b) (fun j h => by rw [mdS_ne (by omega)]; exact hu j h) (by rw [mdS_eq]; simp only [rv_mask]; rw [rv_suitM_c ho] at c_41; first | rw [if_pos c_41, hf] | rw [if_neg (rv_nf c_41), hf]) hP hS ls (lv_sub hl [1, 2, 3, 0] rfl)
            · refine lv_iconst (v := nI 1) hx hb dX5_laySuit_44 rfl ?_
              refine lv_iload_n hx hb dX5_laySuit_45 rfl (lv_at hl 3 rfl) ?_
              refine lv_ishl hx hb dX5_laySuit_46 ?_
              refine lv_goto (tgt := 51) hx hb dX5_laySuit_47 (by decide) ?_
              refine lv_ior hx hb dX5_laySuit_51 ?_
              refine md_s8 C hP hS (by omega) dX5_laySuit_52 (fun H locs hP hS => ?_)
              refine rn_iinc (lv' := [(3, .int (nI (i + 1))), (0, .ref n), (1, .int ev), (2, .int (nI r))]) hx hb dX5_laySuit_53 hl (k := 3) rfl (by decide) rfl (fun ls hl => ?_)
              refine lv_goto (tgt := 19) hx hb dX5_laySuit_56 (by decide) ?_
              exact ih19 _ (by omega) (i + 1) (mdS σ2 8 r ((σ2 8 r) ||| (1 <<< ((nI i) &&& 31)))) _ _ rfl (by omega) (by omega) (fun a b => by rw [mdS_row _ _ _ b]; exact ho a b) (fun j h => by rw [mdS_ne (by omega)]; exact hu j h) (by rw [mdS_eq]; simp only [rv_mask]; rw [rv_suitM_c ho] at c_41; first | rw [if_pos c_41, hf] | rw [if_neg (rv_nf c_41), hf]) hP hS ls (lv_sub hl [1, 2, 3, 0] rfl)
      refine lv_iload_n hx hb dX5_laySuit_2 rfl (lv_at hl 2 rfl) ?_
      refine lv_aload_n hx hb dX5_laySuit_3 rfl (lv_at hl 0 rfl) ?_
      refine md_g7 C hP dX5_laySuit_4 ?_
      refine rn_co (y := nI hand) hha ?_
      refine rn_icmp_ge (tgt := 65) hx hb (by omega) (by omega) dX5_laySuit_7 (by decide) (fun c_7 => ?_) (fun c_7 => ?_)
      · exact md_rv C hr hlk hP hS dX5_laySuit_65 ⟨ho, (fun r h => hu r (by omega))⟩
      · refine lv_aload_n hx hb dX5_laySuit_10 rfl (lv_at hl 0 rfl) ?_
        refine md_g11 C hP dX5_laySuit_11 ?_
        refine lv_iload_n hx hb dX5_laySuit_14 rfl (lv_at hl 2 rfl) ?_
        refine lv_iconst (v := nI 0) hx hb dX5_laySuit_15 rfl ?_
        refine md_s8 C hP hS (by omega) dX5_laySuit_16 (fun H locs hP hS => ?_)
        refine lv_iconst (v := nI 0) hx hb dX5_laySuit_17 rfl ?_
        refine lv_istore_n (lv' := [(3, .int (nI 0)), (0, .ref n), (1, .int ev), (2, .int (nI r))]) hx hb dX5_laySuit_18 rfl hl (by decide) rfl (fun ls hl => ?_)
        exact K19 _ 0 (mdS σ1 8 r (nI 0)) _ _ rfl (by omega) c_7 (fun a b => by rw [mdS_row _ _ _ b]; exact ho a b) (fun j h => by rw [mdS_ne (by omega)]; exact hu j h) (by rw [mdS_eq]; rfl) hP hS ls (lv_sub hl [1, 2, 3, 0] rfl)
  refine lv_iconst (v := nI 0) hx hb dX5_laySuit_0 rfl ?_
  refine lv_istore_n (lv' := [(2, .int (nI 0)), (0, .ref n), (1, .int ev)]) hx hb dX5_laySuit_1 rfl hl (by decide) rfl (fun ls hl => ?_)
  exact K2 _ 0 σ _ _ rfl (by omega) (fun _ _ => rfl) (fun v h => absurd h (Nat.not_lt_zero v)) hP hS ls (lv_sub hl [1, 2, 0] rfl)
