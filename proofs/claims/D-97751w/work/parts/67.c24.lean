set_option maxRecDepth 100000
/-! a Fault is made -/
theorem xki_J1_16 : xKI RJ1 yJ0_init_2 cJ0_init_2 5 16 4 := ⟨q500, q501, q73, q502, rfl, by decide +kernel⟩
theorem xki_X12_1 : xKI RX12 yJ1_init cJ1_init 5 1 4 := ⟨q497, q498, q74, q499, rfl, by decide +kernel⟩
theorem xki_X3_54 : xKI RX3 yX12_init cX12_init 2 54 1 := ⟨q494, q495, q75, q496, rfl, by decide +kernel⟩
/-- a Fault -/
abbrev ftP (dC : Nat → ClassId) (dI : Nat → Nat → Nat) (a : Nat) (fs : List Value) (H : Heap) : Prop := va_at (dC, dI) rvCl (a, .inr (12, fs)) H
abbrev ft0 (v : Int32) : List Value := [.null, .null, .null, .null, .null, .int 0, .int v]
section FT
variable {p : Program} {l : Launch} {e : Env} {R : Room} {s : State} {m : MethodId} {args : Array Value} {below : List Frame} {meth : Method} {c : Code} {H : Heap} {locs : List Loc} {cells slots mc ms : Nat} {Q : State → Prop}
variable {cc : ByteArray} {pc nL : Nat} {ls : Array Slot} {rest st0 : List Value} {dC : Nat → ClassId} {dI : Nat → Nat → Nat} {dA : Nat → ClassId} {H0 : Heap} {own : String} {A : Nat → Prop} {a : Nat}
theorem va_S.wide {n : Nat} (hna : n ≤ a) (hS : va_S (fun q => q = a) H0 H locs) : va_S (fun q => n ≤ q) H0 H locs :=
  ⟨hS.1, fun q h1 h2 => hS.2.1 q h1 (fun e => h2 (e ▸ hna)), fun l hl => by rw [hS.2.2 l hl]; exact hna⟩
theorem ft_put {index : Nat} (X : xC dC dI dA p s m c args cc nL RJ0) {gs : List Value} (hV : ftP dC dI a gs H) (hg : gs.length = 7) (hS : va_S A H0 H locs) (hA : A a) (k : Nat) (hk : k < 4) (hl : Cond.fieldLink RJ0 index RJ0 (TX12 k).2.1 (TX12 k).2.2.1 ∈ lw_all) {v : Value} (hv : v = .null ∨ ∃ q, v = .ref q) (hdg : decode cc pc = .ok (.putfield index, 3))
    (kk : ∀ (H1 : Heap) (locs1 : List Loc), ftP dC dI a (gs.set k v) H1 → va_S A H0 H1 locs1 → W p l e R s m args below meth c H1 locs1 cells slots Q (F0 m (pc + 3) ls rest)) : W p l e R s m args below meth c H locs cells slots Q (F0 m pc ls (v :: .ref a :: rest)) := by
  have h1 : narrow (tyX12 k) v = v ∧ fits (tyX12 k) v = true := by
    rcases hv with rfl | ⟨q, rfl⟩ <;> (match k, hk with | 0, _ => exact ⟨rfl, rfl⟩ | 1, _ => exact ⟨rfl, rfl⟩ | 2, _ => exact ⟨rfl, rfl⟩ | 3, _ => exact ⟨rfl, rfl⟩)
  exact va_put (own := RJ0) (ref := RJ0) X.1 X.2.1 X.2.2.2.2.1 in_X12 tyX12 tyX12_ok nmX12 X.2.2.2.1 X.2.2.2.2.2 (at_P hV) (at_D hA) hS 0 rfl rfl k (by omega) (X.2.2.2.2.1 _ hl) (fun x h => by match k, hk with | 0, _ => exact h | 1, _ => exact h | 2, _ => exact h | 3, _ => exact h) (by match k, hk with | 0, _ => rfl | 1, _ => rfl | 2, _ => rfl | 3, _ => rfl) (ty := tyX12 k) (tyX12_ok k (by omega)) h1.1 h1.2 (by rw [hg]; omega) hdg (fun H1 locs1 g1 _ g3 => kk H1 locs1 (g1 0 _ rfl) g3)
end FT
theorem fi_J0 (l : Launch) (dC : Nat → ClassId) (dI : Nat → Nat → Nat) (dA : Nat → ClassId) (n : Nat) (adK adV : Nat → Nat) (fm us sb : Nat) (a : Nat) (hna : n ≤ a) (v : Int32) : Met l yJ0_init_2 (ws_ yJ0_init_2 cJ0_init_2 5 none) { frames := 1, cells := 0, slots := 0, locals := 60 } (xPz dC dI dA (xZr n adK adV fm us sb) (ftP dC dI a (ft0 v)) [.ref a, .null, .null, .int (nI 0), .int (nI 0)]) (xEv (ftP dC dI a (ft0 v)) (fun q => q = a)) 0 0 (fun q => q = a) := by
  refine x_inZ (by decide) rfl (Nat.le_of_ble_eq_true rfl) (lv := [(0, .ref a), (1, .null), (2, .null), (3, .int (nI 0)), (4, .int (nI 0))]) rfl ?_
  intro p e s m below meth c_ X hN hnm hr hlk hV hZ ls hl
  have hS : va_S (fun q => q = a) s.heap s.heap [] := va_S.rf
  refine lv_aload_n X.1 X.2.1 dJ0_init_2_0 rfl (lv_at hl 0 rfl) ?_
  refine W.objInit X.1 X.2.1 X.2.2.2.1 (X.2.2.2.2.1 _ q480) (X.2.2.2.2.1 _ q89) (X.2.2.2.2.1 _ q90) rfl (hl.1.trans X.2.2.1.symm) rfl dJ0_init_2_1 (Nat.le_of_ble_eq_true rfl) (Nat.le_of_ble_eq_true rfl) ?_
  change W _ _ _ _ _ _ _ _ _ _ _ _ _ _ _ (F0 m 4 ls [])
  refine lv_aload_n X.1 X.2.1 dJ0_init_2_4 rfl (lv_at hl 0 rfl) ?_
  refine lv_aload_n X.1 X.2.1 dJ0_init_2_5 rfl (lv_at hl 0 rfl) ?_
  refine ft_put X hV rfl hS rfl 0 (by decide) q507 (Or.inr ⟨_, rfl⟩) dJ0_init_2_6 (fun H locs hV hS => ?_)
  refine lv_aload_n X.1 X.2.1 dJ0_init_2_9 rfl (lv_at hl 0 rfl) ?_
  refine va_gets X.1 X.2.1 hZ.2.2.2.1 (hS.wide hna) X.2.2.2.1 (X.2.2.2.2.1 _ q481) (fun _ h => h) dJ0_init_2_10 ?_
  refine ft_put X hV rfl hS rfl 1 (by decide) q508 (Or.inr ⟨_, rfl⟩) dJ0_init_2_13 (fun H locs hV hS => ?_)
  refine lv_aload_n X.1 X.2.1 dJ0_init_2_16 rfl (lv_at hl 0 rfl) ?_
  refine va_gets X.1 X.2.1 hZ.2.2.2.2.1 (hS.wide hna) X.2.2.2.1 (X.2.2.2.2.1 _ q483) (fun _ h => h) dJ0_init_2_17 ?_
  refine ft_put X hV rfl hS rfl 2 (by decide) q509 (Or.inr ⟨_, rfl⟩) dJ0_init_2_20 (fun H locs hV hS => ?_)
  refine lv_iload X.1 X.2.1 dJ0_init_2_23 (lv_at hl 4 rfl) ?_
  refine rn_if_eq (tgt := 36) X.1 X.2.1 (by decide) dJ0_init_2_25 (by decide) (fun _ => ?_) (fun h => absurd rfl h)
  refine lv_aload_n X.1 X.2.1 dJ0_init_2_36 rfl (lv_at hl 0 rfl) ?_
  refine lv_null X.1 X.2.1 dJ0_init_2_37 ?_
  refine ft_put X hV rfl hS rfl 1 (by decide) q508 (Or.inl rfl) dJ0_init_2_38 (fun H locs hV hS => ?_)
  refine lv_aload_n X.1 X.2.1 dJ0_init_2_41 rfl (lv_at hl 0 rfl) ?_
  refine lv_aload_nN X.1 X.2.1 dJ0_init_2_42 rfl (lv_at hl 1 rfl) ?_
  refine ft_put X hV rfl hS rfl 3 (by decide) q506 (Or.inl rfl) dJ0_init_2_43 (fun H locs hV hS => ?_)
  refine lv_aload_n X.1 X.2.1 dJ0_init_2_46 rfl (lv_at hl 0 rfl) ?_
  refine lv_aload_nN X.1 X.2.1 dJ0_init_2_47 rfl (lv_at hl 2 rfl) ?_
  refine ft_put X hV rfl hS rfl 0 (by decide) q507 (Or.inl rfl) dJ0_init_2_48 (fun H locs hV hS => ?_)
  refine lv_iload_n X.1 X.2.1 dJ0_init_2_51 rfl (lv_at hl 3 rfl) ?_
  refine rn_if_ne (tgt := 60) X.1 X.2.1 (by decide) dJ0_init_2_52 (by decide) (fun h => absurd rfl h) (fun _ => ?_)
  refine lv_aload_n X.1 X.2.1 dJ0_init_2_55 rfl (lv_at hl 0 rfl) ?_
  refine lv_null X.1 X.2.1 dJ0_init_2_56 ?_
  refine ft_put X hV rfl hS rfl 2 (by decide) q509 (Or.inl rfl) dJ0_init_2_57 (fun H locs hV hS => ?_)
  exact x_rv () X hr hlk hS dJ0_init_2_60 trivial hV
theorem fi_J1 (l : Launch) (dC : Nat → ClassId) (dI : Nat → Nat → Nat) (dA : Nat → ClassId) (n : Nat) (adK adV : Nat → Nat) (fm us sb : Nat) (a : Nat) (hna : n ≤ a) (v : Int32) : Met l yJ1_init (ws_ yJ1_init cJ1_init 5 none) { frames := 2, cells := 0, slots := 0, locals := 120 } (xPz dC dI dA (xZr n adK adV fm us sb) (ftP dC dI a (ft0 v)) [.ref a, .null, .null, .int (nI 0), .int (nI 0)]) (xEv (ftP dC dI a (ft0 v)) (fun q => q = a)) 0 0 (fun q => q = a) := by
  refine x_inZ (by decide) rfl (Nat.le_of_ble_eq_true rfl) (lv := [(0, .ref a), (1, .null), (2, .null), (3, .int (nI 0)), (4, .int (nI 0))]) rfl ?_
  intro p e s m below meth c_ X hN hnm hr hlk hV hZ ls hl
  have hS : va_S (fun q => q = a) s.heap s.heap [] := va_S.rf
  refine lv_aload_n X.1 X.2.1 dJ1_init_0 rfl (lv_at hl 0 rfl) ?_
  refine lv_aload_nN X.1 X.2.1 dJ1_init_1 rfl (lv_at hl 1 rfl) ?_
  refine lv_aload_nN X.1 X.2.1 dJ1_init_2 rfl (lv_at hl 2 rfl) ?_
  refine lv_iload_n X.1 X.2.1 dJ1_init_3 rfl (lv_at hl 3 rfl) ?_
  refine lv_iload X.1 X.2.1 dJ1_init_4 (lv_at hl 4 rfl) ?_
  refine x_cWv (x_runIW (xZr_w n adK adV fm us sb) X hN hV hZ (As := [.null, .null, .int (nI 0), .int (nI 0)]) (rest := []) (fi_J0 l dC dI dA n adK adV fm us sb a hna v) xki_J1_16 rfl rfl ⟨Nat.le_of_ble_eq_true rfl, Nat.le_of_ble_eq_true rfl⟩ hl.1 (Nat.le_of_ble_eq_true rfl) dJ1_init_6 ⟨Nat.le_of_ble_eq_true rfl, Nat.le_of_ble_eq_true rfl⟩) hS (fun q h => h) (fun q h => h) (fun _ H locs _ hV hz1 hk1 hS => ?_)
  exact x_rv () X hr hlk hS dJ1_init_9 trivial hV
theorem fi_X12 (l : Launch) (dC : Nat → ClassId) (dI : Nat → Nat → Nat) (dA : Nat → ClassId) (n : Nat) (adK adV : Nat → Nat) (fm us sb : Nat) (a : Nat) (hna : n ≤ a) (v : Int32) : Met l yX12_init (ws_ yX12_init cX12_init 2 none) { frames := 3, cells := 0, slots := 0, locals := 180 } (xPz dC dI dA (xZr n adK adV fm us sb) (ftP dC dI a (ft0 0)) [.ref a, .int v]) (xEv (ftP dC dI a (ft0 v)) (fun q => q = a)) 0 0 (fun q => q = a) := by
  refine x_inZ (by decide) rfl (Nat.le_of_ble_eq_true rfl) (lv := [(0, .ref a), (1, .int v)]) rfl ?_
  intro p e s m below meth c_ X hN hnm hr hlk hV hZ ls hl
  have hS : va_S (fun q => q = a) s.heap s.heap [] := va_S.rf
  refine lv_aload_n X.1 X.2.1 dX12_init_0 rfl (lv_at hl 0 rfl) ?_
  refine lv_null X.1 X.2.1 dX12_init_1 ?_
  refine lv_null X.1 X.2.1 dX12_init_2 ?_
  refine lv_iconst (v := nI 0) X.1 X.2.1 dX12_init_3 rfl ?_
  refine lv_iconst (v := nI 0) X.1 X.2.1 dX12_init_4 rfl ?_
  refine x_cWv (x_runIW (xZr_w n adK adV fm us sb) X hN hV hZ (As := [.null, .null, .int (nI 0), .int (nI 0)]) (rest := []) (fi_J1 l dC dI dA n adK adV fm us sb a hna 0) xki_X12_1 rfl rfl ⟨Nat.le_of_ble_eq_true rfl, Nat.le_of_ble_eq_true rfl⟩ hl.1 (Nat.le_of_ble_eq_true rfl) dX12_init_5 ⟨Nat.le_of_ble_eq_true rfl, Nat.le_of_ble_eq_true rfl⟩) hS (fun q h => h) (fun q h => h) (fun _ H locs _ hV hz1 hk1 hS => ?_)
  refine lv_aload_n X.1 X.2.1 dX12_init_8 rfl (lv_at hl 0 rfl) ?_
  refine lv_iload_n X.1 X.2.1 dX12_init_9 rfl (lv_at hl 1 rfl) ?_
  refine xc_putF (T := TX12) (NN := 7) (ci := 12) X in_X12 tyX12 tyX12_ok nmX12 rfl hV hS rfl 6 (by decide) q503 rfl rfl hnm rfl rfl rfl (by decide) dX12_init_10 (fun H locs hV _ _ hS => ?_)
  exact x_rv () X hr hlk hS dX12_init_13 trivial hV
