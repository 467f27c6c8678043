set_option maxRecDepth 100000
/-! the component and the Model are made -/
theorem xkin_X0_29 : xKIN RX0 "RentedViews" yX1_init cX1_init 1 29 0 := ⟨q93, q94, q62, q95, rfl, by decide +kernel⟩
theorem xkin_X0_57 : xKIN RX0 "RentedViews" yX3_init cX3_init 2 57 1 := ⟨q191, q192, q64, q193, rfl, by decide +kernel⟩
theorem xkin_X0_66 : xKIN RX0 "RentedViews" yX4_init cX4_init 2 66 1 := ⟨q217, q218, q65, q219, rfl, by decide +kernel⟩
section WSZ
variable {p : Program} {l : Launch} {e : Env} {R : Room} {s : State} {m : MethodId} {args : Array Value} {below : List Frame} {meth : Method} {c_ : Code} {H : Heap} {locs : List Loc} {cells slots mc ms : Nat} {Q : State → Prop}
variable {cc : ByteArray} {pc nL : Nat} {ls : Array Slot} {rest st0 : List Value} {dC : Nat → ClassId} {dI : Nat → Nat → Nat} {dA : Nat → ClassId} {H0 : Heap} {own : String} {A : Nat → Prop}
/-- no more cells than are counted -/
theorem W.sz {g : JFrame} (kk : H.size ≤ s.heap.size + cells → W p l e R s m args below meth c_ H locs cells slots Q g) : W p l e R s m args below meth c_ H locs cells slots Q g := fun T hT X => by
  have h : T.heap.size ≤ s.heap.size + cells := X.same.2.2.1
  rw [hT] at h
  exact kk h T hT X
end WSZ
theorem bkA_out {b o n q : Nat} (hq : bkA (b + o) n q) (h : 44 ≤ o) : ¬ bkA (b + 1) 43 q := fun z => by
  have h1 := hq.1
  have h2 := z.2
  omega
theorem bkA_out0 {b q : Nat} (hq : bkA b 1 q) : ¬ bkA (b + 1) 43 q := fun z => by
  have h1 := hq.2
  have h2 := z.1
  omega
theorem sh_zero (c : Nat) : shR c 0 0 0 0 0 0 (fun _ => 0) (fun _ _ => 0) := ⟨⟨by omega, by omega, by omega, by omega⟩, ⟨rfl, rfl, rfl, rfl⟩, ⟨rfl, rfl, rfl, rfl⟩, fun _ h => absurd h (by omega), fun _ h => absurd h (by omega), fun _ h => absurd h (by omega), ⟨by omega, by omega, rfl, rfl, rfl, rfl, rfl, fun _ h => absurd h (by omega), fun _ h => absurd h (by omega), fun _ h => absurd h (by omega), fun _ h => absurd h (by omega)⟩, fun _ h => absurd h (by omega)⟩
theorem xi_X3 (l : Launch) (dC : Nat → ClassId) (dI : Nat → Nat → Nat) (dA : Nat → ClassId) (a : Nat) (x : Nat) : Met l yX3_init (ws_ yX3_init cX3_init 2 none) { frames := 1, cells := 0, slots := 0, locals := 60 } (xPc dC dI dA (fun H => H.size = a + 1 ∧ va_at (dC, dI) rvCl (a, .inr (3, [.int 0, .int 0, .int 0, .int 0, .int 0, .null])) H) [.ref a, .ref x]) (xEv (fun H => bkP dC dI a 1 (fun _ => .inr (3, [.int 0, .int 0, .int 0, .int 0, .int 0, .ref x])) H ∧ H.size = a + 1) (fun q => a ≤ q)) 0 0 (fun q => a ≤ q) := by
  refine x_in (by decide) rfl (Nat.le_of_ble_eq_true rfl) (lv := [(0, .ref a), (1, .ref x)]) rfl ?_
  intro p e s m below meth c_ X hN hnm hr hlk hPP ls hl
  obtain ⟨hsz, hV⟩ := hPP
  have hS : va_S (fun q => a ≤ q) s.heap s.heap [] := va_S.rf
  have p0 : bkP dC dI a 1 (fun _ => .inr (3, [.int 0, .int 0, .int 0, .int 0, .int 0, .null])) s.heap := bk_1 hV
  refine lv_aload_n X.1 X.2.1 dX3_init_0 rfl (lv_at hl 0 rfl) ?_
  refine lv_aload_n X.1 X.2.1 dX3_init_1 rfl (lv_at hl 1 rfl) ?_
  refine xc_putF (C := RX3) (T := TX3) X in_X3 tyX3 tyX3_ok nmX3 (ci := 3) rfl (show va_at (dC, dI) rvCl (a, .inr (3, [.int 0, .int 0, .int 0, .int 0, .int 0, .null])) _ from p0 0 (by decide)) hS (show a ≤ a from Nat.le_refl _) 5 (by decide) q200 rfl rfl hnm rfl rfl rfl (Nat.le_of_ble_eq_true rfl) dX3_init_2 (fun H locs hV1 hz1 ho1 hS => ?_)
  have p0 : bkP dC dI a 1 (fun _ => .inr (3, [.int 0, .int 0, .int 0, .int 0, .int 0, .ref x])) H := bk_1 hV1
  have hsz := hz1.trans hsz
  refine lv_aload_n X.1 X.2.1 dX3_init_5 rfl (lv_at hl 0 rfl) ?_
  refine W.objInit X.1 X.2.1 X.2.2.2.1 (X.2.2.2.2.1 _ q194) (X.2.2.2.2.1 _ q89) (X.2.2.2.2.1 _ q90) rfl (hl.1.trans X.2.2.1.symm) rfl dX3_init_6 (Nat.le_of_ble_eq_true rfl) (Nat.le_of_ble_eq_true rfl) ?_
  exact x_rv () X hr hlk hS dX3_init_9 trivial ⟨p0, hsz⟩
theorem xi_X4 (l : Launch) (dC : Nat → ClassId) (dI : Nat → Nat → Nat) (dA : Nat → ClassId) (a : Nat) (x : Nat) : Met l yX4_init (ws_ yX4_init cX4_init 2 none) { frames := 1, cells := 2, slots := 12, locals := 60 } (xPc dC dI dA (fun H => H.size = a + 1 ∧ va_at (dC, dI) rvCl (a, .inr (4, [.null, .null, .int 0, .int 0, .int 0, .null])) H) [.ref a, .ref x]) (xEv (fun H => bkP dC dI a 3 (fun j => if j = 0 then .inr (4, [.ref (a + 1), .ref (a + 2), .int 0, .int 0, .int 0, .ref x]) else xI dA 6 (fun _ => 0)) H ∧ H.size = a + 3) (fun q => a ≤ q)) 2 12 (fun q => a ≤ q) := by
  refine x_in (by decide) rfl (Nat.le_of_ble_eq_true rfl) (lv := [(0, .ref a), (1, .ref x)]) rfl ?_
  intro p e s m below meth c_ X hN hnm hr hlk hPP ls hl
  obtain ⟨hsz, hV⟩ := hPP
  have hS : va_S (fun q => a ≤ q) s.heap s.heap [] := va_S.rf
  have p0 : bkP dC dI a 1 (fun _ => .inr (4, [.null, .null, .int 0, .int 0, .int 0, .null])) s.heap := bk_1 hV
  refine lv_aload_n X.1 X.2.1 dX4_init_0 rfl (lv_at hl 0 rfl) ?_
  refine lv_aload_n X.1 X.2.1 dX4_init_1 rfl (lv_at hl 1 rfl) ?_
  refine xc_putF (C := RX4) (T := TX4) X in_X4 tyX4 tyX4_ok nmX4 (ci := 4) rfl (show va_at (dC, dI) rvCl (a, .inr (4, [.null, .null, .int 0, .int 0, .int 0, .null])) _ from p0 0 (by decide)) hS (show a ≤ a from Nat.le_refl _) 5 (by decide) q229 rfl rfl hnm rfl rfl rfl (Nat.le_of_ble_eq_true rfl) dX4_init_2 (fun H locs hV1 hz1 ho1 hS => ?_)
  have p0 : bkP dC dI a 1 (fun _ => .inr (4, [.null, .null, .int 0, .int 0, .int 0, .ref x])) H := bk_1 hV1
  have hsz := hz1.trans hsz
  refine lv_aload_n X.1 X.2.1 dX4_init_5 rfl (lv_at hl 0 rfl) ?_
  refine W.objInit X.1 X.2.1 X.2.2.2.1 (X.2.2.2.2.1 _ q220) (X.2.2.2.2.1 _ q89) (X.2.2.2.2.1 _ q90) rfl (hl.1.trans X.2.2.1.symm) rfl dX4_init_6 (Nat.le_of_ble_eq_true rfl) (Nat.le_of_ble_eq_true rfl) ?_
  refine lv_aload_n X.1 X.2.1 dX4_init_9 rfl (lv_at hl 0 rfl) ?_
  refine lv_bipush (v := nI 6) X.1 X.2.1 dX4_init_10 rfl ?_
  refine xb_newa (b := a + 1) (N := 0) (t := 0) (fty := .int) X q135 rfl rfl (fun _ h => h) rfl bk_0 hsz hS (n := 6) (by decide) (by decide) (Nat.le_of_ble_eq_true rfl) (Nat.le_of_ble_eq_true rfl) dX4_init_12 (fun H hP0 hsz ho hS => ?_)
  have p0 := p0.kept (fun q hq => ho q (bk_sz p0 hq))
  have p1 : bkP dC dI (a + 1) 1 (fun _ => .inl (dA 0, 6, .inl (fun _ => 0))) H := bk_1 (hP0 0 Nat.zero_lt_one)
  have hsz : H.size = a + 2 := hsz
  refine xc_putF (C := RX4) (T := TX4) X in_X4 tyX4 tyX4_ok nmX4 (ci := 4) rfl (show va_at (dC, dI) rvCl (a, .inr (4, [.null, .null, .int 0, .int 0, .int 0, .ref x])) _ from p0 0 (by decide)) hS (show a ≤ a from Nat.le_refl _) 0 (by decide) q221 rfl rfl hnm rfl rfl rfl (Nat.le_of_ble_eq_true rfl) dX4_init_14 (fun H locs hV1 hz1 ho1 hS => ?_)
  have p1 := p1.kept (fun q hq => ho1 q (bkA_neb hq (by decide)))
  have p0 : bkP dC dI a 1 (fun _ => .inr (4, [.ref (a + 1), .null, .int 0, .int 0, .int 0, .ref x])) H := bk_1 hV1
  have hsz := hz1.trans hsz
  refine lv_aload_n X.1 X.2.1 dX4_init_17 rfl (lv_at hl 0 rfl) ?_
  refine lv_bipush (v := nI 6) X.1 X.2.1 dX4_init_18 rfl ?_
  refine xb_newa (b := a + 2) (N := 0) (t := 0) (fty := .int) X q135 rfl rfl (fun _ h => h) rfl bk_0 hsz hS (n := 6) (by decide) (by decide) (Nat.le_of_ble_eq_true rfl) (Nat.le_of_ble_eq_true rfl) dX4_init_20 (fun H hP0 hsz ho hS => ?_)
  have p0 := p0.kept (fun q hq => ho q (bk_sz p0 hq))
  have p1 := p1.kept (fun q hq => ho q (bk_sz p1 hq))
  have p2 : bkP dC dI (a + 2) 1 (fun _ => .inl (dA 0, 6, .inl (fun _ => 0))) H := bk_1 (hP0 0 Nat.zero_lt_one)
  have hsz : H.size = a + 3 := hsz
  refine xc_putF (C := RX4) (T := TX4) X in_X4 tyX4 tyX4_ok nmX4 (ci := 4) rfl (show va_at (dC, dI) rvCl (a, .inr (4, [.ref (a + 1), .null, .int 0, .int 0, .int 0, .ref x])) _ from p0 0 (by decide)) hS (show a ≤ a from Nat.le_refl _) 1 (by decide) q222 rfl rfl hnm rfl rfl rfl (Nat.le_of_ble_eq_true rfl) dX4_init_22 (fun H locs hV1 hz1 ho1 hS => ?_)
  have p1 := p1.kept (fun q hq => ho1 q (bkA_neb hq (by decide)))
  have p2 := p2.kept (fun q hq => ho1 q (bkA_neb hq (by decide)))
  have p0 : bkP dC dI a 1 (fun _ => .inr (4, [.ref (a + 1), .ref (a + 2), .int 0, .int 0, .int 0, .ref x])) H := bk_1 hV1
  have hsz := hz1.trans hsz
  exact x_rv () X hr hlk hS dX4_init_25 trivial ⟨(fun j hj => by match j, hj with | 0, _ => exact p0 0 (by decide) | 1, _ => exact p1 0 (by decide) | 2, _ => exact p2 0 (by decide) | (_ + 3), h => exact absurd h (Nat.not_lt.mpr (Nat.le_add_left 3 _))), hsz⟩
theorem xsz_ {a b c n : Nat} (h0 : a = n + 1) (h1 : b = n + 96) (h2 : b ≤ c) (h3 : c ≤ a + 95) : c = n + 96 := by omega
set_option maxHeartbeats 4000000 in
theorem xi_X0 (l : Launch) (dC : Nat → ClassId) (dI : Nat → Nat → Nat) (dA : Nat → ClassId) (n : Nat) : Met l yX0_init (ws_ yX0_init cX0_init 1 none) { frames := 3, cells := 95, slots := 1315, locals := 180 } (xPc dC dI dA (fun H => H.size = n + 1 ∧ va_at (dC, dI) rvCl (n, .inr (0, [.null, .null, .null, .null, .int 0, .null, .long 0, .long 0, .null, .null, .int 0, .int 0, .null, .null])) H) [.ref n]) (xQv (S := mdT) (fun u => shR 0 0 0 0 0 0 0 (fun _ => 0) u) (fun u H => bkP dC dI n 96 (xE dA n (mdI (fun _ _ => 0) 1 43 u) (fun _ => none) (fun _ => none) (fun _ => none) 0 1) H ∧ H.size = n + 96) (fun q => n ≤ q)) 95 1315 (fun q => n ≤ q) := by
  refine x_in (by decide) rfl (Nat.le_of_ble_eq_true rfl) (lv := [(0, .ref n)]) rfl ?_
  intro p e s m below meth c_ X hN hnm hr hlk hPP ls hl
  obtain ⟨hsz, hV⟩ := hPP
  have hsz0 := hsz
  have hS : va_S (fun q => n ≤ q) s.heap s.heap [] := va_S.rf
  have p0 : bkP dC dI n 1 (fun _ => .inr (0, [.null, .null, .null, .null, .int 0, .null, .long 0, .long 0, .null, .null, .int 0, .int 0, .null, .null])) s.heap := bk_1 hV
  refine lv_aload_n X.1 X.2.1 dX0_init_0 rfl (lv_at hl 0 rfl) ?_
  refine W.objInit X.1 X.2.1 X.2.2.2.1 (X.2.2.2.2.1 _ q88) (X.2.2.2.2.1 _ q89) (X.2.2.2.2.1 _ q90) rfl (hl.1.trans X.2.2.1.symm) rfl dX0_init_1 (Nat.le_of_ble_eq_true rfl) (Nat.le_of_ble_eq_true rfl) ?_
  refine lv_aload_n X.1 X.2.1 dX0_init_4 rfl (lv_at hl 0 rfl) ?_
  refine xb_new (b := n + 1) (N := 0) (C := RX1) (T := TX1) (NN := 11) (ci := 1) X in_X1 tyX1 tyX1_ok rfl q91 q92 q62 bk_0 hsz hS (fs := [.null, .null, .int 0, .null, .null, .int 0, .null, .int 0, .null, .null, .int 0]) (fun j hj => by match j, hj with | 0, _ => rfl | 1, _ => rfl | 2, _ => rfl | 3, _ => rfl | 4, _ => rfl | 5, _ => rfl | 6, _ => rfl | 7, _ => rfl | 8, _ => rfl | 9, _ => rfl | 10, _ => rfl) (Nat.le_of_ble_eq_true rfl) (Nat.le_of_ble_eq_true rfl) dX0_init_5 (fun H hP0 hsz ho hS => ?_)
  have p0 := p0.kept (fun q hq => ho q (bk_sz p0 hq))
  have p1 : bkP dC dI (n + 1) 1 (fun _ => .inr (1, [.null, .null, .int 0, .null, .null, .int 0, .null, .int 0, .null, .null, .int 0])) H := bk_1 (hP0 0 Nat.zero_lt_one)
  have hsz : H.size = n + 2 := hsz
  refine lv_dup X.1 X.2.1 dX0_init_8 rfl ?_
  refine x_cWv (x_runIN X hN (b := n + 1) ⟨hsz, (p1 0 (by decide))⟩ (As := []) (rest := [.ref (n + 1), .ref n]) (xi_X1 l dC dI dA (n + 1)) xkin_X0_29 rfl rfl ⟨Nat.le_of_ble_eq_true rfl, Nat.le_of_ble_eq_true rfl⟩ hl.1 (Nat.le_of_ble_eq_true rfl) dX0_init_9 ⟨Nat.le_of_ble_eq_true rfl, Nat.le_of_ble_eq_true rfl⟩) hS (fun q h => Nat.le_trans (Nat.le_add_right n 1) h) (fun q h => Nat.le_trans (Nat.le_add_right n 1) h) (fun _ H locs _ hQ1 hz1 hk1 hS => ?_)
  have p0 := p0.kept (fun q hq => hk1 q (bk_sz p0 hq) (bkA_lt0 hq (by decide)))
  have p1 := hQ1.1
  have hsz : H.size = n + 44 := hQ1.2
  refine xc_putF (C := RX0) (T := TX0) X in_X0 tyX0 tyX0_ok nmX0 (ci := 0) rfl (show va_at (dC, dI) rvCl (n, .inr (0, [.null, .null, .null, .null, .int 0, .null, .long 0, .long 0, .null, .null, .int 0, .int 0, .null, .null])) _ from p0 0 (by decide)) hS (show n ≤ n from Nat.le_refl _) 0 (by decide) q248 rfl rfl hnm rfl rfl rfl (Nat.le_of_ble_eq_true rfl) dX0_init_12 (fun H locs hV1 hz1 ho1 hS => ?_)
  have p1 := p1.kept (fun q hq => ho1 q (bkA_neb hq (by decide)))
  have p0 : bkP dC dI n 1 (fun _ => .inr (0, [.ref (n + 1), .null, .null, .null, .int 0, .null, .long 0, .long 0, .null, .null, .int 0, .int 0, .null, .null])) H := bk_1 hV1
  have hsz := hz1.trans hsz
  refine lv_aload_n X.1 X.2.1 dX0_init_15 rfl (lv_at hl 0 rfl) ?_
  refine xb_new (b := n + 44) (N := 0) (C := RX1) (T := TX1) (NN := 11) (ci := 1) X in_X1 tyX1 tyX1_ok rfl q91 q92 q62 bk_0 hsz hS (fs := [.null, .null, .int 0, .null, .null, .int 0, .null, .int 0, .null, .null, .int 0]) (fun j hj => by match j, hj with | 0, _ => rfl | 1, _ => rfl | 2, _ => rfl | 3, _ => rfl | 4, _ => rfl | 5, _ => rfl | 6, _ => rfl | 7, _ => rfl | 8, _ => rfl | 9, _ => rfl | 10, _ => rfl) (Nat.le_of_ble_eq_true rfl) (Nat.le_of_ble_eq_true rfl) dX0_init_16 (fun H hP0 hsz ho hS => ?_)
  have p0 := p0.kept (fun q hq => ho q (bk_sz p0 hq))
  have p1 := p1.kept (fun q hq => ho q (bk_sz p1 hq))
  have p44 : bkP dC dI (n + 44) 1 (fun _ => .inr (1, [.null, .null, .int 0, .null, .null, .int 0, .null, .int 0, .null, .null, .int 0])) H := bk_1 (hP0 0 Nat.zero_lt_one)
  have hsz : H.size = n + 45 := hsz
  refine lv_dup X.1 X.2.1 dX0_init_19 rfl ?_
  refine x_cWv (x_runIN X hN (b := n + 44) ⟨hsz, (p44 0 (by decide))⟩ (As := []) (rest := [.ref (n + 44), .ref n]) (xi_X1 l dC dI dA (n + 44)) xkin_X0_29 rfl rfl ⟨Nat.le_of_ble_eq_true rfl, Nat.le_of_ble_eq_true rfl⟩ hl.1 (Nat.le_of_ble_eq_true rfl) dX0_init_20 ⟨Nat.le_of_ble_eq_true rfl, Nat.le_of_ble_eq_true rfl⟩) hS (fun q h => Nat.le_trans (Nat.le_add_right n 44) h) (fun q h => Nat.le_trans (Nat.le_add_right n 44) h) (fun _ H locs _ hQ1 hz1 hk1 hS => ?_)
  have p0 := p0.kept (fun q hq => hk1 q (bk_sz p0 hq) (bkA_lt0 hq (by decide)))
  have p1 := p1.kept (fun q hq => hk1 q (bk_sz p1 hq) (bkA_lt hq (by decide)))
  have p44 := hQ1.1
  have hsz : H.size = n + 87 := hQ1.2
  refine xc_putF (C := RX0) (T := TX0) X in_X0 tyX0 tyX0_ok nmX0 (ci := 0) rfl (show va_at (dC, dI) rvCl (n, .inr (0, [.ref (n + 1), .null, .null, .null, .int 0, .null, .long 0, .long 0, .null, .null, .int 0, .int 0, .null, .null])) _ from p0 0 (by decide)) hS (show n ≤ n from Nat.le_refl _) 1 (by decide) q249 rfl rfl hnm rfl rfl rfl (Nat.le_of_ble_eq_true rfl) dX0_init_23 (fun H locs hV1 hz1 ho1 hS => ?_)
  have p1 := p1.kept (fun q hq => ho1 q (bkA_neb hq (by decide)))
  have p44 := p44.kept (fun q hq => ho1 q (bkA_neb hq (by decide)))
  have p0 : bkP dC dI n 1 (fun _ => .inr (0, [.ref (n + 1), .ref (n + 44), .null, .null, .int 0, .null, .long 0, .long 0, .null, .null, .int 0, .int 0, .null, .null])) H := bk_1 hV1
  have hsz := hz1.trans hsz
  refine lv_aload_n X.1 X.2.1 dX0_init_26 rfl (lv_at hl 0 rfl) ?_
  refine lv_iconst (v := nI 2) X.1 X.2.1 dX0_init_27 rfl ?_
  refine xb_newq (b := n + 87) (N := 0) (C := RX1) (t := 5) X q91 (x_nest hN q188 rfl) rfl bk_0 hsz hS (n := 2) (by decide) (Nat.le_of_ble_eq_true rfl) (Nat.le_of_ble_eq_true rfl) dX0_init_28 (fun H hP0 hsz ho hS => ?_)
  have p0 := p0.kept (fun q hq => ho q (bk_sz p0 hq))
  have p1 := p1.kept (fun q hq => ho q (bk_sz p1 hq))
  have p44 := p44.kept (fun q hq => ho q (bk_sz p44 hq))
  have p87 : bkP dC dI (n + 87) 1 (fun _ => xQ dA 5 2 (fun _ => none)) H := bk_1 (hP0 0 Nat.zero_lt_one)
  have hsz : H.size = n + 88 := hsz
  refine xc_putF (C := RX0) (T := TX0) X in_X0 tyX0 tyX0_ok nmX0 (ci := 0) rfl (show va_at (dC, dI) rvCl (n, .inr (0, [.ref (n + 1), .ref (n + 44), .null, .null, .int 0, .null, .long 0, .long 0, .null, .null, .int 0, .int 0, .null, .null])) _ from p0 0 (by decide)) hS (show n ≤ n from Nat.le_refl _) 2 (by decide) q251 rfl rfl hnm rfl rfl rfl (Nat.le_of_ble_eq_true rfl) dX0_init_31 (fun H locs hV1 hz1 ho1 hS => ?_)
  have p1 := p1.kept (fun q hq => ho1 q (bkA_neb hq (by decide)))
  have p44 := p44.kept (fun q hq => ho1 q (bkA_neb hq (by decide)))
  have p87 := p87.kept (fun q hq => ho1 q (bkA_neb hq (by decide)))
  have p0 : bkP dC dI n 1 (fun _ => .inr (0, [.ref (n + 1), .ref (n + 44), .ref (n + 87), .null, .int 0, .null, .long 0, .long 0, .null, .null, .int 0, .int 0, .null, .null])) H := bk_1 hV1
  have hsz := hz1.trans hsz
  refine lv_aload_n X.1 X.2.1 dX0_init_34 rfl (lv_at hl 0 rfl) ?_
  refine lv_sipush (v := nI 150) X.1 X.2.1 dX0_init_35 rfl ?_
  refine xb_newa (b := n + 88) (N := 0) (t := 2) (fty := .byte) X q214 rfl rfl (fun _ h => h) rfl bk_0 hsz hS (n := 150) (by decide) (by decide) (Nat.le_of_ble_eq_true rfl) (Nat.le_of_ble_eq_true rfl) dX0_init_38 (fun H hP0 hsz ho hS => ?_)
  have p0 := p0.kept (fun q hq => ho q (bk_sz p0 hq))
  have p1 := p1.kept (fun q hq => ho q (bk_sz p1 hq))
  have p44 := p44.kept (fun q hq => ho q (bk_sz p44 hq))
  have p87 := p87.kept (fun q hq => ho q (bk_sz p87 hq))
  have p88 : bkP dC dI (n + 88) 1 (fun _ => .inl (dA 2, 150, .inl (fun _ => 0))) H := bk_1 (hP0 0 Nat.zero_lt_one)
  have hsz : H.size = n + 89 := hsz
  refine xc_putF (C := RX0) (T := TX0) X in_X0 tyX0 tyX0_ok nmX0 (ci := 0) rfl (show va_at (dC, dI) rvCl (n, .inr (0, [.ref (n + 1), .ref (n + 44), .ref (n + 87), .null, .int 0, .null, .long 0, .long 0, .null, .null, .int 0, .int 0, .null, .null])) _ from p0 0 (by decide)) hS (show n ≤ n from Nat.le_refl _) 3 (by decide) q253 rfl rfl hnm rfl rfl rfl (Nat.le_of_ble_eq_true rfl) dX0_init_40 (fun H locs hV1 hz1 ho1 hS => ?_)
  have p1 := p1.kept (fun q hq => ho1 q (bkA_neb hq (by decide)))
  have p44 := p44.kept (fun q hq => ho1 q (bkA_neb hq (by decide)))
  have p87 := p87.kept (fun q hq => ho1 q (bkA_neb hq (by decide)))
  have p88 := p88.kept (fun q hq => ho1 q (bkA_neb hq (by decide)))
  have p0 : bkP dC dI n 1 (fun _ => .inr (0, [.ref (n + 1), .ref (n + 44), .ref (n + 87), .ref (n + 88), .int 0, .null, .long 0, .long 0, .null, .null, .int 0, .int 0, .null, .null])) H := bk_1 hV1
  have hsz := hz1.trans hsz
  refine lv_aload_n X.1 X.2.1 dX0_init_43 rfl (lv_at hl 0 rfl) ?_
  refine lv_iconst (v := nI 3) X.1 X.2.1 dX0_init_44 rfl ?_
  refine xb_newa (b := n + 89) (N := 0) (t := 0) (fty := .int) X q135 rfl rfl (fun _ h => h) rfl bk_0 hsz hS (n := 3) (by decide) (by decide) (Nat.le_of_ble_eq_true rfl) (Nat.le_of_ble_eq_true rfl) dX0_init_45 (fun H hP0 hsz ho hS => ?_)
  have p0 := p0.kept (fun q hq => ho q (bk_sz p0 hq))
  have p1 := p1.kept (fun q hq => ho q (bk_sz p1 hq))
  have p44 := p44.kept (fun q hq => ho q (bk_sz p44 hq))
  have p87 := p87.kept (fun q hq => ho q (bk_sz p87 hq))
  have p88 := p88.kept (fun q hq => ho q (bk_sz p88 hq))
  have p89 : bkP dC dI (n + 89) 1 (fun _ => .inl (dA 0, 3, .inl (fun _ => 0))) H := bk_1 (hP0 0 Nat.zero_lt_one)
  have hsz : H.size = n + 90 := hsz
  refine xc_putF (C := RX0) (T := TX0) X in_X0 tyX0 tyX0_ok nmX0 (ci := 0) rfl (show va_at (dC, dI) rvCl (n, .inr (0, [.ref (n + 1), .ref (n + 44), .ref (n + 87), .ref (n + 88), .int 0, .null, .long 0, .long 0, .null, .null, .int 0, .int 0, .null, .null])) _ from p0 0 (by decide)) hS (show n ≤ n from Nat.le_refl _) 5 (by decide) q256 rfl rfl hnm rfl rfl rfl (Nat.le_of_ble_eq_true rfl) dX0_init_47 (fun H locs hV1 hz1 ho1 hS => ?_)
  have p1 := p1.kept (fun q hq => ho1 q (bkA_neb hq (by decide)))
  have p44 := p44.kept (fun q hq => ho1 q (bkA_neb hq (by decide)))
  have p87 := p87.kept (fun q hq => ho1 q (bkA_neb hq (by decide)))
  have p88 := p88.kept (fun q hq => ho1 q (bkA_neb hq (by decide)))
  have p89 := p89.kept (fun q hq => ho1 q (bkA_neb hq (by decide)))
  have p0 : bkP dC dI n 1 (fun _ => .inr (0, [.ref (n + 1), .ref (n + 44), .ref (n + 87), .ref (n + 88), .int 0, .ref (n + 89), .long 0, .long 0, .null, .null, .int 0, .int 0, .null, .null])) H := bk_1 hV1
  have hsz := hz1.trans hsz
  refine lv_aload_n X.1 X.2.1 dX0_init_50 rfl (lv_at hl 0 rfl) ?_
  refine lv_lconst (v := 1) X.1 X.2.1 dX0_init_51 rfl ?_
  refine xc_put (C := RX0) (T := TX0) X in_X0 tyX0 tyX0_ok nmX0 (ci := 0) rfl (show va_at (dC, dI) rvCl (n, .inr (0, [.ref (n + 1), .ref (n + 44), .ref (n + 87), .ref (n + 88), .int 0, .ref (n + 89), .long 0, .long 0, .null, .null, .int 0, .int 0, .null, .null])) _ from p0 0 (by decide)) hS (show n ≤ n from Nat.le_refl _) 7 (by decide) q258 rfl rfl rfl rfl rfl (Nat.le_of_ble_eq_true rfl) dX0_init_52 (fun H locs hV1 hz1 ho1 hS => ?_)
  have p1 := p1.kept (fun q hq => ho1 q (bkA_neb hq (by decide)))
  have p44 := p44.kept (fun q hq => ho1 q (bkA_neb hq (by decide)))
  have p87 := p87.kept (fun q hq => ho1 q (bkA_neb hq (by decide)))
  have p88 := p88.kept (fun q hq => ho1 q (bkA_neb hq (by decide)))
  have p89 := p89.kept (fun q hq => ho1 q (bkA_neb hq (by decide)))
  have p0 : bkP dC dI n 1 (fun _ => .inr (0, [.ref (n + 1), .ref (n + 44), .ref (n + 87), .ref (n + 88), .int 0, .ref (n + 89), .long 0, .long 1, .null, .null, .int 0, .int 0, .null, .null])) H := bk_1 hV1
  have hsz := hz1.trans hsz
  refine lv_aload_n X.1 X.2.1 dX0_init_55 rfl (lv_at hl 0 rfl) ?_
  refine xb_new (b := n + 90) (N := 0) (C := RX3) (T := TX3) (NN := 6) (ci := 3) X in_X3 tyX3 tyX3_ok rfl q189 q190 q64 bk_0 hsz hS (fs := [.int 0, .int 0, .int 0, .int 0, .int 0, .null]) (fun j hj => by match j, hj with | 0, _ => rfl | 1, _ => rfl | 2, _ => rfl | 3, _ => rfl | 4, _ => rfl | 5, _ => rfl) (Nat.le_of_ble_eq_true rfl) (Nat.le_of_ble_eq_true rfl) dX0_init_56 (fun H hP0 hsz ho hS => ?_)
  have p0 := p0.kept (fun q hq => ho q (bk_sz p0 hq))
  have p1 := p1.kept (fun q hq => ho q (bk_sz p1 hq))
  have p44 := p44.kept (fun q hq => ho q (bk_sz p44 hq))
  have p87 := p87.kept (fun q hq => ho q (bk_sz p87 hq))
  have p88 := p88.kept (fun q hq => ho q (bk_sz p88 hq))
  have p89 := p89.kept (fun q hq => ho q (bk_sz p89 hq))
  have p90 : bkP dC dI (n + 90) 1 (fun _ => .inr (3, [.int 0, .int 0, .int 0, .int 0, .int 0, .null])) H := bk_1 (hP0 0 Nat.zero_lt_one)
  have hsz : H.size = n + 91 := hsz
  refine lv_dup X.1 X.2.1 dX0_init_59 rfl ?_
  refine lv_aload_n X.1 X.2.1 dX0_init_60 rfl (lv_at hl 0 rfl) ?_
  refine x_cWv (x_runIN X hN (b := n + 90) ⟨hsz, (p90 0 (by decide))⟩ (As := [.ref n]) (rest := [.ref (n + 90), .ref n]) (xi_X3 l dC dI dA (n + 90) n) xkin_X0_57 rfl rfl ⟨Nat.le_of_ble_eq_true rfl, Nat.le_of_ble_eq_true rfl⟩ hl.1 (Nat.le_of_ble_eq_true rfl) dX0_init_61 ⟨Nat.le_of_ble_eq_true rfl, Nat.le_of_ble_eq_true rfl⟩) hS (fun q h => Nat.le_trans (Nat.le_add_right n 90) h) (fun q h => Nat.le_trans (Nat.le_add_right n 90) h) (fun _ H locs _ hQ1 hz1 hk1 hS => ?_)
  have p0 := p0.kept (fun q hq => hk1 q (bk_sz p0 hq) (bkA_lt0 hq (by decide)))
  have p1 := p1.kept (fun q hq => hk1 q (bk_sz p1 hq) (bkA_lt hq (by decide)))
  have p44 := p44.kept (fun q hq => hk1 q (bk_sz p44 hq) (bkA_lt hq (by decide)))
  have p87 := p87.kept (fun q hq => hk1 q (bk_sz p87 hq) (bkA_lt hq (by decide)))
  have p88 := p88.kept (fun q hq => hk1 q (bk_sz p88 hq) (bkA_lt hq (by decide)))
  have p89 := p89.kept (fun q hq => hk1 q (bk_sz p89 hq) (bkA_lt hq (by decide)))
  have p90 := hQ1.1
  have hsz : H.size = n + 91 := hQ1.2
  refine xc_putF (C := RX0) (T := TX0) X in_X0 tyX0 tyX0_ok nmX0 (ci := 0) rfl (show va_at (dC, dI) rvCl (n, .inr (0, [.ref (n + 1), .ref (n + 44), .ref (n + 87), .ref (n + 88), .int 0, .ref (n + 89), .long 0, .long 1, .null, .null, .int 0, .int 0, .null, .null])) _ from p0 0 (by decide)) hS (show n ≤ n from Nat.le_refl _) 8 (by decide) q259 rfl rfl hnm rfl rfl rfl (Nat.le_of_ble_eq_true rfl) dX0_init_64 (fun H locs hV1 hz1 ho1 hS => ?_)
  have p1 := p1.kept (fun q hq => ho1 q (bkA_neb hq (by decide)))
  have p44 := p44.kept (fun q hq => ho1 q (bkA_neb hq (by decide)))
  have p87 := p87.kept (fun q hq => ho1 q (bkA_neb hq (by decide)))
  have p88 := p88.kept (fun q hq => ho1 q (bkA_neb hq (by decide)))
  have p89 := p89.kept (fun q hq => ho1 q (bkA_neb hq (by decide)))
  have p90 := p90.kept (fun q hq => ho1 q (bkA_neb hq (by decide)))
  have p0 : bkP dC dI n 1 (fun _ => .inr (0, [.ref (n + 1), .ref (n + 44), .ref (n + 87), .ref (n + 88), .int 0, .ref (n + 89), .long 0, .long 1, .ref (n + 90), .null, .int 0, .int 0, .null, .null])) H := bk_1 hV1
  have hsz := hz1.trans hsz
  refine lv_aload_n X.1 X.2.1 dX0_init_67 rfl (lv_at hl 0 rfl) ?_
  refine xb_new (b := n + 91) (N := 0) (C := RX4) (T := TX4) (NN := 6) (ci := 4) X in_X4 tyX4 tyX4_ok rfl q215 q216 q65 bk_0 hsz hS (fs := [.null, .null, .int 0, .int 0, .int 0, .null]) (fun j hj => by match j, hj with | 0, _ => rfl | 1, _ => rfl | 2, _ => rfl | 3, _ => rfl | 4, _ => rfl | 5, _ => rfl) (Nat.le_of_ble_eq_true rfl) (Nat.le_of_ble_eq_true rfl) dX0_init_68 (fun H hP0 hsz ho hS => ?_)
  have p0 := p0.kept (fun q hq => ho q (bk_sz p0 hq))
  have p1 := p1.kept (fun q hq => ho q (bk_sz p1 hq))
  have p44 := p44.kept (fun q hq => ho q (bk_sz p44 hq))
  have p87 := p87.kept (fun q hq => ho q (bk_sz p87 hq))
  have p88 := p88.kept (fun q hq => ho q (bk_sz p88 hq))
  have p89 := p89.kept (fun q hq => ho q (bk_sz p89 hq))
  have p90 := p90.kept (fun q hq => ho q (bk_sz p90 hq))
  have p91 : bkP dC dI (n + 91) 1 (fun _ => .inr (4, [.null, .null, .int 0, .int 0, .int 0, .null])) H := bk_1 (hP0 0 Nat.zero_lt_one)
  have hsz : H.size = n + 92 := hsz
  refine lv_dup X.1 X.2.1 dX0_init_71 rfl ?_
  refine lv_aload_n X.1 X.2.1 dX0_init_72 rfl (lv_at hl 0 rfl) ?_
  refine x_cWv (x_runIN X hN (b := n + 91) ⟨hsz, (p91 0 (by decide))⟩ (As := [.ref n]) (rest := [.ref (n + 91), .ref n]) (xi_X4 l dC dI dA (n + 91) n) xkin_X0_66 rfl rfl ⟨Nat.le_of_ble_eq_true rfl, Nat.le_of_ble_eq_true rfl⟩ hl.1 (Nat.le_of_ble_eq_true rfl) dX0_init_73 ⟨Nat.le_of_ble_eq_true rfl, Nat.le_of_ble_eq_true rfl⟩) hS (fun q h => Nat.le_trans (Nat.le_add_right n 91) h) (fun q h => Nat.le_trans (Nat.le_add_right n 91) h) (fun _ H locs _ hQ1 hz1 hk1 hS => ?_)
  have p0 := p0.kept (fun q hq => hk1 q (bk_sz p0 hq) (bkA_lt0 hq (by decide)))
  have p1 := p1.kept (fun q hq => hk1 q (bk_sz p1 hq) (bkA_lt hq (by decide)))
  have p44 := p44.kept (fun q hq => hk1 q (bk_sz p44 hq) (bkA_lt hq (by decide)))
  have p87 := p87.kept (fun q hq => hk1 q (bk_sz p87 hq) (bkA_lt hq (by decide)))
  have p88 := p88.kept (fun q hq => hk1 q (bk_sz p88 hq) (bkA_lt hq (by decide)))
  have p89 := p89.kept (fun q hq => hk1 q (bk_sz p89 hq) (bkA_lt hq (by decide)))
  have p90 := p90.kept (fun q hq => hk1 q (bk_sz p90 hq) (bkA_lt hq (by decide)))
  have p91 := hQ1.1
  have hsz : H.size = n + 94 := hQ1.2
  refine xc_putF (C := RX0) (T := TX0) X in_X0 tyX0 tyX0_ok nmX0 (ci := 0) rfl (show va_at (dC, dI) rvCl (n, .inr (0, [.ref (n + 1), .ref (n + 44), .ref (n + 87), .ref (n + 88), .int 0, .ref (n + 89), .long 0, .long 1, .ref (n + 90), .null, .int 0, .int 0, .null, .null])) _ from p0 0 (by decide)) hS (show n ≤ n from Nat.le_refl _) 9 (by decide) q260 rfl rfl hnm rfl rfl rfl (Nat.le_of_ble_eq_true rfl) dX0_init_76 (fun H locs hV1 hz1 ho1 hS => ?_)
  have p1 := p1.kept (fun q hq => ho1 q (bkA_neb hq (by decide)))
  have p44 := p44.kept (fun q hq => ho1 q (bkA_neb hq (by decide)))
  have p87 := p87.kept (fun q hq => ho1 q (bkA_neb hq (by decide)))
  have p88 := p88.kept (fun q hq => ho1 q (bkA_neb hq (by decide)))
  have p89 := p89.kept (fun q hq => ho1 q (bkA_neb hq (by decide)))
  have p90 := p90.kept (fun q hq => ho1 q (bkA_neb hq (by decide)))
  have p91 := p91.kept (fun q hq => ho1 q (bkA_neb hq (by decide)))
  have p0 : bkP dC dI n 1 (fun _ => .inr (0, [.ref (n + 1), .ref (n + 44), .ref (n + 87), .ref (n + 88), .int 0, .ref (n + 89), .long 0, .long 1, .ref (n + 90), .ref (n + 91), .int 0, .int 0, .null, .null])) H := bk_1 hV1
  have hsz := hz1.trans hsz
  refine lv_aload_n X.1 X.2.1 dX0_init_79 rfl (lv_at hl 0 rfl) ?_
  refine lv_bipush (v := nI 36) X.1 X.2.1 dX0_init_80 rfl ?_
  refine xb_newa (b := n + 94) (N := 0) (t := 1) (fty := .boolean) X q294 rfl rfl (fun _ h => h) rfl bk_0 hsz hS (n := 36) (by decide) (by decide) (Nat.le_of_ble_eq_true rfl) (Nat.le_of_ble_eq_true rfl) dX0_init_82 (fun H hP0 hsz ho hS => ?_)
  have p0 := p0.kept (fun q hq => ho q (bk_sz p0 hq))
  have p1 := p1.kept (fun q hq => ho q (bk_sz p1 hq))
  have p44 := p44.kept (fun q hq => ho q (bk_sz p44 hq))
  have p87 := p87.kept (fun q hq => ho q (bk_sz p87 hq))
  have p88 := p88.kept (fun q hq => ho q (bk_sz p88 hq))
  have p89 := p89.kept (fun q hq => ho q (bk_sz p89 hq))
  have p90 := p90.kept (fun q hq => ho q (bk_sz p90 hq))
  have p91 := p91.kept (fun q hq => ho q (bk_sz p91 hq))
  have p94 : bkP dC dI (n + 94) 1 (fun _ => .inl (dA 1, 36, .inl (fun _ => 0))) H := bk_1 (hP0 0 Nat.zero_lt_one)
  have hsz : H.size = n + 95 := hsz
  refine xc_putF (C := RX0) (T := TX0) X in_X0 tyX0 tyX0_ok nmX0 (ci := 0) rfl (show va_at (dC, dI) rvCl (n, .inr (0, [.ref (n + 1), .ref (n + 44), .ref (n + 87), .ref (n + 88), .int 0, .ref (n + 89), .long 0, .long 1, .ref (n + 90), .ref (n + 91), .int 0, .int 0, .null, .null])) _ from p0 0 (by decide)) hS (show n ≤ n from Nat.le_refl _) 12 (by decide) q263 rfl rfl hnm rfl rfl rfl (Nat.le_of_ble_eq_true rfl) dX0_init_84 (fun H locs hV1 hz1 ho1 hS => ?_)
  have p1 := p1.kept (fun q hq => ho1 q (bkA_neb hq (by decide)))
  have p44 := p44.kept (fun q hq => ho1 q (bkA_neb hq (by decide)))
  have p87 := p87.kept (fun q hq => ho1 q (bkA_neb hq (by decide)))
  have p88 := p88.kept (fun q hq => ho1 q (bkA_neb hq (by decide)))
  have p89 := p89.kept (fun q hq => ho1 q (bkA_neb hq (by decide)))
  have p90 := p90.kept (fun q hq => ho1 q (bkA_neb hq (by decide)))
  have p91 := p91.kept (fun q hq => ho1 q (bkA_neb hq (by decide)))
  have p94 := p94.kept (fun q hq => ho1 q (bkA_neb hq (by decide)))
  have p0 : bkP dC dI n 1 (fun _ => .inr (0, [.ref (n + 1), .ref (n + 44), .ref (n + 87), .ref (n + 88), .int 0, .ref (n + 89), .long 0, .long 1, .ref (n + 90), .ref (n + 91), .int 0, .int 0, .ref (n + 94), .null])) H := bk_1 hV1
  have hsz := hz1.trans hsz
  refine lv_aload_n X.1 X.2.1 dX0_init_87 rfl (lv_at hl 0 rfl) ?_
  refine lv_bipush (v := nI 6) X.1 X.2.1 dX0_init_88 rfl ?_
  refine xb_newa (b := n + 95) (N := 0) (t := 0) (fty := .int) X q135 rfl rfl (fun _ h => h) rfl bk_0 hsz hS (n := 6) (by decide) (by decide) (Nat.le_of_ble_eq_true rfl) (Nat.le_of_ble_eq_true rfl) dX0_init_90 (fun H hP0 hsz ho hS => ?_)
  have p0 := p0.kept (fun q hq => ho q (bk_sz p0 hq))
  have p1 := p1.kept (fun q hq => ho q (bk_sz p1 hq))
  have p44 := p44.kept (fun q hq => ho q (bk_sz p44 hq))
  have p87 := p87.kept (fun q hq => ho q (bk_sz p87 hq))
  have p88 := p88.kept (fun q hq => ho q (bk_sz p88 hq))
  have p89 := p89.kept (fun q hq => ho q (bk_sz p89 hq))
  have p90 := p90.kept (fun q hq => ho q (bk_sz p90 hq))
  have p91 := p91.kept (fun q hq => ho q (bk_sz p91 hq))
  have p94 := p94.kept (fun q hq => ho q (bk_sz p94 hq))
  have p95 : bkP dC dI (n + 95) 1 (fun _ => .inl (dA 0, 6, .inl (fun _ => 0))) H := bk_1 (hP0 0 Nat.zero_lt_one)
  have hsz : H.size = n + 96 := hsz
  refine xc_putF (C := RX0) (T := TX0) X in_X0 tyX0 tyX0_ok nmX0 (ci := 0) rfl (show va_at (dC, dI) rvCl (n, .inr (0, [.ref (n + 1), .ref (n + 44), .ref (n + 87), .ref (n + 88), .int 0, .ref (n + 89), .long 0, .long 1, .ref (n + 90), .ref (n + 91), .int 0, .int 0, .ref (n + 94), .null])) _ from p0 0 (by decide)) hS (show n ≤ n from Nat.le_refl _) 13 (by decide) q264 rfl rfl hnm rfl rfl rfl (Nat.le_of_ble_eq_true rfl) dX0_init_92 (fun H locs hV1 hz1 ho1 hS => ?_)
  have p1 := p1.kept (fun q hq => ho1 q (bkA_neb hq (by decide)))
  have p44 := p44.kept (fun q hq => ho1 q (bkA_neb hq (by decide)))
  have p87 := p87.kept (fun q hq => ho1 q (bkA_neb hq (by decide)))
  have p88 := p88.kept (fun q hq => ho1 q (bkA_neb hq (by decide)))
  have p89 := p89.kept (fun q hq => ho1 q (bkA_neb hq (by decide)))
  have p90 := p90.kept (fun q hq => ho1 q (bkA_neb hq (by decide)))
  have p91 := p91.kept (fun q hq => ho1 q (bkA_neb hq (by decide)))
  have p94 := p94.kept (fun q hq => ho1 q (bkA_neb hq (by decide)))
  have p95 := p95.kept (fun q hq => ho1 q (bkA_neb hq (by decide)))
  have p0 : bkP dC dI n 1 (fun _ => .inr (0, [.ref (n + 1), .ref (n + 44), .ref (n + 87), .ref (n + 88), .int 0, .ref (n + 89), .long 0, .long 1, .ref (n + 90), .ref (n + 91), .int 0, .int 0, .ref (n + 94), .ref (n + 95)])) H := bk_1 hV1
  have hsz := hz1.trans hsz
  refine lv_aload_n X.1 X.2.1 dX0_init_95 rfl (lv_at hl 0 rfl) ?_
  refine xb_get (C := RX0) (T := TX0) (v := .ref (n + 1)) X in_X0 (ci := 0) rfl p0 (j := 0) (by decide) rfl 0 (by decide) q248 rfl rfl dX0_init_96 ?_
  refine x_cWv (x_runV X hN p1 (As := []) (rest := []) (x_X1_begins l dC dI dA (n + 1) (fun _ _ => 0) (fun _ => none) 0 (fun _ => 0)) xkv_X0_78 (x_recv (ci := 1) X.2.2.2.2.2 p1 (j := 0) (by decide) (xe_s0 ..) rfl) rfl rfl ⟨Nat.le_of_ble_eq_true rfl, Nat.le_of_ble_eq_true rfl⟩ hl.1 (Nat.le_of_ble_eq_true rfl) dX0_init_99 ⟨Nat.le_of_ble_eq_true rfl, Nat.le_of_ble_eq_true rfl⟩) hS (fun q h => Nat.le_trans (Nat.le_succ n) h.1) (fun q h => Nat.le_trans (Nat.le_succ n) h.1) (fun u H locs hu hQ1 hz1 hk1 hS => ?_)
  have p0 := p0.kept (fun q hq => hk1 q (bk_sz p0 hq) (bkA_out0 hq))
  have p44 := p44.kept (fun q hq => hk1 q (bk_sz p44 hq) (bkA_out hq (by decide)))
  have p87 := p87.kept (fun q hq => hk1 q (bk_sz p87 hq) (bkA_out hq (by decide)))
  have p88 := p88.kept (fun q hq => hk1 q (bk_sz p88 hq) (bkA_out hq (by decide)))
  have p89 := p89.kept (fun q hq => hk1 q (bk_sz p89 hq) (bkA_out hq (by decide)))
  have p90 := p90.kept (fun q hq => hk1 q (bk_sz p90 hq) (bkA_out hq (by decide)))
  have p91 := p91.kept (fun q hq => hk1 q (bk_sz p91 hq) (bkA_out hq (by decide)))
  have p94 := p94.kept (fun q hq => hk1 q (bk_sz p94 hq) (bkA_out hq (by decide)))
  have p95 := p95.kept (fun q hq => hk1 q (bk_sz p95 hq) (bkA_out hq (by decide)))
  have p1 := hQ1
  refine W.sz (fun hsz2 => ?_)
  exact x_rv u X hr hlk hS dX0_init_102 (hu.cg (fun _ _ => rfl) (fun k _ => by show (0 : Int32) = if k < 115 then 0 else 0; split <;> rfl)) ⟨(fun j hj => by match j, hj with | 0, _ => exact p0 0 (by decide) | 1, _ => exact p1 0 (by decide) | 2, _ => exact p1 1 (by decide) | 3, _ => exact p1 2 (by decide) | 4, _ => exact p1 3 (by decide) | 5, _ => exact p1 4 (by decide) | 6, _ => exact p1 5 (by decide) | 7, _ => exact p1 6 (by decide) | 8, _ => exact p1 7 (by decide) | 9, _ => exact p1 8 (by decide) | 10, _ => exact p1 9 (by decide) | 11, _ => exact p1 10 (by decide) | 12, _ => exact p1 11 (by decide) | 13, _ => exact p1 12 (by decide) | 14, _ => exact p1 13 (by decide) | 15, _ => exact p1 14 (by decide) | 16, _ => exact p1 15 (by decide) | 17, _ => exact p1 16 (by decide) | 18, _ => exact p1 17 (by decide) | 19, _ => exact p1 18 (by decide) | 20, _ => exact p1 19 (by decide) | 21, _ => exact p1 20 (by decide) | 22, _ => exact p1 21 (by decide) | 23, _ => exact p1 22 (by decide) | 24, _ => exact p1 23 (by decide) | 25, _ => exact p1 24 (by decide) | 26, _ => exact p1 25 (by decide) | 27, _ => exact p1 26 (by decide) | 28, _ => exact p1 27 (by decide) | 29, _ => exact p1 28 (by decide) | 30, _ => exact p1 29 (by decide) | 31, _ => exact p1 30 (by decide) | 32, _ => exact p1 31 (by decide) | 33, _ => exact p1 32 (by decide) | 34, _ => exact p1 33 (by decide) | 35, _ => exact p1 34 (by decide) | 36, _ => exact p1 35 (by decide) | 37, _ => exact p1 36 (by decide) | 38, _ => exact p1 37 (by decide) | 39, _ => exact p1 38 (by decide) | 40, _ => exact p1 39 (by decide) | 41, _ => exact p1 40 (by decide) | 42, _ => exact p1 41 (by decide) | 43, _ => exact p1 42 (by decide) | 44, _ => exact p44 0 (by decide) | 45, _ => exact p44 1 (by decide) | 46, _ => exact p44 2 (by decide) | 47, _ => exact p44 3 (by decide) | 48, _ => exact p44 4 (by decide) | 49, _ => exact p44 5 (by decide) | 50, _ => exact p44 6 (by decide) | 51, _ => exact p44 7 (by decide) | 52, _ => exact p44 8 (by decide) | 53, _ => exact p44 9 (by decide) | 54, _ => exact p44 10 (by decide) | 55, _ => exact p44 11 (by decide) | 56, _ => exact p44 12 (by decide) | 57, _ => exact p44 13 (by decide) | 58, _ => exact p44 14 (by decide) | 59, _ => exact p44 15 (by decide) | 60, _ => exact p44 16 (by decide) | 61, _ => exact p44 17 (by decide) | 62, _ => exact p44 18 (by decide) | 63, _ => exact p44 19 (by decide) | 64, _ => exact p44 20 (by decide) | 65, _ => exact p44 21 (by decide) | 66, _ => exact p44 22 (by decide) | 67, _ => exact p44 23 (by decide) | 68, _ => exact p44 24 (by decide) | 69, _ => exact p44 25 (by decide) | 70, _ => exact p44 26 (by decide) | 71, _ => exact p44 27 (by decide) | 72, _ => exact p44 28 (by decide) | 73, _ => exact p44 29 (by decide) | 74, _ => exact p44 30 (by decide) | 75, _ => exact p44 31 (by decide) | 76, _ => exact p44 32 (by decide) | 77, _ => exact p44 33 (by decide) | 78, _ => exact p44 34 (by decide) | 79, _ => exact p44 35 (by decide) | 80, _ => exact p44 36 (by decide) | 81, _ => exact p44 37 (by decide) | 82, _ => exact p44 38 (by decide) | 83, _ => exact p44 39 (by decide) | 84, _ => exact p44 40 (by decide) | 85, _ => exact p44 41 (by decide) | 86, _ => exact p44 42 (by decide) | 87, _ => exact p87 0 (by decide) | 88, _ => exact p88 0 (by decide) | 89, _ => exact p89 0 (by decide) | 90, _ => exact p90 0 (by decide) | 91, _ => exact p91 0 (by decide) | 92, _ => exact p91 1 (by decide) | 93, _ => exact p91 2 (by decide) | 94, _ => exact p94 0 (by decide) | 95, _ => exact p95 0 (by decide) | (_ + 96), h => exact absurd h (Nat.not_lt.mpr (Nat.le_add_left 96 _))), xsz_ hsz0 hsz hz1 hsz2⟩
set_option maxHeartbeats 4000000 in
theorem xi_X5 (l : Launch) (dC : Nat → ClassId) (dI : Nat → Nat → Nat) (dA : Nat → ClassId) (n : Nat) : Met l yX5_init (ws_ yX5_init cX5_init 1 none) { frames := 1, cells := 15, slots := 1897, locals := 60 } (xPc dC dI dA (fun H => H.size = n + 1 ∧ va_at (dC, dI) rvCl (n, .inr (5, [.null, .null, .null, .null, .long 0, .long 0, .null, .int 0, .null, .null, .null, .null, .null, .null, .int 0, .int 0, .int 0, .int 0, .null, .null, .int 0, .int 0, .int 0, .int 0, .int 0, .null, .null])) H) [.ref n]) (xEv (fun H => mdP dC dI dA n (fun _ _ => 0) 0 1 H ∧ H.size = n + 16) (fun q => n ≤ q)) 15 1897 (fun q => n ≤ q) := by
  refine x_in (by decide) rfl (Nat.le_of_ble_eq_true rfl) (lv := [(0, .ref n)]) rfl ?_
  intro p e s m below meth c_ X hN hnm hr hlk hPP ls hl
  obtain ⟨hsz, hV⟩ := hPP
  have hS : va_S (fun q => n ≤ q) s.heap s.heap [] := va_S.rf
  have p0 : bkP dC dI n 1 (fun _ => .inr (5, [.null, .null, .null, .null, .long 0, .long 0, .null, .int 0, .null, .null, .null, .null, .null, .null, .int 0, .int 0, .int 0, .int 0, .null, .null, .int 0, .int 0, .int 0, .int 0, .int 0, .null, .null])) s.heap := bk_1 hV
  refine lv_aload_n X.1 X.2.1 dX5_init_0 rfl (lv_at hl 0 rfl) ?_
  refine W.objInit X.1 X.2.1 X.2.2.2.1 (X.2.2.2.2.1 _ q896) (X.2.2.2.2.1 _ q89) (X.2.2.2.2.1 _ q90) rfl (hl.1.trans X.2.2.1.symm) rfl dX5_init_1 (Nat.le_of_ble_eq_true rfl) (Nat.le_of_ble_eq_true rfl) ?_
  refine lv_aload_n X.1 X.2.1 dX5_init_4 rfl (lv_at hl 0 rfl) ?_
  refine lv_sipush (v := nI 523) X.1 X.2.1 dX5_init_5 rfl ?_
  refine xb_newa (b := n + 1) (N := 0) (t := 0) (fty := .int) X q135 rfl rfl (fun _ h => h) rfl bk_0 hsz hS (n := 523) (by decide) (by decide) (Nat.le_of_ble_eq_true rfl) (Nat.le_of_ble_eq_true rfl) dX5_init_8 (fun H hP0 hsz ho hS => ?_)
  have p0 := p0.kept (fun q hq => ho q (bk_sz p0 hq))
  have p1 : bkP dC dI (n + 1) 1 (fun _ => .inl (dA 0, 523, .inl (fun _ => 0))) H := bk_1 (hP0 0 Nat.zero_lt_one)
  have hsz : H.size = n + 2 := hsz
  refine xc_putF (C := RX5) (T := TX5) X in_X5 tyX5 tyX5_ok nmX5 (ci := 5) rfl (show va_at (dC, dI) rvCl (n, .inr (5, [.null, .null, .null, .null, .long 0, .long 0, .null, .int 0, .null, .null, .null, .null, .null, .null, .int 0, .int 0, .int 0, .int 0, .null, .null, .int 0, .int 0, .int 0, .int 0, .int 0, .null, .null])) _ from p0 0 (by decide)) hS (show n ≤ n from Nat.le_refl _) 0 (by decide) q897 rfl rfl hnm rfl rfl rfl (Nat.le_of_ble_eq_true rfl) dX5_init_10 (fun H locs hV1 hz1 ho1 hS => ?_)
  have p1 := p1.kept (fun q hq => ho1 q (bkA_neb hq (by decide)))
  have p0 : bkP dC dI n 1 (fun _ => .inr (5, [.ref (n + 1), .null, .null, .null, .long 0, .long 0, .null, .int 0, .null, .null, .null, .null, .null, .null, .int 0, .int 0, .int 0, .int 0, .null, .null, .int 0, .int 0, .int 0, .int 0, .int 0, .null, .null])) H := bk_1 hV1
  have hsz := hz1.trans hsz
  refine lv_aload_n X.1 X.2.1 dX5_init_13 rfl (lv_at hl 0 rfl) ?_
  refine lv_sipush (v := nI 1046) X.1 X.2.1 dX5_init_14 rfl ?_
  refine xb_newa (b := n + 2) (N := 0) (t := 0) (fty := .int) X q135 rfl rfl (fun _ h => h) rfl bk_0 hsz hS (n := 1046) (by decide) (by decide) (Nat.le_of_ble_eq_true rfl) (Nat.le_of_ble_eq_true rfl) dX5_init_17 (fun H hP0 hsz ho hS => ?_)
  have p0 := p0.kept (fun q hq => ho q (bk_sz p0 hq))
  have p1 := p1.kept (fun q hq => ho q (bk_sz p1 hq))
  have p2 : bkP dC dI (n + 2) 1 (fun _ => .inl (dA 0, 1046, .inl (fun _ => 0))) H := bk_1 (hP0 0 Nat.zero_lt_one)
  have hsz : H.size = n + 3 := hsz
  refine xc_putF (C := RX5) (T := TX5) X in_X5 tyX5 tyX5_ok nmX5 (ci := 5) rfl (show va_at (dC, dI) rvCl (n, .inr (5, [.ref (n + 1), .null, .null, .null, .long 0, .long 0, .null, .int 0, .null, .null, .null, .null, .null, .null, .int 0, .int 0, .int 0, .int 0, .null, .null, .int 0, .int 0, .int 0, .int 0, .int 0, .null, .null])) _ from p0 0 (by decide)) hS (show n ≤ n from Nat.le_refl _) 1 (by decide) q898 rfl rfl hnm rfl rfl rfl (Nat.le_of_ble_eq_true rfl) dX5_init_19 (fun H locs hV1 hz1 ho1 hS => ?_)
  have p1 := p1.kept (fun q hq => ho1 q (bkA_neb hq (by decide)))
  have p2 := p2.kept (fun q hq => ho1 q (bkA_neb hq (by decide)))
  have p0 : bkP dC dI n 1 (fun _ => .inr (5, [.ref (n + 1), .ref (n + 2), .null, .null, .long 0, .long 0, .null, .int 0, .null, .null, .null, .null, .null, .null, .int 0, .int 0, .int 0, .int 0, .null, .null, .int 0, .int 0, .int 0, .int 0, .int 0, .null, .null])) H := bk_1 hV1
  have hsz := hz1.trans hsz
  refine lv_aload_n X.1 X.2.1 dX5_init_22 rfl (lv_at hl 0 rfl) ?_
  refine lv_iconst (v := nI 2) X.1 X.2.1 dX5_init_23 rfl ?_
  refine xb_newa (b := n + 3) (N := 0) (t := 1) (fty := .boolean) X q294 rfl rfl (fun _ h => h) rfl bk_0 hsz hS (n := 2) (by decide) (by decide) (Nat.le_of_ble_eq_true rfl) (Nat.le_of_ble_eq_true rfl) dX5_init_24 (fun H hP0 hsz ho hS => ?_)
  have p0 := p0.kept (fun q hq => ho q (bk_sz p0 hq))
  have p1 := p1.kept (fun q hq => ho q (bk_sz p1 hq))
  have p2 := p2.kept (fun q hq => ho q (bk_sz p2 hq))
  have p3 : bkP dC dI (n + 3) 1 (fun _ => .inl (dA 1, 2, .inl (fun _ => 0))) H := bk_1 (hP0 0 Nat.zero_lt_one)
  have hsz : H.size = n + 4 := hsz
  refine xc_putF (C := RX5) (T := TX5) X in_X5 tyX5 tyX5_ok nmX5 (ci := 5) rfl (show va_at (dC, dI) rvCl (n, .inr (5, [.ref (n + 1), .ref (n + 2), .null, .null, .long 0, .long 0, .null, .int 0, .null, .null, .null, .null, .null, .null, .int 0, .int 0, .int 0, .int 0, .null, .null, .int 0, .int 0, .int 0, .int 0, .int 0, .null, .null])) _ from p0 0 (by decide)) hS (show n ≤ n from Nat.le_refl _) 2 (by decide) q899 rfl rfl hnm rfl rfl rfl (Nat.le_of_ble_eq_true rfl) dX5_init_26 (fun H locs hV1 hz1 ho1 hS => ?_)
  have p1 := p1.kept (fun q hq => ho1 q (bkA_neb hq (by decide)))
  have p2 := p2.kept (fun q hq => ho1 q (bkA_neb hq (by decide)))
  have p3 := p3.kept (fun q hq => ho1 q (bkA_neb hq (by decide)))
  have p0 : bkP dC dI n 1 (fun _ => .inr (5, [.ref (n + 1), .ref (n + 2), .ref (n + 3), .null, .long 0, .long 0, .null, .int 0, .null, .null, .null, .null, .null, .null, .int 0, .int 0, .int 0, .int 0, .null, .null, .int 0, .int 0, .int 0, .int 0, .int 0, .null, .null])) H := bk_1 hV1
  have hsz := hz1.trans hsz
  refine lv_aload_n X.1 X.2.1 dX5_init_29 rfl (lv_at hl 0 rfl) ?_
  refine lv_iconst (v := nI 3) X.1 X.2.1 dX5_init_30 rfl ?_
  refine xb_newa (b := n + 4) (N := 0) (t := 0) (fty := .int) X q135 rfl rfl (fun _ h => h) rfl bk_0 hsz hS (n := 3) (by decide) (by decide) (Nat.le_of_ble_eq_true rfl) (Nat.le_of_ble_eq_true rfl) dX5_init_31 (fun H hP0 hsz ho hS => ?_)
  have p0 := p0.kept (fun q hq => ho q (bk_sz p0 hq))
  have p1 := p1.kept (fun q hq => ho q (bk_sz p1 hq))
  have p2 := p2.kept (fun q hq => ho q (bk_sz p2 hq))
  have p3 := p3.kept (fun q hq => ho q (bk_sz p3 hq))
  have p4 : bkP dC dI (n + 4) 1 (fun _ => .inl (dA 0, 3, .inl (fun _ => 0))) H := bk_1 (hP0 0 Nat.zero_lt_one)
  have hsz : H.size = n + 5 := hsz
  refine xc_putF (C := RX5) (T := TX5) X in_X5 tyX5 tyX5_ok nmX5 (ci := 5) rfl (show va_at (dC, dI) rvCl (n, .inr (5, [.ref (n + 1), .ref (n + 2), .ref (n + 3), .null, .long 0, .long 0, .null, .int 0, .null, .null, .null, .null, .null, .null, .int 0, .int 0, .int 0, .int 0, .null, .null, .int 0, .int 0, .int 0, .int 0, .int 0, .null, .null])) _ from p0 0 (by decide)) hS (show n ≤ n from Nat.le_refl _) 3 (by decide) q900 rfl rfl hnm rfl rfl rfl (Nat.le_of_ble_eq_true rfl) dX5_init_33 (fun H locs hV1 hz1 ho1 hS => ?_)
  have p1 := p1.kept (fun q hq => ho1 q (bkA_neb hq (by decide)))
  have p2 := p2.kept (fun q hq => ho1 q (bkA_neb hq (by decide)))
  have p3 := p3.kept (fun q hq => ho1 q (bkA_neb hq (by decide)))
  have p4 := p4.kept (fun q hq => ho1 q (bkA_neb hq (by decide)))
  have p0 : bkP dC dI n 1 (fun _ => .inr (5, [.ref (n + 1), .ref (n + 2), .ref (n + 3), .ref (n + 4), .long 0, .long 0, .null, .int 0, .null, .null, .null, .null, .null, .null, .int 0, .int 0, .int 0, .int 0, .null, .null, .int 0, .int 0, .int 0, .int 0, .int 0, .null, .null])) H := bk_1 hV1
  have hsz := hz1.trans hsz
  refine lv_aload_n X.1 X.2.1 dX5_init_36 rfl (lv_at hl 0 rfl) ?_
  refine lv_lconst (v := 1) X.1 X.2.1 dX5_init_37 rfl ?_
  refine xc_put (C := RX5) (T := TX5) X in_X5 tyX5 tyX5_ok nmX5 (ci := 5) rfl (show va_at (dC, dI) rvCl (n, .inr (5, [.ref (n + 1), .ref (n + 2), .ref (n + 3), .ref (n + 4), .long 0, .long 0, .null, .int 0, .null, .null, .null, .null, .null, .null, .int 0, .int 0, .int 0, .int 0, .null, .null, .int 0, .int 0, .int 0, .int 0, .int 0, .null, .null])) _ from p0 0 (by decide)) hS (show n ≤ n from Nat.le_refl _) 5 (by decide) q902 rfl rfl rfl rfl rfl (Nat.le_of_ble_eq_true rfl) dX5_init_38 (fun H locs hV1 hz1 ho1 hS => ?_)
  have p1 := p1.kept (fun q hq => ho1 q (bkA_neb hq (by decide)))
  have p2 := p2.kept (fun q hq => ho1 q (bkA_neb hq (by decide)))
  have p3 := p3.kept (fun q hq => ho1 q (bkA_neb hq (by decide)))
  have p4 := p4.kept (fun q hq => ho1 q (bkA_neb hq (by decide)))
  have p0 : bkP dC dI n 1 (fun _ => .inr (5, [.ref (n + 1), .ref (n + 2), .ref (n + 3), .ref (n + 4), .long 0, .long 1, .null, .int 0, .null, .null, .null, .null, .null, .null, .int 0, .int 0, .int 0, .int 0, .null, .null, .int 0, .int 0, .int 0, .int 0, .int 0, .null, .null])) H := bk_1 hV1
  have hsz := hz1.trans hsz
  refine lv_aload_n X.1 X.2.1 dX5_init_41 rfl (lv_at hl 0 rfl) ?_
  refine lv_bipush (v := nI 6) X.1 X.2.1 dX5_init_42 rfl ?_
  refine xb_newa (b := n + 5) (N := 0) (t := 0) (fty := .int) X q135 rfl rfl (fun _ h => h) rfl bk_0 hsz hS (n := 6) (by decide) (by decide) (Nat.le_of_ble_eq_true rfl) (Nat.le_of_ble_eq_true rfl) dX5_init_44 (fun H hP0 hsz ho hS => ?_)
  have p0 := p0.kept (fun q hq => ho q (bk_sz p0 hq))
  have p1 := p1.kept (fun q hq => ho q (bk_sz p1 hq))
  have p2 := p2.kept (fun q hq => ho q (bk_sz p2 hq))
  have p3 := p3.kept (fun q hq => ho q (bk_sz p3 hq))
  have p4 := p4.kept (fun q hq => ho q (bk_sz p4 hq))
  have p5 : bkP dC dI (n + 5) 1 (fun _ => .inl (dA 0, 6, .inl (fun _ => 0))) H := bk_1 (hP0 0 Nat.zero_lt_one)
  have hsz : H.size = n + 6 := hsz
  refine xc_putF (C := RX5) (T := TX5) X in_X5 tyX5 tyX5_ok nmX5 (ci := 5) rfl (show va_at (dC, dI) rvCl (n, .inr (5, [.ref (n + 1), .ref (n + 2), .ref (n + 3), .ref (n + 4), .long 0, .long 1, .null, .int 0, .null, .null, .null, .null, .null, .null, .int 0, .int 0, .int 0, .int 0, .null, .null, .int 0, .int 0, .int 0, .int 0, .int 0, .null, .null])) _ from p0 0 (by decide)) hS (show n ≤ n from Nat.le_refl _) 6 (by decide) q903 rfl rfl hnm rfl rfl rfl (Nat.le_of_ble_eq_true rfl) dX5_init_46 (fun H locs hV1 hz1 ho1 hS => ?_)
  have p1 := p1.kept (fun q hq => ho1 q (bkA_neb hq (by decide)))
  have p2 := p2.kept (fun q hq => ho1 q (bkA_neb hq (by decide)))
  have p3 := p3.kept (fun q hq => ho1 q (bkA_neb hq (by decide)))
  have p4 := p4.kept (fun q hq => ho1 q (bkA_neb hq (by decide)))
  have p5 := p5.kept (fun q hq => ho1 q (bkA_neb hq (by decide)))
  have p0 : bkP dC dI n 1 (fun _ => .inr (5, [.ref (n + 1), .ref (n + 2), .ref (n + 3), .ref (n + 4), .long 0, .long 1, .ref (n + 5), .int 0, .null, .null, .null, .null, .null, .null, .int 0, .int 0, .int 0, .int 0, .null, .null, .int 0, .int 0, .int 0, .int 0, .int 0, .null, .null])) H := bk_1 hV1
  have hsz := hz1.trans hsz
  refine lv_aload_n X.1 X.2.1 dX5_init_49 rfl (lv_at hl 0 rfl) ?_
  refine lv_bipush (v := nI 7) X.1 X.2.1 dX5_init_50 rfl ?_
  refine xb_newa (b := n + 6) (N := 0) (t := 0) (fty := .int) X q135 rfl rfl (fun _ h => h) rfl bk_0 hsz hS (n := 7) (by decide) (by decide) (Nat.le_of_ble_eq_true rfl) (Nat.le_of_ble_eq_true rfl) dX5_init_52 (fun H hP0 hsz ho hS => ?_)
  have p0 := p0.kept (fun q hq => ho q (bk_sz p0 hq))
  have p1 := p1.kept (fun q hq => ho q (bk_sz p1 hq))
  have p2 := p2.kept (fun q hq => ho q (bk_sz p2 hq))
  have p3 := p3.kept (fun q hq => ho q (bk_sz p3 hq))
  have p4 := p4.kept (fun q hq => ho q (bk_sz p4 hq))
  have p5 := p5.kept (fun q hq => ho q (bk_sz p5 hq))
  have p6 : bkP dC dI (n + 6) 1 (fun _ => .inl (dA 0, 7, .inl (fun _ => 0))) H := bk_1 (hP0 0 Nat.zero_lt_one)
  have hsz : H.size = n + 7 := hsz
  refine xc_putF (C := RX5) (T := TX5) X in_X5 tyX5 tyX5_ok nmX5 (ci := 5) rfl (show va_at (dC, dI) rvCl (n, .inr (5, [.ref (n + 1), .ref (n + 2), .ref (n + 3), .ref (n + 4), .long 0, .long 1, .ref (n + 5), .int 0, .null, .null, .null, .null, .null, .null, .int 0, .int 0, .int 0, .int 0, .null, .null, .int 0, .int 0, .int 0, .int 0, .int 0, .null, .null])) _ from p0 0 (by decide)) hS (show n ≤ n from Nat.le_refl _) 8 (by decide) q905 rfl rfl hnm rfl rfl rfl (Nat.le_of_ble_eq_true rfl) dX5_init_54 (fun H locs hV1 hz1 ho1 hS => ?_)
  have p1 := p1.kept (fun q hq => ho1 q (bkA_neb hq (by decide)))
  have p2 := p2.kept (fun q hq => ho1 q (bkA_neb hq (by decide)))
  have p3 := p3.kept (fun q hq => ho1 q (bkA_neb hq (by decide)))
  have p4 := p4.kept (fun q hq => ho1 q (bkA_neb hq (by decide)))
  have p5 := p5.kept (fun q hq => ho1 q (bkA_neb hq (by decide)))
  have p6 := p6.kept (fun q hq => ho1 q (bkA_neb hq (by decide)))
  have p0 : bkP dC dI n 1 (fun _ => .inr (5, [.ref (n + 1), .ref (n + 2), .ref (n + 3), .ref (n + 4), .long 0, .long 1, .ref (n + 5), .int 0, .ref (n + 6), .null, .null, .null, .null, .null, .int 0, .int 0, .int 0, .int 0, .null, .null, .int 0, .int 0, .int 0, .int 0, .int 0, .null, .null])) H := bk_1 hV1
  have hsz := hz1.trans hsz
  refine lv_aload_n X.1 X.2.1 dX5_init_57 rfl (lv_at hl 0 rfl) ?_
  refine lv_bipush (v := nI 7) X.1 X.2.1 dX5_init_58 rfl ?_
  refine xb_newa (b := n + 7) (N := 0) (t := 0) (fty := .int) X q135 rfl rfl (fun _ h => h) rfl bk_0 hsz hS (n := 7) (by decide) (by decide) (Nat.le_of_ble_eq_true rfl) (Nat.le_of_ble_eq_true rfl) dX5_init_60 (fun H hP0 hsz ho hS => ?_)
  have p0 := p0.kept (fun q hq => ho q (bk_sz p0 hq))
  have p1 := p1.kept (fun q hq => ho q (bk_sz p1 hq))
  have p2 := p2.kept (fun q hq => ho q (bk_sz p2 hq))
  have p3 := p3.kept (fun q hq => ho q (bk_sz p3 hq))
  have p4 := p4.kept (fun q hq => ho q (bk_sz p4 hq))
  have p5 := p5.kept (fun q hq => ho q (bk_sz p5 hq))
  have p6 := p6.kept (fun q hq => ho q (bk_sz p6 hq))
  have p7 : bkP dC dI (n + 7) 1 (fun _ => .inl (dA 0, 7, .inl (fun _ => 0))) H := bk_1 (hP0 0 Nat.zero_lt_one)
  have hsz : H.size = n + 8 := hsz
  refine xc_putF (C := RX5) (T := TX5) X in_X5 tyX5 tyX5_ok nmX5 (ci := 5) rfl (show va_at (dC, dI) rvCl (n, .inr (5, [.ref (n + 1), .ref (n + 2), .ref (n + 3), .ref (n + 4), .long 0, .long 1, .ref (n + 5), .int 0, .ref (n + 6), .null, .null, .null, .null, .null, .int 0, .int 0, .int 0, .int 0, .null, .null, .int 0, .int 0, .int 0, .int 0, .int 0, .null, .null])) _ from p0 0 (by decide)) hS (show n ≤ n from Nat.le_refl _) 9 (by decide) q906 rfl rfl hnm rfl rfl rfl (Nat.le_of_ble_eq_true rfl) dX5_init_62 (fun H locs hV1 hz1 ho1 hS => ?_)
  have p1 := p1.kept (fun q hq => ho1 q (bkA_neb hq (by decide)))
  have p2 := p2.kept (fun q hq => ho1 q (bkA_neb hq (by decide)))
  have p3 := p3.kept (fun q hq => ho1 q (bkA_neb hq (by decide)))
  have p4 := p4.kept (fun q hq => ho1 q (bkA_neb hq (by decide)))
  have p5 := p5.kept (fun q hq => ho1 q (bkA_neb hq (by decide)))
  have p6 := p6.kept (fun q hq => ho1 q (bkA_neb hq (by decide)))
  have p7 := p7.kept (fun q hq => ho1 q (bkA_neb hq (by decide)))
  have p0 : bkP dC dI n 1 (fun _ => .inr (5, [.ref (n + 1), .ref (n + 2), .ref (n + 3), .ref (n + 4), .long 0, .long 1, .ref (n + 5), .int 0, .ref (n + 6), .ref (n + 7), .null, .null, .null, .null, .int 0, .int 0, .int 0, .int 0, .null, .null, .int 0, .int 0, .int 0, .int 0, .int 0, .null, .null])) H := bk_1 hV1
  have hsz := hz1.trans hsz
  refine lv_aload_n X.1 X.2.1 dX5_init_65 rfl (lv_at hl 0 rfl) ?_
  refine lv_bipush (v := nI 7) X.1 X.2.1 dX5_init_66 rfl ?_
  refine xb_newa (b := n + 8) (N := 0) (t := 0) (fty := .int) X q135 rfl rfl (fun _ h => h) rfl bk_0 hsz hS (n := 7) (by decide) (by decide) (Nat.le_of_ble_eq_true rfl) (Nat.le_of_ble_eq_true rfl) dX5_init_68 (fun H hP0 hsz ho hS => ?_)
  have p0 := p0.kept (fun q hq => ho q (bk_sz p0 hq))
  have p1 := p1.kept (fun q hq => ho q (bk_sz p1 hq))
  have p2 := p2.kept (fun q hq => ho q (bk_sz p2 hq))
  have p3 := p3.kept (fun q hq => ho q (bk_sz p3 hq))
  have p4 := p4.kept (fun q hq => ho q (bk_sz p4 hq))
  have p5 := p5.kept (fun q hq => ho q (bk_sz p5 hq))
  have p6 := p6.kept (fun q hq => ho q (bk_sz p6 hq))
  have p7 := p7.kept (fun q hq => ho q (bk_sz p7 hq))
  have p8 : bkP dC dI (n + 8) 1 (fun _ => .inl (dA 0, 7, .inl (fun _ => 0))) H := bk_1 (hP0 0 Nat.zero_lt_one)
  have hsz : H.size = n + 9 := hsz
  refine xc_putF (C := RX5) (T := TX5) X in_X5 tyX5 tyX5_ok nmX5 (ci := 5) rfl (show va_at (dC, dI) rvCl (n, .inr (5, [.ref (n + 1), .ref (n + 2), .ref (n + 3), .ref (n + 4), .long 0, .long 1, .ref (n + 5), .int 0, .ref (n + 6), .ref (n + 7), .null, .null, .null, .null, .int 0, .int 0, .int 0, .int 0, .null, .null, .int 0, .int 0, .int 0, .int 0, .int 0, .null, .null])) _ from p0 0 (by decide)) hS (show n ≤ n from Nat.le_refl _) 10 (by decide) q907 rfl rfl hnm rfl rfl rfl (Nat.le_of_ble_eq_true rfl) dX5_init_70 (fun H locs hV1 hz1 ho1 hS => ?_)
  have p1 := p1.kept (fun q hq => ho1 q (bkA_neb hq (by decide)))
  have p2 := p2.kept (fun q hq => ho1 q (bkA_neb hq (by decide)))
  have p3 := p3.kept (fun q hq => ho1 q (bkA_neb hq (by decide)))
  have p4 := p4.kept (fun q hq => ho1 q (bkA_neb hq (by decide)))
  have p5 := p5.kept (fun q hq => ho1 q (bkA_neb hq (by decide)))
  have p6 := p6.kept (fun q hq => ho1 q (bkA_neb hq (by decide)))
  have p7 := p7.kept (fun q hq => ho1 q (bkA_neb hq (by decide)))
  have p8 := p8.kept (fun q hq => ho1 q (bkA_neb hq (by decide)))
  have p0 : bkP dC dI n 1 (fun _ => .inr (5, [.ref (n + 1), .ref (n + 2), .ref (n + 3), .ref (n + 4), .long 0, .long 1, .ref (n + 5), .int 0, .ref (n + 6), .ref (n + 7), .ref (n + 8), .null, .null, .null, .int 0, .int 0, .int 0, .int 0, .null, .null, .int 0, .int 0, .int 0, .int 0, .int 0, .null, .null])) H := bk_1 hV1
  have hsz := hz1.trans hsz
  refine lv_aload_n X.1 X.2.1 dX5_init_73 rfl (lv_at hl 0 rfl) ?_
  refine lv_bipush (v := nI 7) X.1 X.2.1 dX5_init_74 rfl ?_
  refine xb_newa (b := n + 9) (N := 0) (t := 0) (fty := .int) X q135 rfl rfl (fun _ h => h) rfl bk_0 hsz hS (n := 7) (by decide) (by decide) (Nat.le_of_ble_eq_true rfl) (Nat.le_of_ble_eq_true rfl) dX5_init_76 (fun H hP0 hsz ho hS => ?_)
  have p0 := p0.kept (fun q hq => ho q (bk_sz p0 hq))
  have p1 := p1.kept (fun q hq => ho q (bk_sz p1 hq))
  have p2 := p2.kept (fun q hq => ho q (bk_sz p2 hq))
  have p3 := p3.kept (fun q hq => ho q (bk_sz p3 hq))
  have p4 := p4.kept (fun q hq => ho q (bk_sz p4 hq))
  have p5 := p5.kept (fun q hq => ho q (bk_sz p5 hq))
  have p6 := p6.kept (fun q hq => ho q (bk_sz p6 hq))
  have p7 := p7.kept (fun q hq => ho q (bk_sz p7 hq))
  have p8 := p8.kept (fun q hq => ho q (bk_sz p8 hq))
  have p9 : bkP dC dI (n + 9) 1 (fun _ => .inl (dA 0, 7, .inl (fun _ => 0))) H := bk_1 (hP0 0 Nat.zero_lt_one)
  have hsz : H.size = n + 10 := hsz
  refine xc_putF (C := RX5) (T := TX5) X in_X5 tyX5 tyX5_ok nmX5 (ci := 5) rfl (show va_at (dC, dI) rvCl (n, .inr (5, [.ref (n + 1), .ref (n + 2), .ref (n + 3), .ref (n + 4), .long 0, .long 1, .ref (n + 5), .int 0, .ref (n + 6), .ref (n + 7), .ref (n + 8), .null, .null, .null, .int 0, .int 0, .int 0, .int 0, .null, .null, .int 0, .int 0, .int 0, .int 0, .int 0, .null, .null])) _ from p0 0 (by decide)) hS (show n ≤ n from Nat.le_refl _) 11 (by decide) q908 rfl rfl hnm rfl rfl rfl (Nat.le_of_ble_eq_true rfl) dX5_init_78 (fun H locs hV1 hz1 ho1 hS => ?_)
  have p1 := p1.kept (fun q hq => ho1 q (bkA_neb hq (by decide)))
  have p2 := p2.kept (fun q hq => ho1 q (bkA_neb hq (by decide)))
  have p3 := p3.kept (fun q hq => ho1 q (bkA_neb hq (by decide)))
  have p4 := p4.kept (fun q hq => ho1 q (bkA_neb hq (by decide)))
  have p5 := p5.kept (fun q hq => ho1 q (bkA_neb hq (by decide)))
  have p6 := p6.kept (fun q hq => ho1 q (bkA_neb hq (by decide)))
  have p7 := p7.kept (fun q hq => ho1 q (bkA_neb hq (by decide)))
  have p8 := p8.kept (fun q hq => ho1 q (bkA_neb hq (by decide)))
  have p9 := p9.kept (fun q hq => ho1 q (bkA_neb hq (by decide)))
  have p0 : bkP dC dI n 1 (fun _ => .inr (5, [.ref (n + 1), .ref (n + 2), .ref (n + 3), .ref (n + 4), .long 0, .long 1, .ref (n + 5), .int 0, .ref (n + 6), .ref (n + 7), .ref (n + 8), .ref (n + 9), .null, .null, .int 0, .int 0, .int 0, .int 0, .null, .null, .int 0, .int 0, .int 0, .int 0, .int 0, .null, .null])) H := bk_1 hV1
  have hsz := hz1.trans hsz
  refine lv_aload_n X.1 X.2.1 dX5_init_81 rfl (lv_at hl 0 rfl) ?_
  refine lv_bipush (v := nI 7) X.1 X.2.1 dX5_init_82 rfl ?_
  refine xb_newa (b := n + 10) (N := 0) (t := 0) (fty := .int) X q135 rfl rfl (fun _ h => h) rfl bk_0 hsz hS (n := 7) (by decide) (by decide) (Nat.le_of_ble_eq_true rfl) (Nat.le_of_ble_eq_true rfl) dX5_init_84 (fun H hP0 hsz ho hS => ?_)
  have p0 := p0.kept (fun q hq => ho q (bk_sz p0 hq))
  have p1 := p1.kept (fun q hq => ho q (bk_sz p1 hq))
  have p2 := p2.kept (fun q hq => ho q (bk_sz p2 hq))
  have p3 := p3.kept (fun q hq => ho q (bk_sz p3 hq))
  have p4 := p4.kept (fun q hq => ho q (bk_sz p4 hq))
  have p5 := p5.kept (fun q hq => ho q (bk_sz p5 hq))
  have p6 := p6.kept (fun q hq => ho q (bk_sz p6 hq))
  have p7 := p7.kept (fun q hq => ho q (bk_sz p7 hq))
  have p8 := p8.kept (fun q hq => ho q (bk_sz p8 hq))
  have p9 := p9.kept (fun q hq => ho q (bk_sz p9 hq))
  have p10 : bkP dC dI (n + 10) 1 (fun _ => .inl (dA 0, 7, .inl (fun _ => 0))) H := bk_1 (hP0 0 Nat.zero_lt_one)
  have hsz : H.size = n + 11 := hsz
  refine xc_putF (C := RX5) (T := TX5) X in_X5 tyX5 tyX5_ok nmX5 (ci := 5) rfl (show va_at (dC, dI) rvCl (n, .inr (5, [.ref (n + 1), .ref (n + 2), .ref (n + 3), .ref (n + 4), .long 0, .long 1, .ref (n + 5), .int 0, .ref (n + 6), .ref (n + 7), .ref (n + 8), .ref (n + 9), .null, .null, .int 0, .int 0, .int 0, .int 0, .null, .null, .int 0, .int 0, .int 0, .int 0, .int 0, .null, .null])) _ from p0 0 (by decide)) hS (show n ≤ n from Nat.le_refl _) 12 (by decide) q909 rfl rfl hnm rfl rfl rfl (Nat.le_of_ble_eq_true rfl) dX5_init_86 (fun H locs hV1 hz1 ho1 hS => ?_)
  have p1 := p1.kept (fun q hq => ho1 q (bkA_neb hq (by decide)))
  have p2 := p2.kept (fun q hq => ho1 q (bkA_neb hq (by decide)))
  have p3 := p3.kept (fun q hq => ho1 q (bkA_neb hq (by decide)))
  have p4 := p4.kept (fun q hq => ho1 q (bkA_neb hq (by decide)))
  have p5 := p5.kept (fun q hq => ho1 q (bkA_neb hq (by decide)))
  have p6 := p6.kept (fun q hq => ho1 q (bkA_neb hq (by decide)))
  have p7 := p7.kept (fun q hq => ho1 q (bkA_neb hq (by decide)))
  have p8 := p8.kept (fun q hq => ho1 q (bkA_neb hq (by decide)))
  have p9 := p9.kept (fun q hq => ho1 q (bkA_neb hq (by decide)))
  have p10 := p10.kept (fun q hq => ho1 q (bkA_neb hq (by decide)))
  have p0 : bkP dC dI n 1 (fun _ => .inr (5, [.ref (n + 1), .ref (n + 2), .ref (n + 3), .ref (n + 4), .long 0, .long 1, .ref (n + 5), .int 0, .ref (n + 6), .ref (n + 7), .ref (n + 8), .ref (n + 9), .ref (n + 10), .null, .int 0, .int 0, .int 0, .int 0, .null, .null, .int 0, .int 0, .int 0, .int 0, .int 0, .null, .null])) H := bk_1 hV1
  have hsz := hz1.trans hsz
  refine lv_aload_n X.1 X.2.1 dX5_init_89 rfl (lv_at hl 0 rfl) ?_
  refine lv_bipush (v := nI 7) X.1 X.2.1 dX5_init_90 rfl ?_
  refine xb_newa (b := n + 11) (N := 0) (t := 0) (fty := .int) X q135 rfl rfl (fun _ h => h) rfl bk_0 hsz hS (n := 7) (by decide) (by decide) (Nat.le_of_ble_eq_true rfl) (Nat.le_of_ble_eq_true rfl) dX5_init_92 (fun H hP0 hsz ho hS => ?_)
  have p0 := p0.kept (fun q hq => ho q (bk_sz p0 hq))
  have p1 := p1.kept (fun q hq => ho q (bk_sz p1 hq))
  have p2 := p2.kept (fun q hq => ho q (bk_sz p2 hq))
  have p3 := p3.kept (fun q hq => ho q (bk_sz p3 hq))
  have p4 := p4.kept (fun q hq => ho q (bk_sz p4 hq))
  have p5 := p5.kept (fun q hq => ho q (bk_sz p5 hq))
  have p6 := p6.kept (fun q hq => ho q (bk_sz p6 hq))
  have p7 := p7.kept (fun q hq => ho q (bk_sz p7 hq))
  have p8 := p8.kept (fun q hq => ho q (bk_sz p8 hq))
  have p9 := p9.kept (fun q hq => ho q (bk_sz p9 hq))
  have p10 := p10.kept (fun q hq => ho q (bk_sz p10 hq))
  have p11 : bkP dC dI (n + 11) 1 (fun _ => .inl (dA 0, 7, .inl (fun _ => 0))) H := bk_1 (hP0 0 Nat.zero_lt_one)
  have hsz : H.size = n + 12 := hsz
  refine xc_putF (C := RX5) (T := TX5) X in_X5 tyX5 tyX5_ok nmX5 (ci := 5) rfl (show va_at (dC, dI) rvCl (n, .inr (5, [.ref (n + 1), .ref (n + 2), .ref (n + 3), .ref (n + 4), .long 0, .long 1, .ref (n + 5), .int 0, .ref (n + 6), .ref (n + 7), .ref (n + 8), .ref (n + 9), .ref (n + 10), .null, .int 0, .int 0, .int 0, .int 0, .null, .null, .int 0, .int 0, .int 0, .int 0, .int 0, .null, .null])) _ from p0 0 (by decide)) hS (show n ≤ n from Nat.le_refl _) 13 (by decide) q910 rfl rfl hnm rfl rfl rfl (Nat.le_of_ble_eq_true rfl) dX5_init_94 (fun H locs hV1 hz1 ho1 hS => ?_)
  have p1 := p1.kept (fun q hq => ho1 q (bkA_neb hq (by decide)))
  have p2 := p2.kept (fun q hq => ho1 q (bkA_neb hq (by decide)))
  have p3 := p3.kept (fun q hq => ho1 q (bkA_neb hq (by decide)))
  have p4 := p4.kept (fun q hq => ho1 q (bkA_neb hq (by decide)))
  have p5 := p5.kept (fun q hq => ho1 q (bkA_neb hq (by decide)))
  have p6 := p6.kept (fun q hq => ho1 q (bkA_neb hq (by decide)))
  have p7 := p7.kept (fun q hq => ho1 q (bkA_neb hq (by decide)))
  have p8 := p8.kept (fun q hq => ho1 q (bkA_neb hq (by decide)))
  have p9 := p9.kept (fun q hq => ho1 q (bkA_neb hq (by decide)))
  have p10 := p10.kept (fun q hq => ho1 q (bkA_neb hq (by decide)))
  have p11 := p11.kept (fun q hq => ho1 q (bkA_neb hq (by decide)))
  have p0 : bkP dC dI n 1 (fun _ => .inr (5, [.ref (n + 1), .ref (n + 2), .ref (n + 3), .ref (n + 4), .long 0, .long 1, .ref (n + 5), .int 0, .ref (n + 6), .ref (n + 7), .ref (n + 8), .ref (n + 9), .ref (n + 10), .ref (n + 11), .int 0, .int 0, .int 0, .int 0, .null, .null, .int 0, .int 0, .int 0, .int 0, .int 0, .null, .null])) H := bk_1 hV1
  have hsz := hz1.trans hsz
  refine lv_aload_n X.1 X.2.1 dX5_init_97 rfl (lv_at hl 0 rfl) ?_
  refine lv_bipush (v := nI 6) X.1 X.2.1 dX5_init_98 rfl ?_
  refine xb_newa (b := n + 12) (N := 0) (t := 0) (fty := .int) X q135 rfl rfl (fun _ h => h) rfl bk_0 hsz hS (n := 6) (by decide) (by decide) (Nat.le_of_ble_eq_true rfl) (Nat.le_of_ble_eq_true rfl) dX5_init_100 (fun H hP0 hsz ho hS => ?_)
  have p0 := p0.kept (fun q hq => ho q (bk_sz p0 hq))
  have p1 := p1.kept (fun q hq => ho q (bk_sz p1 hq))
  have p2 := p2.kept (fun q hq => ho q (bk_sz p2 hq))
  have p3 := p3.kept (fun q hq => ho q (bk_sz p3 hq))
  have p4 := p4.kept (fun q hq => ho q (bk_sz p4 hq))
  have p5 := p5.kept (fun q hq => ho q (bk_sz p5 hq))
  have p6 := p6.kept (fun q hq => ho q (bk_sz p6 hq))
  have p7 := p7.kept (fun q hq => ho q (bk_sz p7 hq))
  have p8 := p8.kept (fun q hq => ho q (bk_sz p8 hq))
  have p9 := p9.kept (fun q hq => ho q (bk_sz p9 hq))
  have p10 := p10.kept (fun q hq => ho q (bk_sz p10 hq))
  have p11 := p11.kept (fun q hq => ho q (bk_sz p11 hq))
  have p12 : bkP dC dI (n + 12) 1 (fun _ => .inl (dA 0, 6, .inl (fun _ => 0))) H := bk_1 (hP0 0 Nat.zero_lt_one)
  have hsz : H.size = n + 13 := hsz
  refine xc_putF (C := RX5) (T := TX5) X in_X5 tyX5 tyX5_ok nmX5 (ci := 5) rfl (show va_at (dC, dI) rvCl (n, .inr (5, [.ref (n + 1), .ref (n + 2), .ref (n + 3), .ref (n + 4), .long 0, .long 1, .ref (n + 5), .int 0, .ref (n + 6), .ref (n + 7), .ref (n + 8), .ref (n + 9), .ref (n + 10), .ref (n + 11), .int 0, .int 0, .int 0, .int 0, .null, .null, .int 0, .int 0, .int 0, .int 0, .int 0, .null, .null])) _ from p0 0 (by decide)) hS (show n ≤ n from Nat.le_refl _) 18 (by decide) q915 rfl rfl hnm rfl rfl rfl (Nat.le_of_ble_eq_true rfl) dX5_init_102 (fun H locs hV1 hz1 ho1 hS => ?_)
  have p1 := p1.kept (fun q hq => ho1 q (bkA_neb hq (by decide)))
  have p2 := p2.kept (fun q hq => ho1 q (bkA_neb hq (by decide)))
  have p3 := p3.kept (fun q hq => ho1 q (bkA_neb hq (by decide)))
  have p4 := p4.kept (fun q hq => ho1 q (bkA_neb hq (by decide)))
  have p5 := p5.kept (fun q hq => ho1 q (bkA_neb hq (by decide)))
  have p6 := p6.kept (fun q hq => ho1 q (bkA_neb hq (by decide)))
  have p7 := p7.kept (fun q hq => ho1 q (bkA_neb hq (by decide)))
  have p8 := p8.kept (fun q hq => ho1 q (bkA_neb hq (by decide)))
  have p9 := p9.kept (fun q hq => ho1 q (bkA_neb hq (by decide)))
  have p10 := p10.kept (fun q hq => ho1 q (bkA_neb hq (by decide)))
  have p11 := p11.kept (fun q hq => ho1 q (bkA_neb hq (by decide)))
  have p12 := p12.kept (fun q hq => ho1 q (bkA_neb hq (by decide)))
  have p0 : bkP dC dI n 1 (fun _ => .inr (5, [.ref (n + 1), .ref (n + 2), .ref (n + 3), .ref (n + 4), .long 0, .long 1, .ref (n + 5), .int 0, .ref (n + 6), .ref (n + 7), .ref (n + 8), .ref (n + 9), .ref (n + 10), .ref (n + 11), .int 0, .int 0, .int 0, .int 0, .ref (n + 12), .null, .int 0, .int 0, .int 0, .int 0, .int 0, .null, .null])) H := bk_1 hV1
  have hsz := hz1.trans hsz
  refine lv_aload_n X.1 X.2.1 dX5_init_105 rfl (lv_at hl 0 rfl) ?_
  refine lv_sipush (v := nI 150) X.1 X.2.1 dX5_init_106 rfl ?_
  refine xb_newa (b := n + 13) (N := 0) (t := 0) (fty := .int) X q135 rfl rfl (fun _ h => h) rfl bk_0 hsz hS (n := 150) (by decide) (by decide) (Nat.le_of_ble_eq_true rfl) (Nat.le_of_ble_eq_true rfl) dX5_init_109 (fun H hP0 hsz ho hS => ?_)
  have p0 := p0.kept (fun q hq => ho q (bk_sz p0 hq))
  have p1 := p1.kept (fun q hq => ho q (bk_sz p1 hq))
  have p2 := p2.kept (fun q hq => ho q (bk_sz p2 hq))
  have p3 := p3.kept (fun q hq => ho q (bk_sz p3 hq))
  have p4 := p4.kept (fun q hq => ho q (bk_sz p4 hq))
  have p5 := p5.kept (fun q hq => ho q (bk_sz p5 hq))
  have p6 := p6.kept (fun q hq => ho q (bk_sz p6 hq))
  have p7 := p7.kept (fun q hq => ho q (bk_sz p7 hq))
  have p8 := p8.kept (fun q hq => ho q (bk_sz p8 hq))
  have p9 := p9.kept (fun q hq => ho q (bk_sz p9 hq))
  have p10 := p10.kept (fun q hq => ho q (bk_sz p10 hq))
  have p11 := p11.kept (fun q hq => ho q (bk_sz p11 hq))
  have p12 := p12.kept (fun q hq => ho q (bk_sz p12 hq))
  have p13 : bkP dC dI (n + 13) 1 (fun _ => .inl (dA 0, 150, .inl (fun _ => 0))) H := bk_1 (hP0 0 Nat.zero_lt_one)
  have hsz : H.size = n + 14 := hsz
  refine xc_putF (C := RX5) (T := TX5) X in_X5 tyX5 tyX5_ok nmX5 (ci := 5) rfl (show va_at (dC, dI) rvCl (n, .inr (5, [.ref (n + 1), .ref (n + 2), .ref (n + 3), .ref (n + 4), .long 0, .long 1, .ref (n + 5), .int 0, .ref (n + 6), .ref (n + 7), .ref (n + 8), .ref (n + 9), .ref (n + 10), .ref (n + 11), .int 0, .int 0, .int 0, .int 0, .ref (n + 12), .null, .int 0, .int 0, .int 0, .int 0, .int 0, .null, .null])) _ from p0 0 (by decide)) hS (show n ≤ n from Nat.le_refl _) 19 (by decide) q916 rfl rfl hnm rfl rfl rfl (Nat.le_of_ble_eq_true rfl) dX5_init_111 (fun H locs hV1 hz1 ho1 hS => ?_)
  have p1 := p1.kept (fun q hq => ho1 q (bkA_neb hq (by decide)))
  have p2 := p2.kept (fun q hq => ho1 q (bkA_neb hq (by decide)))
  have p3 := p3.kept (fun q hq => ho1 q (bkA_neb hq (by decide)))
  have p4 := p4.kept (fun q hq => ho1 q (bkA_neb hq (by decide)))
  have p5 := p5.kept (fun q hq => ho1 q (bkA_neb hq (by decide)))
  have p6 := p6.kept (fun q hq => ho1 q (bkA_neb hq (by decide)))
  have p7 := p7.kept (fun q hq => ho1 q (bkA_neb hq (by decide)))
  have p8 := p8.kept (fun q hq => ho1 q (bkA_neb hq (by decide)))
  have p9 := p9.kept (fun q hq => ho1 q (bkA_neb hq (by decide)))
  have p10 := p10.kept (fun q hq => ho1 q (bkA_neb hq (by decide)))
  have p11 := p11.kept (fun q hq => ho1 q (bkA_neb hq (by decide)))
  have p12 := p12.kept (fun q hq => ho1 q (bkA_neb hq (by decide)))
  have p13 := p13.kept (fun q hq => ho1 q (bkA_neb hq (by decide)))
  have p0 : bkP dC dI n 1 (fun _ => .inr (5, [.ref (n + 1), .ref (n + 2), .ref (n + 3), .ref (n + 4), .long 0, .long 1, .ref (n + 5), .int 0, .ref (n + 6), .ref (n + 7), .ref (n + 8), .ref (n + 9), .ref (n + 10), .ref (n + 11), .int 0, .int 0, .int 0, .int 0, .ref (n + 12), .ref (n + 13), .int 0, .int 0, .int 0, .int 0, .int 0, .null, .null])) H := bk_1 hV1
  have hsz := hz1.trans hsz
  refine lv_aload_n X.1 X.2.1 dX5_init_114 rfl (lv_at hl 0 rfl) ?_
  refine lv_bipush (v := nI 115) X.1 X.2.1 dX5_init_115 rfl ?_
  refine xb_newa (b := n + 14) (N := 0) (t := 0) (fty := .int) X q135 rfl rfl (fun _ h => h) rfl bk_0 hsz hS (n := 115) (by decide) (by decide) (Nat.le_of_ble_eq_true rfl) (Nat.le_of_ble_eq_true rfl) dX5_init_117 (fun H hP0 hsz ho hS => ?_)
  have p0 := p0.kept (fun q hq => ho q (bk_sz p0 hq))
  have p1 := p1.kept (fun q hq => ho q (bk_sz p1 hq))
  have p2 := p2.kept (fun q hq => ho q (bk_sz p2 hq))
  have p3 := p3.kept (fun q hq => ho q (bk_sz p3 hq))
  have p4 := p4.kept (fun q hq => ho q (bk_sz p4 hq))
  have p5 := p5.kept (fun q hq => ho q (bk_sz p5 hq))
  have p6 := p6.kept (fun q hq => ho q (bk_sz p6 hq))
  have p7 := p7.kept (fun q hq => ho q (bk_sz p7 hq))
  have p8 := p8.kept (fun q hq => ho q (bk_sz p8 hq))
  have p9 := p9.kept (fun q hq => ho q (bk_sz p9 hq))
  have p10 := p10.kept (fun q hq => ho q (bk_sz p10 hq))
  have p11 := p11.kept (fun q hq => ho q (bk_sz p11 hq))
  have p12 := p12.kept (fun q hq => ho q (bk_sz p12 hq))
  have p13 := p13.kept (fun q hq => ho q (bk_sz p13 hq))
  have p14 : bkP dC dI (n + 14) 1 (fun _ => .inl (dA 0, 115, .inl (fun _ => 0))) H := bk_1 (hP0 0 Nat.zero_lt_one)
  have hsz : H.size = n + 15 := hsz
  refine xc_putF (C := RX5) (T := TX5) X in_X5 tyX5 tyX5_ok nmX5 (ci := 5) rfl (show va_at (dC, dI) rvCl (n, .inr (5, [.ref (n + 1), .ref (n + 2), .ref (n + 3), .ref (n + 4), .long 0, .long 1, .ref (n + 5), .int 0, .ref (n + 6), .ref (n + 7), .ref (n + 8), .ref (n + 9), .ref (n + 10), .ref (n + 11), .int 0, .int 0, .int 0, .int 0, .ref (n + 12), .ref (n + 13), .int 0, .int 0, .int 0, .int 0, .int 0, .null, .null])) _ from p0 0 (by decide)) hS (show n ≤ n from Nat.le_refl _) 25 (by decide) q922 rfl rfl hnm rfl rfl rfl (Nat.le_of_ble_eq_true rfl) dX5_init_119 (fun H locs hV1 hz1 ho1 hS => ?_)
  have p1 := p1.kept (fun q hq => ho1 q (bkA_neb hq (by decide)))
  have p2 := p2.kept (fun q hq => ho1 q (bkA_neb hq (by decide)))
  have p3 := p3.kept (fun q hq => ho1 q (bkA_neb hq (by decide)))
  have p4 := p4.kept (fun q hq => ho1 q (bkA_neb hq (by decide)))
  have p5 := p5.kept (fun q hq => ho1 q (bkA_neb hq (by decide)))
  have p6 := p6.kept (fun q hq => ho1 q (bkA_neb hq (by decide)))
  have p7 := p7.kept (fun q hq => ho1 q (bkA_neb hq (by decide)))
  have p8 := p8.kept (fun q hq => ho1 q (bkA_neb hq (by decide)))
  have p9 := p9.kept (fun q hq => ho1 q (bkA_neb hq (by decide)))
  have p10 := p10.kept (fun q hq => ho1 q (bkA_neb hq (by decide)))
  have p11 := p11.kept (fun q hq => ho1 q (bkA_neb hq (by decide)))
  have p12 := p12.kept (fun q hq => ho1 q (bkA_neb hq (by decide)))
  have p13 := p13.kept (fun q hq => ho1 q (bkA_neb hq (by decide)))
  have p14 := p14.kept (fun q hq => ho1 q (bkA_neb hq (by decide)))
  have p0 : bkP dC dI n 1 (fun _ => .inr (5, [.ref (n + 1), .ref (n + 2), .ref (n + 3), .ref (n + 4), .long 0, .long 1, .ref (n + 5), .int 0, .ref (n + 6), .ref (n + 7), .ref (n + 8), .ref (n + 9), .ref (n + 10), .ref (n + 11), .int 0, .int 0, .int 0, .int 0, .ref (n + 12), .ref (n + 13), .int 0, .int 0, .int 0, .int 0, .int 0, .ref (n + 14), .null])) H := bk_1 hV1
  have hsz := hz1.trans hsz
  refine lv_aload_n X.1 X.2.1 dX5_init_122 rfl (lv_at hl 0 rfl) ?_
  refine lv_iconst (v := nI 4) X.1 X.2.1 dX5_init_123 rfl ?_
  refine xb_newa (b := n + 15) (N := 0) (t := 0) (fty := .int) X q135 rfl rfl (fun _ h => h) rfl bk_0 hsz hS (n := 4) (by decide) (by decide) (Nat.le_of_ble_eq_true rfl) (Nat.le_of_ble_eq_true rfl) dX5_init_124 (fun H hP0 hsz ho hS => ?_)
  have p0 := p0.kept (fun q hq => ho q (bk_sz p0 hq))
  have p1 := p1.kept (fun q hq => ho q (bk_sz p1 hq))
  have p2 := p2.kept (fun q hq => ho q (bk_sz p2 hq))
  have p3 := p3.kept (fun q hq => ho q (bk_sz p3 hq))
  have p4 := p4.kept (fun q hq => ho q (bk_sz p4 hq))
  have p5 := p5.kept (fun q hq => ho q (bk_sz p5 hq))
  have p6 := p6.kept (fun q hq => ho q (bk_sz p6 hq))
  have p7 := p7.kept (fun q hq => ho q (bk_sz p7 hq))
  have p8 := p8.kept (fun q hq => ho q (bk_sz p8 hq))
  have p9 := p9.kept (fun q hq => ho q (bk_sz p9 hq))
  have p10 := p10.kept (fun q hq => ho q (bk_sz p10 hq))
  have p11 := p11.kept (fun q hq => ho q (bk_sz p11 hq))
  have p12 := p12.kept (fun q hq => ho q (bk_sz p12 hq))
  have p13 := p13.kept (fun q hq => ho q (bk_sz p13 hq))
  have p14 := p14.kept (fun q hq => ho q (bk_sz p14 hq))
  have p15 : bkP dC dI (n + 15) 1 (fun _ => .inl (dA 0, 4, .inl (fun _ => 0))) H := bk_1 (hP0 0 Nat.zero_lt_one)
  have hsz : H.size = n + 16 := hsz
  refine xc_putF (C := RX5) (T := TX5) X in_X5 tyX5 tyX5_ok nmX5 (ci := 5) rfl (show va_at (dC, dI) rvCl (n, .inr (5, [.ref (n + 1), .ref (n + 2), .ref (n + 3), .ref (n + 4), .long 0, .long 1, .ref (n + 5), .int 0, .ref (n + 6), .ref (n + 7), .ref (n + 8), .ref (n + 9), .ref (n + 10), .ref (n + 11), .int 0, .int 0, .int 0, .int 0, .ref (n + 12), .ref (n + 13), .int 0, .int 0, .int 0, .int 0, .int 0, .ref (n + 14), .null])) _ from p0 0 (by decide)) hS (show n ≤ n from Nat.le_refl _) 26 (by decide) q923 rfl rfl hnm rfl rfl rfl (Nat.le_of_ble_eq_true rfl) dX5_init_126 (fun H locs hV1 hz1 ho1 hS => ?_)
  have p1 := p1.kept (fun q hq => ho1 q (bkA_neb hq (by decide)))
  have p2 := p2.kept (fun q hq => ho1 q (bkA_neb hq (by decide)))
  have p3 := p3.kept (fun q hq => ho1 q (bkA_neb hq (by decide)))
  have p4 := p4.kept (fun q hq => ho1 q (bkA_neb hq (by decide)))
  have p5 := p5.kept (fun q hq => ho1 q (bkA_neb hq (by decide)))
  have p6 := p6.kept (fun q hq => ho1 q (bkA_neb hq (by decide)))
  have p7 := p7.kept (fun q hq => ho1 q (bkA_neb hq (by decide)))
  have p8 := p8.kept (fun q hq => ho1 q (bkA_neb hq (by decide)))
  have p9 := p9.kept (fun q hq => ho1 q (bkA_neb hq (by decide)))
  have p10 := p10.kept (fun q hq => ho1 q (bkA_neb hq (by decide)))
  have p11 := p11.kept (fun q hq => ho1 q (bkA_neb hq (by decide)))
  have p12 := p12.kept (fun q hq => ho1 q (bkA_neb hq (by decide)))
  have p13 := p13.kept (fun q hq => ho1 q (bkA_neb hq (by decide)))
  have p14 := p14.kept (fun q hq => ho1 q (bkA_neb hq (by decide)))
  have p15 := p15.kept (fun q hq => ho1 q (bkA_neb hq (by decide)))
  have p0 : bkP dC dI n 1 (fun _ => .inr (5, [.ref (n + 1), .ref (n + 2), .ref (n + 3), .ref (n + 4), .long 0, .long 1, .ref (n + 5), .int 0, .ref (n + 6), .ref (n + 7), .ref (n + 8), .ref (n + 9), .ref (n + 10), .ref (n + 11), .int 0, .int 0, .int 0, .int 0, .ref (n + 12), .ref (n + 13), .int 0, .int 0, .int 0, .int 0, .int 0, .ref (n + 14), .ref (n + 15)])) H := bk_1 hV1
  have hsz := hz1.trans hsz
  exact x_rv () X hr hlk hS dX5_init_129 trivial ⟨(fun k q hk => by have hk16 := (md_addr dA n (fun _ _ => 0) 0 1 k q hk).2; match k, hk16, hk with | 0, _, h => cases h; exact p0 0 (by decide) | 1, _, h => cases h; exact p1 0 (by decide) | 2, _, h => cases h; exact p2 0 (by decide) | 3, _, h => cases h; exact p3 0 (by decide) | 4, _, h => cases h; exact p4 0 (by decide) | 5, _, h => cases h; exact p5 0 (by decide) | 6, _, h => cases h; exact p6 0 (by decide) | 7, _, h => cases h; exact p7 0 (by decide) | 8, _, h => cases h; exact p8 0 (by decide) | 9, _, h => cases h; exact p9 0 (by decide) | 10, _, h => cases h; exact p10 0 (by decide) | 11, _, h => cases h; exact p11 0 (by decide) | 12, _, h => cases h; exact p12 0 (by decide) | 13, _, h => cases h; exact p13 0 (by decide) | 14, _, h => cases h; exact p14 0 (by decide) | 15, _, h => cases h; exact p15 0 (by decide) | (_ + 16), h, _ => exact absurd h (Nat.not_lt.mpr (Nat.le_add_left 16 _))), hsz⟩
