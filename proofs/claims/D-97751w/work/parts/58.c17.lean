set_option maxRecDepth 100000
/-! the component: States and Shops are made -/
theorem xkin_X1_32 : xKIN RX1 "RentedViews" yX2_init cX2_init 1 32 0 := ⟨q101, q102, q63, q103, rfl, by decide +kernel⟩
section XCW
variable {p : Program} {l : Launch} {e : Env} {R : Room} {s : State} {m : MethodId} {args : Array Value} {below : List Frame} {meth : Method} {c_ : Code} {H : Heap} {locs : List Loc} {cells slots mc ms : Nat} {Q : State → Prop}
variable {cc : ByteArray} {pc nL : Nat} {ls : Array Slot} {rest st0 : List Value} {dC : Nat → ClassId} {dI : Nat → Nat → Nat} {dA : Nat → ClassId} {H0 : Heap} {own : String} {A : Nat → Prop}
/-- one cell written: what it holds, how long the heap is, all else is as it was -/
theorem xc_putF {C : String} {T : u_T} {NN ci index a : Nat} {fs : List Value} (X : xC dC dI dA p s m c_ args cc nL C) (hin : ∀ w ∈ u_ws C T NN, w ∈ lw_all) (ty0 : Nat → FieldType) (hty : ∀ k, k < NN → parseFieldDescriptor (T k).2.2.1 = some (ty0 k)) (hnm : ∀ a, a < NN → ∀ b, b < NN → a ≠ b → (T a).2.1 ≠ (T b).2.1) (hc : rvCl[ci]? = some (C, T, NN)) (hV : va_at (dC, dI) rvCl (a, .inr (ci, fs)) H) (hS : va_S A H0 H locs) (hA : A a) (k : Nat) (hk : k < NN) (hl : Cond.fieldLink C index C (T k).2.1 (T k).2.2.1 ∈ lw_all) (hT : (T k).1 = C) (hF : (T k).2.2.2 = true) (hin2 : meth.name = "<init>") {ty : FieldType} {v : Value} (hd : parseFieldDescriptor (T k).2.2.1 = some ty) (hn : narrow ty v = v) (hfit : fits ty v = true) (hlen : k < fs.length) (hdg : decode cc pc = .ok (.putfield index, 3))
    (kk : ∀ (H1 : Heap) (locs1 : List Loc), va_at (dC, dI) rvCl (a, .inr (ci, fs.set k v)) H1 → H1.size = H.size → (∀ q, q ≠ a → H1[q]? = H[q]?) → va_S A H0 H1 locs1 → W p l e R s m args below meth c_ H1 locs1 cells slots Q (F0 m (pc + 3) ls rest)) : W p l e R s m args below meth c_ H locs cells slots Q (F0 m pc ls (v :: .ref a :: rest)) := by
  have hts := X.2.2.2.2.1
  have hK : va_K (dC, dI) rvCl (rvTy dA) s := X.2.2.2.2.2
  have apart := va_apart (own := C) hts hin ty0 hty hnm hK hc
  obtain ⟨row, hrow, cell, c1, c2, c3, c4⟩ := hV
  obtain rfl : row = (C, T, NN) := Option.some.inj (hrow.symm.trans hc)
  obtain ⟨kn, cf0, kC, hkC, hkind⟩ := hK.1 ci _ hc
  obtain ⟨cf, kf, fi, fd, hi, hsl⟩ := kn k hk
  have lay := hts _ (hin _ (u_in_lay hk))
  unfold u_lay at lay
  rw [if_pos hF] at lay
  have st := (u_facts cf0 hkC (u_lays hts hin hk) hi).1
  have hcf : m.cls = cf := by
    obtain ⟨_, _, d, _, _, _, -, -, hf2, -, -, -, hown2, -⟩ := Cond.laysFinal_spec lay
    have e1 : d = cf := by have := hi.symm.trans hf2; simp at this; exact this.1.symm
    rw [hT] at hown2
    rw [← e1]; exact Option.some.inj (X.2.2.2.1.symm.trans hown2)
  have fit := u_fits cf0 hkC hkind (Or.inr lay) hi hd hn hfit
  refine W.putFinK X.1 X.2.1 X.2.2.2.1 (hts _ hl) (by rw [hT] at hi; exact hi) st hcf hin2 (by rw [c2]; exact fit) c1 c3 (by rw [hsl]; exact k2_hasslot (c4 k hk)) rfl rfl hdg fun H' e1 e2 e3 => ?_
  rw [hsl] at e1 ⊢
  exact kk H' _ ⟨_, hc, t_OB.to (V := updV (vp_V fs) k v) ⟨_, e1, c2, c3, t_set c4 apart hk v⟩ (fun j _ => vp_updV_set hlen v j)⟩ e2 e3 (hS.put e2 e3 hA)
theorem xc_put {C : String} {T : u_T} {NN ci index a : Nat} {fs : List Value} (X : xC dC dI dA p s m c_ args cc nL C) (hin : ∀ w ∈ u_ws C T NN, w ∈ lw_all) (ty0 : Nat → FieldType) (hty : ∀ k, k < NN → parseFieldDescriptor (T k).2.2.1 = some (ty0 k)) (hnm : ∀ a, a < NN → ∀ b, b < NN → a ≠ b → (T a).2.1 ≠ (T b).2.1) (hc : rvCl[ci]? = some (C, T, NN)) (hV : va_at (dC, dI) rvCl (a, .inr (ci, fs)) H) (hS : va_S A H0 H locs) (hA : A a) (k : Nat) (hk : k < NN) (hl : Cond.fieldLink C index C (T k).2.1 (T k).2.2.1 ∈ lw_all) (hT : (T k).1 = C) (hF : (T k).2.2.2 = false) {ty : FieldType} {v : Value} (hd : parseFieldDescriptor (T k).2.2.1 = some ty) (hn : narrow ty v = v) (hfit : fits ty v = true) (hlen : k < fs.length) (hdg : decode cc pc = .ok (.putfield index, 3))
    (kk : ∀ (H1 : Heap) (locs1 : List Loc), va_at (dC, dI) rvCl (a, .inr (ci, fs.set k v)) H1 → H1.size = H.size → (∀ q, q ≠ a → H1[q]? = H[q]?) → va_S A H0 H1 locs1 → W p l e R s m args below meth c_ H1 locs1 cells slots Q (F0 m (pc + 3) ls rest)) : W p l e R s m args below meth c_ H locs cells slots Q (F0 m pc ls (v :: .ref a :: rest)) := by
  have hts := X.2.2.2.2.1
  have hK : va_K (dC, dI) rvCl (rvTy dA) s := X.2.2.2.2.2
  have apart := va_apart (own := C) hts hin ty0 hty hnm hK hc
  obtain ⟨row, hrow, cell, c1, c2, c3, c4⟩ := hV
  obtain rfl : row = (C, T, NN) := Option.some.inj (hrow.symm.trans hc)
  obtain ⟨kn, cf0, kC, hkC, hkind⟩ := hK.1 ci _ hc
  obtain ⟨cf, kf, fi, fd, hi, hsl⟩ := kn k hk
  have lay := hts _ (hin _ (u_in_lay hk))
  unfold u_lay at lay
  rw [if_neg (by rw [hF]; decide)] at lay
  have st := (u_facts cf0 hkC (u_lays hts hin hk) hi).1
  have fit := u_store cf0 hkC hkind lay hi hd hn hfit
  refine W.putK X.1 X.2.1 (f := fd) ⟨X.2.2.2.1, hts _ hl, ⟨_, _, _, by rw [hT] at hi; exact hi⟩, st⟩ (by rw [c2]; exact fit) c1 c3 (by rw [hsl]; exact k2_hasslot (c4 k hk)) rfl rfl hdg fun H' e1 e2 e3 => ?_
  rw [hsl] at e1 ⊢
  exact kk H' _ ⟨_, hc, t_OB.to (V := updV (vp_V fs) k v) ⟨_, e1, c2, c3, t_set c4 apart hk v⟩ (fun j _ => vp_updV_set hlen v j)⟩ e2 e3 (hS.put e2 e3 hA)
theorem xc_aast {E : String} {a t n v : Nat} {f : Nat → Option Nat} (X : xC dC dI dA p s m c_ args cc nL own) (hV : va_at (dC, dI) rvCl (a, xQ dA t n f) H) (hS : va_S A H0 H locs) (hA : A a) (ht : (rvTy dA)[t]? = some (dA t, .object E)) (hr : va_Any E s H v) {i : Nat} (hi : i < n) (hn : n < 2 ^ 31) (hdg : decode cc pc = .ok (.aastore, 1))
    (kk : ∀ (H1 : Heap) (locs1 : List Loc), va_at (dC, dI) rvCl (a, xQ dA t n (va_up f i (some v))) H1 → H1.size = H.size → (∀ q, q ≠ a → H1[q]? = H[q]?) → va_S A H0 H1 locs1 → W p l e R s m args below meth c_ H1 locs1 cells slots Q (F0 m (pc + 1) ls rest)) : W p l e R s m args below meth c_ H locs cells slots Q (F0 m pc ls (.ref v :: .int (nI i) :: .ref a :: rest)) := by
  have hin : vp_in (nI i) n := vp_in_nI hi hn
  have ci : (nI i).toNatClampNeg = i := nI_clamp (by omega)
  have hK : va_K (dC, dI) rvCl (rvTy dA) s := X.2.2.2.2.2
  obtain ⟨cellV, g1, g3, ⟨kC, hkC⟩, hasg⟩ := hr
  obtain ⟨kA, comp, k1, k2, k3, -⟩ := (hK.2 t _ ht).2
  obtain ⟨kE, hkE, -⟩ := Vm.findClass_spec k3
  have hcell : H[a]? = some (vp_cell (dA t) (n, .inr (.inr (.inr (.inr f))))) := hV
  refine W.aast X.1 X.2.1 hcell (fun q h => by cases h) (fun h => by cases h) k1 k2 rfl hkE ⟨fun q => hin (Or.inl q), by show _ < (arrV _ _ _).slots.size; rw [arrV_size, ci]; exact hi⟩ g1 (fun q h => by rw [h] at g3; cases g3) hkC (hasg _ k3) rfl rfl hdg fun H1 e z oq => ?_
  rw [ci] at e ⊢
  refine kk H1 _ ?_ z oq (hS.put z oq hA)
  show H1[a]? = some (vp_cell _ _)
  rw [e, vp_cell_q, vp_cell_q, arrV_store]
  congr 2
  funext q
  by_cases hq : q = i
  · subst hq; simp [updV, va_up, va_rf]
  · simp [updV, va_up, hq]
theorem cell_any {C : String} {T : u_T} {NN ci a : Nat} {fs : List Value} (hK : rvK dC dI dA s) (hc : rvCl[ci]? = some (C, T, NN)) (hV : va_at (dC, dI) rvCl (a, .inr (ci, fs)) H) : va_Any C s H a := by
  refine va_rAny hK (at_P hV) (q0 := 0) rfl hc (fun comp c0 h1 h2 => ?_)
  cases h1.symm.trans h2
  have hcl : ClassAt s C (dC ci) := (hK.1 ci _ hc).2
  cases h1.symm.trans hcl.1
  exact va_assign hcl
end XCW
theorem bk_1 {dC : Nat → ClassId} {dI : Nat → Nat → Nat} {a : Nat} {e : va_E} {H : Heap} (h : va_at (dC, dI) rvCl (a, e) H) : bkP dC dI a 1 (fun _ => e) H := fun j hj => by
  obtain rfl : j = 0 := (by omega)
  exact h
theorem bk_0 {dC : Nat → ClassId} {dI : Nat → Nat → Nat} {a : Nat} {H : Heap} : bkP dC dI a 0 (fun _ => .inr (0, [])) H := fun j hj => absurd hj (Nat.not_lt_zero j)
theorem bkA_ne {b o n j q : Nat} (hq : bkA (b + o) n q) (h : j < o ∨ o + n ≤ j) : q ≠ b + j := fun z => by
  have h1 := hq.1
  have h2 := hq.2
  omega
theorem bkA_ne0 {b n j q : Nat} (hq : bkA b n q) (h : n ≤ j) : q ≠ b + j := fun z => by
  have h1 := hq.1
  have h2 := hq.2
  omega
theorem bkA_neb {b o n q : Nat} (hq : bkA (b + o) n q) (h : 0 < o) : q ≠ b := fun z => by
  have h1 := hq.1
  omega
theorem bkA_lt {b o n j q : Nat} (hq : bkA (b + o) n q) (h : o + n ≤ j) : ¬ b + j ≤ q := fun z => by
  have h2 := hq.2
  omega
theorem bkA_lt0 {b n j q : Nat} (hq : bkA b n q) (h : n ≤ j) : ¬ b + j ≤ q := fun z => by
  have h2 := hq.2
  omega
theorem xi_X2 (l : Launch) (dC : Nat → ClassId) (dI : Nat → Nat → Nat) (dA : Nat → ClassId) (a : Nat) : Met l yX2_init (ws_ yX2_init cX2_init 1 none) { frames := 1, cells := 3, slots := 48, locals := 60 } (xPc dC dI dA (fun H => H.size = a + 1 ∧ va_at (dC, dI) rvCl (a, .inr (2, [.null, .null, .int 0, .int 0, .null, .int 0])) H) [.ref a]) (xEv (fun H => bkP dC dI a 4 (stE dA a (fun _ _ => 0)) H ∧ H.size = a + 4) (fun q => a ≤ q)) 3 48 (fun q => a ≤ q) := by
  refine x_in (by decide) rfl (Nat.le_of_ble_eq_true rfl) (lv := [(0, .ref a)]) rfl ?_
  intro p e s m below meth c_ X hN hnm hr hlk hPP ls hl
  obtain ⟨hsz, hV⟩ := hPP
  have hS : va_S (fun q => a ≤ q) s.heap s.heap [] := va_S.rf
  have p0 : bkP dC dI a 1 (fun _ => .inr (2, [.null, .null, .int 0, .int 0, .null, .int 0])) s.heap := bk_1 hV
  refine lv_aload_n X.1 X.2.1 dX2_init_0 rfl (lv_at hl 0 rfl) ?_
  refine W.objInit X.1 X.2.1 X.2.2.2.1 (X.2.2.2.2.1 _ q104) (X.2.2.2.2.1 _ q89) (X.2.2.2.2.1 _ q90) rfl (hl.1.trans X.2.2.1.symm) rfl dX2_init_1 (Nat.le_of_ble_eq_true rfl) (Nat.le_of_ble_eq_true rfl) ?_
  refine lv_aload_n X.1 X.2.1 dX2_init_4 rfl (lv_at hl 0 rfl) ?_
  refine lv_bipush (v := nI 6) X.1 X.2.1 dX2_init_5 rfl ?_
  refine xb_newa (b := a + 1) (N := 0) (t := 0) (fty := .int) X q135 rfl rfl (fun _ h => h) rfl bk_0 hsz hS (n := 6) (by decide) (by decide) (Nat.le_of_ble_eq_true rfl) (Nat.le_of_ble_eq_true rfl) dX2_init_7 (fun H hP0 hsz ho hS => ?_)
  have p0 := p0.kept (fun q hq => ho q (bk_sz p0 hq))
  have p1 : bkP dC dI (a + 1) 1 (fun _ => .inl (dA 0, 6, .inl (fun _ => 0))) H := bk_1 (hP0 0 Nat.zero_lt_one)
  have hsz : H.size = a + 2 := hsz
  refine xc_putF (C := RX2) (T := TX2) X in_X2 tyX2 tyX2_ok nmX2 (ci := 2) rfl (show va_at (dC, dI) rvCl (a, .inr (2, [.null, .null, .int 0, .int 0, .null, .int 0])) _ from p0 0 (by decide)) hS (show a ≤ a from Nat.le_refl _) 0 (by decide) q105 rfl rfl hnm rfl rfl rfl (Nat.le_of_ble_eq_true rfl) dX2_init_9 (fun H locs hV1 hz1 ho1 hS => ?_)
  have p1 := p1.kept (fun q hq => ho1 q (bkA_neb hq (by decide)))
  have p0 : bkP dC dI a 1 (fun _ => .inr (2, [.ref (a + 1), .null, .int 0, .int 0, .null, .int 0])) H := bk_1 hV1
  have hsz := hz1.trans hsz
  refine lv_aload_n X.1 X.2.1 dX2_init_12 rfl (lv_at hl 0 rfl) ?_
  refine lv_bipush (v := nI 6) X.1 X.2.1 dX2_init_13 rfl ?_
  refine xb_newa (b := a + 2) (N := 0) (t := 0) (fty := .int) X q135 rfl rfl (fun _ h => h) rfl bk_0 hsz hS (n := 6) (by decide) (by decide) (Nat.le_of_ble_eq_true rfl) (Nat.le_of_ble_eq_true rfl) dX2_init_15 (fun H hP0 hsz ho hS => ?_)
  have p0 := p0.kept (fun q hq => ho q (bk_sz p0 hq))
  have p1 := p1.kept (fun q hq => ho q (bk_sz p1 hq))
  have p2 : bkP dC dI (a + 2) 1 (fun _ => .inl (dA 0, 6, .inl (fun _ => 0))) H := bk_1 (hP0 0 Nat.zero_lt_one)
  have hsz : H.size = a + 3 := hsz
  refine xc_putF (C := RX2) (T := TX2) X in_X2 tyX2 tyX2_ok nmX2 (ci := 2) rfl (show va_at (dC, dI) rvCl (a, .inr (2, [.ref (a + 1), .null, .int 0, .int 0, .null, .int 0])) _ from p0 0 (by decide)) hS (show a ≤ a from Nat.le_refl _) 1 (by decide) q108 rfl rfl hnm rfl rfl rfl (Nat.le_of_ble_eq_true rfl) dX2_init_17 (fun H locs hV1 hz1 ho1 hS => ?_)
  have p1 := p1.kept (fun q hq => ho1 q (bkA_neb hq (by decide)))
  have p2 := p2.kept (fun q hq => ho1 q (bkA_neb hq (by decide)))
  have p0 : bkP dC dI a 1 (fun _ => .inr (2, [.ref (a + 1), .ref (a + 2), .int 0, .int 0, .null, .int 0])) H := bk_1 hV1
  have hsz := hz1.trans hsz
  refine lv_aload_n X.1 X.2.1 dX2_init_20 rfl (lv_at hl 0 rfl) ?_
  refine lv_bipush (v := nI 36) X.1 X.2.1 dX2_init_21 rfl ?_
  refine xb_newa (b := a + 3) (N := 0) (t := 0) (fty := .int) X q135 rfl rfl (fun _ h => h) rfl bk_0 hsz hS (n := 36) (by decide) (by decide) (Nat.le_of_ble_eq_true rfl) (Nat.le_of_ble_eq_true rfl) dX2_init_23 (fun H hP0 hsz ho hS => ?_)
  have p0 := p0.kept (fun q hq => ho q (bk_sz p0 hq))
  have p1 := p1.kept (fun q hq => ho q (bk_sz p1 hq))
  have p2 := p2.kept (fun q hq => ho q (bk_sz p2 hq))
  have p3 : bkP dC dI (a + 3) 1 (fun _ => .inl (dA 0, 36, .inl (fun _ => 0))) H := bk_1 (hP0 0 Nat.zero_lt_one)
  have hsz : H.size = a + 4 := hsz
  refine xc_putF (C := RX2) (T := TX2) X in_X2 tyX2 tyX2_ok nmX2 (ci := 2) rfl (show va_at (dC, dI) rvCl (a, .inr (2, [.ref (a + 1), .ref (a + 2), .int 0, .int 0, .null, .int 0])) _ from p0 0 (by decide)) hS (show a ≤ a from Nat.le_refl _) 4 (by decide) q117 rfl rfl hnm rfl rfl rfl (Nat.le_of_ble_eq_true rfl) dX2_init_25 (fun H locs hV1 hz1 ho1 hS => ?_)
  have p1 := p1.kept (fun q hq => ho1 q (bkA_neb hq (by decide)))
  have p2 := p2.kept (fun q hq => ho1 q (bkA_neb hq (by decide)))
  have p3 := p3.kept (fun q hq => ho1 q (bkA_neb hq (by decide)))
  have p0 : bkP dC dI a 1 (fun _ => .inr (2, [.ref (a + 1), .ref (a + 2), .int 0, .int 0, .ref (a + 3), .int 0])) H := bk_1 hV1
  have hsz := hz1.trans hsz
  exact x_rv () X hr hlk hS dX2_init_28 trivial ⟨(fun j hj => by match j, hj with | 0, _ => exact p0 0 (by decide) | 1, _ => exact p1 0 (by decide) | 2, _ => exact p2 0 (by decide) | 3, _ => exact p3 0 (by decide) | (_ + 4), h => exact absurd h (Nat.not_lt.mpr (Nat.le_add_left 4 _))), hsz⟩
set_option maxHeartbeats 4000000 in
theorem xi_X1 (l : Launch) (dC : Nat → ClassId) (dI : Nat → Nat → Nat) (dA : Nat → ClassId) (b : Nat) : Met l yX1_init (ws_ yX1_init cX1_init 1 none) { frames := 2, cells := 42, slots := 536, locals := 120 } (xPc dC dI dA (fun H => H.size = b + 1 ∧ va_at (dC, dI) rvCl (b, .inr (1, [.null, .null, .int 0, .null, .null, .int 0, .null, .int 0, .null, .null, .int 0])) H) [.ref b]) (xEv (fun H => bkP dC dI b 43 (sbE dA b (fun _ _ => 0) (fun _ => none)) H ∧ H.size = b + 43) (fun q => b ≤ q)) 42 536 (fun q => b ≤ q) := by
  refine x_in (by decide) rfl (Nat.le_of_ble_eq_true rfl) (lv := [(0, .ref b)]) rfl ?_
  intro p e s m below meth c_ X hN hnm hr hlk hPP ls hl
  obtain ⟨hsz, hV⟩ := hPP
  have hS : va_S (fun q => b ≤ q) s.heap s.heap [] := va_S.rf
  have p0 : bkP dC dI b 1 (fun _ => .inr (1, [.null, .null, .int 0, .null, .null, .int 0, .null, .int 0, .null, .null, .int 0])) s.heap := bk_1 hV
  refine lv_aload_n X.1 X.2.1 dX1_init_0 rfl (lv_at hl 0 rfl) ?_
  refine W.objInit X.1 X.2.1 X.2.2.2.1 (X.2.2.2.2.1 _ q96) (X.2.2.2.2.1 _ q89) (X.2.2.2.2.1 _ q90) rfl (hl.1.trans X.2.2.1.symm) rfl dX1_init_1 (Nat.le_of_ble_eq_true rfl) (Nat.le_of_ble_eq_true rfl) ?_
  refine lv_aload_n X.1 X.2.1 dX1_init_4 rfl (lv_at hl 0 rfl) ?_
  refine lv_bipush (v := nI 6) X.1 X.2.1 dX1_init_5 rfl ?_
  refine xb_newq (b := b + 1) (N := 0) (C := RX6) (t := 3) X q97 (x_nest hN q98 rfl) rfl bk_0 hsz hS (n := 6) (by decide) (Nat.le_of_ble_eq_true rfl) (Nat.le_of_ble_eq_true rfl) dX1_init_7 (fun H hP0 hsz ho hS => ?_)
  have p0 := p0.kept (fun q hq => ho q (bk_sz p0 hq))
  have p1 : bkP dC dI (b + 1) 1 (fun _ => xQ dA 3 6 (fun _ => none)) H := bk_1 (hP0 0 Nat.zero_lt_one)
  have hsz : H.size = b + 2 := hsz
  refine xc_putF (C := RX1) (T := TX1) X in_X1 tyX1 tyX1_ok nmX1 (ci := 1) rfl (show va_at (dC, dI) rvCl (b, .inr (1, [.null, .null, .int 0, .null, .null, .int 0, .null, .int 0, .null, .null, .int 0])) _ from p0 0 (by decide)) hS (show b ≤ b from Nat.le_refl _) 0 (by decide) q137 rfl rfl hnm rfl rfl rfl (Nat.le_of_ble_eq_true rfl) dX1_init_10 (fun H locs hV1 hz1 ho1 hS => ?_)
  have p1 := p1.kept (fun q hq => ho1 q (bkA_neb hq (by decide)))
  have p0 : bkP dC dI b 1 (fun _ => .inr (1, [.ref (b + 1), .null, .int 0, .null, .null, .int 0, .null, .int 0, .null, .null, .int 0])) H := bk_1 hV1
  have hsz := hz1.trans hsz
  refine lv_aload_n X.1 X.2.1 dX1_init_13 rfl (lv_at hl 0 rfl) ?_
  refine lv_bipush (v := nI 6) X.1 X.2.1 dX1_init_14 rfl ?_
  refine xb_newa (b := b + 2) (N := 0) (t := 0) (fty := .int) X q135 rfl rfl (fun _ h => h) rfl bk_0 hsz hS (n := 6) (by decide) (by decide) (Nat.le_of_ble_eq_true rfl) (Nat.le_of_ble_eq_true rfl) dX1_init_16 (fun H hP0 hsz ho hS => ?_)
  have p0 := p0.kept (fun q hq => ho q (bk_sz p0 hq))
  have p1 := p1.kept (fun q hq => ho q (bk_sz p1 hq))
  have p2 : bkP dC dI (b + 2) 1 (fun _ => .inl (dA 0, 6, .inl (fun _ => 0))) H := bk_1 (hP0 0 Nat.zero_lt_one)
  have hsz : H.size = b + 3 := hsz
  refine xc_putF (C := RX1) (T := TX1) X in_X1 tyX1 tyX1_ok nmX1 (ci := 1) rfl (show va_at (dC, dI) rvCl (b, .inr (1, [.ref (b + 1), .null, .int 0, .null, .null, .int 0, .null, .int 0, .null, .null, .int 0])) _ from p0 0 (by decide)) hS (show b ≤ b from Nat.le_refl _) 1 (by decide) q140 rfl rfl hnm rfl rfl rfl (Nat.le_of_ble_eq_true rfl) dX1_init_18 (fun H locs hV1 hz1 ho1 hS => ?_)
  have p1 := p1.kept (fun q hq => ho1 q (bkA_neb hq (by decide)))
  have p2 := p2.kept (fun q hq => ho1 q (bkA_neb hq (by decide)))
  have p0 : bkP dC dI b 1 (fun _ => .inr (1, [.ref (b + 1), .ref (b + 2), .int 0, .null, .null, .int 0, .null, .int 0, .null, .null, .int 0])) H := bk_1 hV1
  have hsz := hz1.trans hsz
  refine lv_aload_n X.1 X.2.1 dX1_init_21 rfl (lv_at hl 0 rfl) ?_
  refine lv_bipush (v := nI 6) X.1 X.2.1 dX1_init_22 rfl ?_
  refine xb_newa (b := b + 3) (N := 0) (t := 0) (fty := .int) X q135 rfl rfl (fun _ h => h) rfl bk_0 hsz hS (n := 6) (by decide) (by decide) (Nat.le_of_ble_eq_true rfl) (Nat.le_of_ble_eq_true rfl) dX1_init_24 (fun H hP0 hsz ho hS => ?_)
  have p0 := p0.kept (fun q hq => ho q (bk_sz p0 hq))
  have p1 := p1.kept (fun q hq => ho q (bk_sz p1 hq))
  have p2 := p2.kept (fun q hq => ho q (bk_sz p2 hq))
  have p3 : bkP dC dI (b + 3) 1 (fun _ => .inl (dA 0, 6, .inl (fun _ => 0))) H := bk_1 (hP0 0 Nat.zero_lt_one)
  have hsz : H.size = b + 4 := hsz
  refine xc_putF (C := RX1) (T := TX1) X in_X1 tyX1 tyX1_ok nmX1 (ci := 1) rfl (show va_at (dC, dI) rvCl (b, .inr (1, [.ref (b + 1), .ref (b + 2), .int 0, .null, .null, .int 0, .null, .int 0, .null, .null, .int 0])) _ from p0 0 (by decide)) hS (show b ≤ b from Nat.le_refl _) 3 (by decide) q147 rfl rfl hnm rfl rfl rfl (Nat.le_of_ble_eq_true rfl) dX1_init_26 (fun H locs hV1 hz1 ho1 hS => ?_)
  have p1 := p1.kept (fun q hq => ho1 q (bkA_neb hq (by decide)))
  have p2 := p2.kept (fun q hq => ho1 q (bkA_neb hq (by decide)))
  have p3 := p3.kept (fun q hq => ho1 q (bkA_neb hq (by decide)))
  have p0 : bkP dC dI b 1 (fun _ => .inr (1, [.ref (b + 1), .ref (b + 2), .int 0, .ref (b + 3), .null, .int 0, .null, .int 0, .null, .null, .int 0])) H := bk_1 hV1
  have hsz := hz1.trans hsz
  refine lv_aload_n X.1 X.2.1 dX1_init_29 rfl (lv_at hl 0 rfl) ?_
  refine lv_bipush (v := nI 6) X.1 X.2.1 dX1_init_30 rfl ?_
  refine xb_newa (b := b + 4) (N := 0) (t := 0) (fty := .int) X q135 rfl rfl (fun _ h => h) rfl bk_0 hsz hS (n := 6) (by decide) (by decide) (Nat.le_of_ble_eq_true rfl) (Nat.le_of_ble_eq_true rfl) dX1_init_32 (fun H hP0 hsz ho hS => ?_)
  have p0 := p0.kept (fun q hq => ho q (bk_sz p0 hq))
  have p1 := p1.kept (fun q hq => ho q (bk_sz p1 hq))
  have p2 := p2.kept (fun q hq => ho q (bk_sz p2 hq))
  have p3 := p3.kept (fun q hq => ho q (bk_sz p3 hq))
  have p4 : bkP dC dI (b + 4) 1 (fun _ => .inl (dA 0, 6, .inl (fun _ => 0))) H := bk_1 (hP0 0 Nat.zero_lt_one)
  have hsz : H.size = b + 5 := hsz
  refine xc_putF (C := RX1) (T := TX1) X in_X1 tyX1 tyX1_ok nmX1 (ci := 1) rfl (show va_at (dC, dI) rvCl (b, .inr (1, [.ref (b + 1), .ref (b + 2), .int 0, .ref (b + 3), .null, .int 0, .null, .int 0, .null, .null, .int 0])) _ from p0 0 (by decide)) hS (show b ≤ b from Nat.le_refl _) 4 (by decide) q149 rfl rfl hnm rfl rfl rfl (Nat.le_of_ble_eq_true rfl) dX1_init_34 (fun H locs hV1 hz1 ho1 hS => ?_)
  have p1 := p1.kept (fun q hq => ho1 q (bkA_neb hq (by decide)))
  have p2 := p2.kept (fun q hq => ho1 q (bkA_neb hq (by decide)))
  have p3 := p3.kept (fun q hq => ho1 q (bkA_neb hq (by decide)))
  have p4 := p4.kept (fun q hq => ho1 q (bkA_neb hq (by decide)))
  have p0 : bkP dC dI b 1 (fun _ => .inr (1, [.ref (b + 1), .ref (b + 2), .int 0, .ref (b + 3), .ref (b + 4), .int 0, .null, .int 0, .null, .null, .int 0])) H := bk_1 hV1
  have hsz := hz1.trans hsz
  refine lv_aload_n X.1 X.2.1 dX1_init_37 rfl (lv_at hl 0 rfl) ?_
  refine lv_bipush (v := nI 18) X.1 X.2.1 dX1_init_38 rfl ?_
  refine xb_newa (b := b + 5) (N := 0) (t := 0) (fty := .int) X q135 rfl rfl (fun _ h => h) rfl bk_0 hsz hS (n := 18) (by decide) (by decide) (Nat.le_of_ble_eq_true rfl) (Nat.le_of_ble_eq_true rfl) dX1_init_40 (fun H hP0 hsz ho hS => ?_)
  have p0 := p0.kept (fun q hq => ho q (bk_sz p0 hq))
  have p1 := p1.kept (fun q hq => ho q (bk_sz p1 hq))
  have p2 := p2.kept (fun q hq => ho q (bk_sz p2 hq))
  have p3 := p3.kept (fun q hq => ho q (bk_sz p3 hq))
  have p4 := p4.kept (fun q hq => ho q (bk_sz p4 hq))
  have p5 : bkP dC dI (b + 5) 1 (fun _ => .inl (dA 0, 18, .inl (fun _ => 0))) H := bk_1 (hP0 0 Nat.zero_lt_one)
  have hsz : H.size = b + 6 := hsz
  refine xc_putF (C := RX1) (T := TX1) X in_X1 tyX1 tyX1_ok nmX1 (ci := 1) rfl (show va_at (dC, dI) rvCl (b, .inr (1, [.ref (b + 1), .ref (b + 2), .int 0, .ref (b + 3), .ref (b + 4), .int 0, .null, .int 0, .null, .null, .int 0])) _ from p0 0 (by decide)) hS (show b ≤ b from Nat.le_refl _) 6 (by decide) q155 rfl rfl hnm rfl rfl rfl (Nat.le_of_ble_eq_true rfl) dX1_init_42 (fun H locs hV1 hz1 ho1 hS => ?_)
  have p1 := p1.kept (fun q hq => ho1 q (bkA_neb hq (by decide)))
  have p2 := p2.kept (fun q hq => ho1 q (bkA_neb hq (by decide)))
  have p3 := p3.kept (fun q hq => ho1 q (bkA_neb hq (by decide)))
  have p4 := p4.kept (fun q hq => ho1 q (bkA_neb hq (by decide)))
  have p5 := p5.kept (fun q hq => ho1 q (bkA_neb hq (by decide)))
  have p0 : bkP dC dI b 1 (fun _ => .inr (1, [.ref (b + 1), .ref (b + 2), .int 0, .ref (b + 3), .ref (b + 4), .int 0, .ref (b + 5), .int 0, .null, .null, .int 0])) H := bk_1 hV1
  have hsz := hz1.trans hsz
  refine lv_aload_n X.1 X.2.1 dX1_init_45 rfl (lv_at hl 0 rfl) ?_
  refine xb_new (b := b + 6) (N := 0) (C := RX2) (T := TX2) (NN := 6) (ci := 2) X in_X2 tyX2 tyX2_ok rfl q99 q100 q63 bk_0 hsz hS (fs := [.null, .null, .int 0, .int 0, .null, .int 0]) (fun j hj => by match j, hj with | 0, _ => rfl | 1, _ => rfl | 2, _ => rfl | 3, _ => rfl | 4, _ => rfl | 5, _ => rfl) (Nat.le_of_ble_eq_true rfl) (Nat.le_of_ble_eq_true rfl) dX1_init_46 (fun H hP0 hsz ho hS => ?_)
  have p0 := p0.kept (fun q hq => ho q (bk_sz p0 hq))
  have p1 := p1.kept (fun q hq => ho q (bk_sz p1 hq))
  have p2 := p2.kept (fun q hq => ho q (bk_sz p2 hq))
  have p3 := p3.kept (fun q hq => ho q (bk_sz p3 hq))
  have p4 := p4.kept (fun q hq => ho q (bk_sz p4 hq))
  have p5 := p5.kept (fun q hq => ho q (bk_sz p5 hq))
  have p6 : bkP dC dI (b + 6) 1 (fun _ => .inr (2, [.null, .null, .int 0, .int 0, .null, .int 0])) H := bk_1 (hP0 0 Nat.zero_lt_one)
  have hsz : H.size = b + 7 := hsz
  refine lv_dup X.1 X.2.1 dX1_init_49 rfl ?_
  refine x_cWv (x_runIN X hN (b := b + 6) ⟨hsz, (p6 0 (by decide))⟩ (As := []) (rest := [.ref (b + 6), .ref b]) (xi_X2 l dC dI dA (b + 6)) xkin_X1_32 rfl rfl ⟨Nat.le_of_ble_eq_true rfl, Nat.le_of_ble_eq_true rfl⟩ hl.1 (Nat.le_of_ble_eq_true rfl) dX1_init_50 ⟨Nat.le_of_ble_eq_true rfl, Nat.le_of_ble_eq_true rfl⟩) hS (fun q h => Nat.le_trans (Nat.le_add_right b 6) h) (fun q h => Nat.le_trans (Nat.le_add_right b 6) h) (fun _ H locs _ hQ1 hz1 hk1 hS => ?_)
  have p0 := p0.kept (fun q hq => hk1 q (bk_sz p0 hq) (bkA_lt0 hq (by decide)))
  have p1 := p1.kept (fun q hq => hk1 q (bk_sz p1 hq) (bkA_lt hq (by decide)))
  have p2 := p2.kept (fun q hq => hk1 q (bk_sz p2 hq) (bkA_lt hq (by decide)))
  have p3 := p3.kept (fun q hq => hk1 q (bk_sz p3 hq) (bkA_lt hq (by decide)))
  have p4 := p4.kept (fun q hq => hk1 q (bk_sz p4 hq) (bkA_lt hq (by decide)))
  have p5 := p5.kept (fun q hq => hk1 q (bk_sz p5 hq) (bkA_lt hq (by decide)))
  have p6 := hQ1.1
  have hsz : H.size = b + 10 := hQ1.2
  refine xc_putF (C := RX1) (T := TX1) X in_X1 tyX1 tyX1_ok nmX1 (ci := 1) rfl (show va_at (dC, dI) rvCl (b, .inr (1, [.ref (b + 1), .ref (b + 2), .int 0, .ref (b + 3), .ref (b + 4), .int 0, .ref (b + 5), .int 0, .null, .null, .int 0])) _ from p0 0 (by decide)) hS (show b ≤ b from Nat.le_refl _) 8 (by decide) q159 rfl rfl hnm rfl rfl rfl (Nat.le_of_ble_eq_true rfl) dX1_init_53 (fun H locs hV1 hz1 ho1 hS => ?_)
  have p1 := p1.kept (fun q hq => ho1 q (bkA_neb hq (by decide)))
  have p2 := p2.kept (fun q hq => ho1 q (bkA_neb hq (by decide)))
  have p3 := p3.kept (fun q hq => ho1 q (bkA_neb hq (by decide)))
  have p4 := p4.kept (fun q hq => ho1 q (bkA_neb hq (by decide)))
  have p5 := p5.kept (fun q hq => ho1 q (bkA_neb hq (by decide)))
  have p6 := p6.kept (fun q hq => ho1 q (bkA_neb hq (by decide)))
  have p0 : bkP dC dI b 1 (fun _ => .inr (1, [.ref (b + 1), .ref (b + 2), .int 0, .ref (b + 3), .ref (b + 4), .int 0, .ref (b + 5), .int 0, .ref (b + 6), .null, .int 0])) H := bk_1 hV1
  have hsz := hz1.trans hsz
  refine lv_aload_n X.1 X.2.1 dX1_init_56 rfl (lv_at hl 0 rfl) ?_
  refine lv_bipush (v := nI 8) X.1 X.2.1 dX1_init_57 rfl ?_
  refine xb_newq (b := b + 10) (N := 0) (C := RX2) (t := 4) X q99 (x_nest hN q136 rfl) rfl bk_0 hsz hS (n := 8) (by decide) (Nat.le_of_ble_eq_true rfl) (Nat.le_of_ble_eq_true rfl) dX1_init_59 (fun H hP0 hsz ho hS => ?_)
  have p0 := p0.kept (fun q hq => ho q (bk_sz p0 hq))
  have p1 := p1.kept (fun q hq => ho q (bk_sz p1 hq))
  have p2 := p2.kept (fun q hq => ho q (bk_sz p2 hq))
  have p3 := p3.kept (fun q hq => ho q (bk_sz p3 hq))
  have p4 := p4.kept (fun q hq => ho q (bk_sz p4 hq))
  have p5 := p5.kept (fun q hq => ho q (bk_sz p5 hq))
  have p6 := p6.kept (fun q hq => ho q (bk_sz p6 hq))
  have p10 : bkP dC dI (b + 10) 1 (fun _ => xQ dA 4 8 (fun _ => none)) H := bk_1 (hP0 0 Nat.zero_lt_one)
  have hsz : H.size = b + 11 := hsz
  refine lv_dup X.1 X.2.1 dX1_init_62 rfl ?_
  refine lv_iconst (v := nI 0) X.1 X.2.1 dX1_init_63 rfl ?_
  refine xb_new (b := b + 11) (N := 0) (C := RX2) (T := TX2) (NN := 6) (ci := 2) X in_X2 tyX2 tyX2_ok rfl q99 q100 q63 bk_0 hsz hS (fs := [.null, .null, .int 0, .int 0, .null, .int 0]) (fun j hj => by match j, hj with | 0, _ => rfl | 1, _ => rfl | 2, _ => rfl | 3, _ => rfl | 4, _ => rfl | 5, _ => rfl) (Nat.le_of_ble_eq_true rfl) (Nat.le_of_ble_eq_true rfl) dX1_init_64 (fun H hP0 hsz ho hS => ?_)
  have p0 := p0.kept (fun q hq => ho q (bk_sz p0 hq))
  have p1 := p1.kept (fun q hq => ho q (bk_sz p1 hq))
  have p2 := p2.kept (fun q hq => ho q (bk_sz p2 hq))
  have p3 := p3.kept (fun q hq => ho q (bk_sz p3 hq))
  have p4 := p4.kept (fun q hq => ho q (bk_sz p4 hq))
  have p5 := p5.kept (fun q hq => ho q (bk_sz p5 hq))
  have p6 := p6.kept (fun q hq => ho q (bk_sz p6 hq))
  have p10 := p10.kept (fun q hq => ho q (bk_sz p10 hq))
  have p11 : bkP dC dI (b + 11) 1 (fun _ => .inr (2, [.null, .null, .int 0, .int 0, .null, .int 0])) H := bk_1 (hP0 0 Nat.zero_lt_one)
  have hsz : H.size = b + 12 := hsz
  refine lv_dup X.1 X.2.1 dX1_init_67 rfl ?_
  refine x_cWv (x_runIN X hN (b := b + 11) ⟨hsz, (p11 0 (by decide))⟩ (As := []) (rest := [.ref (b + 11), .int (nI 0), .ref (b + 10), .ref (b + 10), .ref b]) (xi_X2 l dC dI dA (b + 11)) xkin_X1_32 rfl rfl ⟨Nat.le_of_ble_eq_true rfl, Nat.le_of_ble_eq_true rfl⟩ hl.1 (Nat.le_of_ble_eq_true rfl) dX1_init_68 ⟨Nat.le_of_ble_eq_true rfl, Nat.le_of_ble_eq_true rfl⟩) hS (fun q h => Nat.le_trans (Nat.le_add_right b 11) h) (fun q h => Nat.le_trans (Nat.le_add_right b 11) h) (fun _ H locs _ hQ1 hz1 hk1 hS => ?_)
  have p0 := p0.kept (fun q hq => hk1 q (bk_sz p0 hq) (bkA_lt0 hq (by decide)))
  have p1 := p1.kept (fun q hq => hk1 q (bk_sz p1 hq) (bkA_lt hq (by decide)))
  have p2 := p2.kept (fun q hq => hk1 q (bk_sz p2 hq) (bkA_lt hq (by decide)))
  have p3 := p3.kept (fun q hq => hk1 q (bk_sz p3 hq) (bkA_lt hq (by decide)))
  have p4 := p4.kept (fun q hq => hk1 q (bk_sz p4 hq) (bkA_lt hq (by decide)))
  have p5 := p5.kept (fun q hq => hk1 q (bk_sz p5 hq) (bkA_lt hq (by decide)))
  have p6 := p6.kept (fun q hq => hk1 q (bk_sz p6 hq) (bkA_lt hq (by decide)))
  have p10 := p10.kept (fun q hq => hk1 q (bk_sz p10 hq) (bkA_lt hq (by decide)))
  have p11 := hQ1.1
  have hsz : H.size = b + 15 := hQ1.2
  refine xc_aast (E := RX2) (a := b + 10) (t := 4) (n := 8) (f := fun _ => none) (v := b + 11) X (p10 0 (by decide)) hS (show b ≤ b + 10 from Nat.le_add_right _ _) rfl (cell_any X.2.2.2.2.2 (ci := 2) rfl (p11 0 (by decide))) (i := 0) (by decide) (by decide) dX1_init_71 (fun H locs hV1 hz1 ho1 hS => ?_)
  have p0 := p0.kept (fun q hq => ho1 q (bkA_ne0 hq (by decide)))
  have p1 := p1.kept (fun q hq => ho1 q (bkA_ne hq (by decide)))
  have p2 := p2.kept (fun q hq => ho1 q (bkA_ne hq (by decide)))
  have p3 := p3.kept (fun q hq => ho1 q (bkA_ne hq (by decide)))
  have p4 := p4.kept (fun q hq => ho1 q (bkA_ne hq (by decide)))
  have p5 := p5.kept (fun q hq => ho1 q (bkA_ne hq (by decide)))
  have p6 := p6.kept (fun q hq => ho1 q (bkA_ne hq (by decide)))
  have p11 := p11.kept (fun q hq => ho1 q (bkA_ne hq (by decide)))
  have p10 : bkP dC dI (b + 10) 1 (fun _ => xQ dA 4 8 (va_up (fun _ => none) 0 (some (b + 11)))) H := bk_1 hV1
  have hsz := hz1.trans hsz
  refine lv_dup X.1 X.2.1 dX1_init_72 rfl ?_
  refine lv_iconst (v := nI 1) X.1 X.2.1 dX1_init_73 rfl ?_
  refine xb_new (b := b + 15) (N := 0) (C := RX2) (T := TX2) (NN := 6) (ci := 2) X in_X2 tyX2 tyX2_ok rfl q99 q100 q63 bk_0 hsz hS (fs := [.null, .null, .int 0, .int 0, .null, .int 0]) (fun j hj => by match j, hj with | 0, _ => rfl | 1, _ => rfl | 2, _ => rfl | 3, _ => rfl | 4, _ => rfl | 5, _ => rfl) (Nat.le_of_ble_eq_true rfl) (Nat.le_of_ble_eq_true rfl) dX1_init_74 (fun H hP0 hsz ho hS => ?_)
  have p0 := p0.kept (fun q hq => ho q (bk_sz p0 hq))
  have p1 := p1.kept (fun q hq => ho q (bk_sz p1 hq))
  have p2 := p2.kept (fun q hq => ho q (bk_sz p2 hq))
  have p3 := p3.kept (fun q hq => ho q (bk_sz p3 hq))
  have p4 := p4.kept (fun q hq => ho q (bk_sz p4 hq))
  have p5 := p5.kept (fun q hq => ho q (bk_sz p5 hq))
  have p6 := p6.kept (fun q hq => ho q (bk_sz p6 hq))
  have p10 := p10.kept (fun q hq => ho q (bk_sz p10 hq))
  have p11 := p11.kept (fun q hq => ho q (bk_sz p11 hq))
  have p15 : bkP dC dI (b + 15) 1 (fun _ => .inr (2, [.null, .null, .int 0, .int 0, .null, .int 0])) H := bk_1 (hP0 0 Nat.zero_lt_one)
  have hsz : H.size = b + 16 := hsz
  refine lv_dup X.1 X.2.1 dX1_init_77 rfl ?_
  refine x_cWv (x_runIN X hN (b := b + 15) ⟨hsz, (p15 0 (by decide))⟩ (As := []) (rest := [.ref (b + 15), .int (nI 1), .ref (b + 10), .ref (b + 10), .ref b]) (xi_X2 l dC dI dA (b + 15)) xkin_X1_32 rfl rfl ⟨Nat.le_of_ble_eq_true rfl, Nat.le_of_ble_eq_true rfl⟩ hl.1 (Nat.le_of_ble_eq_true rfl) dX1_init_78 ⟨Nat.le_of_ble_eq_true rfl, Nat.le_of_ble_eq_true rfl⟩) hS (fun q h => Nat.le_trans (Nat.le_add_right b 15) h) (fun q h => Nat.le_trans (Nat.le_add_right b 15) h) (fun _ H locs _ hQ1 hz1 hk1 hS => ?_)
  have p0 := p0.kept (fun q hq => hk1 q (bk_sz p0 hq) (bkA_lt0 hq (by decide)))
  have p1 := p1.kept (fun q hq => hk1 q (bk_sz p1 hq) (bkA_lt hq (by decide)))
  have p2 := p2.kept (fun q hq => hk1 q (bk_sz p2 hq) (bkA_lt hq (by decide)))
  have p3 := p3.kept (fun q hq => hk1 q (bk_sz p3 hq) (bkA_lt hq (by decide)))
  have p4 := p4.kept (fun q hq => hk1 q (bk_sz p4 hq) (bkA_lt hq (by decide)))
  have p5 := p5.kept (fun q hq => hk1 q (bk_sz p5 hq) (bkA_lt hq (by decide)))
  have p6 := p6.kept (fun q hq => hk1 q (bk_sz p6 hq) (bkA_lt hq (by decide)))
  have p10 := p10.kept (fun q hq => hk1 q (bk_sz p10 hq) (bkA_lt hq (by decide)))
  have p11 := p11.kept (fun q hq => hk1 q (bk_sz p11 hq) (bkA_lt hq (by decide)))
  have p15 := hQ1.1
  have hsz : H.size = b + 19 := hQ1.2
  refine xc_aast (E := RX2) (a := b + 10) (t := 4) (n := 8) (f := va_up (fun _ => none) 0 (some (b + 11))) (v := b + 15) X (p10 0 (by decide)) hS (show b ≤ b + 10 from Nat.le_add_right _ _) rfl (cell_any X.2.2.2.2.2 (ci := 2) rfl (p15 0 (by decide))) (i := 1) (by decide) (by decide) dX1_init_81 (fun H locs hV1 hz1 ho1 hS => ?_)
  have p0 := p0.kept (fun q hq => ho1 q (bkA_ne0 hq (by decide)))
  have p1 := p1.kept (fun q hq => ho1 q (bkA_ne hq (by decide)))
  have p2 := p2.kept (fun q hq => ho1 q (bkA_ne hq (by decide)))
  have p3 := p3.kept (fun q hq => ho1 q (bkA_ne hq (by decide)))
  have p4 := p4.kept (fun q hq => ho1 q (bkA_ne hq (by decide)))
  have p5 := p5.kept (fun q hq => ho1 q (bkA_ne hq (by decide)))
  have p6 := p6.kept (fun q hq => ho1 q (bkA_ne hq (by decide)))
  have p11 := p11.kept (fun q hq => ho1 q (bkA_ne hq (by decide)))
  have p15 := p15.kept (fun q hq => ho1 q (bkA_ne hq (by decide)))
  have p10 : bkP dC dI (b + 10) 1 (fun _ => xQ dA 4 8 (va_up (va_up (fun _ => none) 0 (some (b + 11))) 1 (some (b + 15)))) H := bk_1 hV1
  have hsz := hz1.trans hsz
  refine lv_dup X.1 X.2.1 dX1_init_82 rfl ?_
  refine lv_iconst (v := nI 2) X.1 X.2.1 dX1_init_83 rfl ?_
  refine xb_new (b := b + 19) (N := 0) (C := RX2) (T := TX2) (NN := 6) (ci := 2) X in_X2 tyX2 tyX2_ok rfl q99 q100 q63 bk_0 hsz hS (fs := [.null, .null, .int 0, .int 0, .null, .int 0]) (fun j hj => by match j, hj with | 0, _ => rfl | 1, _ => rfl | 2, _ => rfl | 3, _ => rfl | 4, _ => rfl | 5, _ => rfl) (Nat.le_of_ble_eq_true rfl) (Nat.le_of_ble_eq_true rfl) dX1_init_84 (fun H hP0 hsz ho hS => ?_)
  have p0 := p0.kept (fun q hq => ho q (bk_sz p0 hq))
  have p1 := p1.kept (fun q hq => ho q (bk_sz p1 hq))
  have p2 := p2.kept (fun q hq => ho q (bk_sz p2 hq))
  have p3 := p3.kept (fun q hq => ho q (bk_sz p3 hq))
  have p4 := p4.kept (fun q hq => ho q (bk_sz p4 hq))
  have p5 := p5.kept (fun q hq => ho q (bk_sz p5 hq))
  have p6 := p6.kept (fun q hq => ho q (bk_sz p6 hq))
  have p10 := p10.kept (fun q hq => ho q (bk_sz p10 hq))
  have p11 := p11.kept (fun q hq => ho q (bk_sz p11 hq))
  have p15 := p15.kept (fun q hq => ho q (bk_sz p15 hq))
  have p19 : bkP dC dI (b + 19) 1 (fun _ => .inr (2, [.null, .null, .int 0, .int 0, .null, .int 0])) H := bk_1 (hP0 0 Nat.zero_lt_one)
  have hsz : H.size = b + 20 := hsz
  refine lv_dup X.1 X.2.1 dX1_init_87 rfl ?_
  refine x_cWv (x_runIN X hN (b := b + 19) ⟨hsz, (p19 0 (by decide))⟩ (As := []) (rest := [.ref (b + 19), .int (nI 2), .ref (b + 10), .ref (b + 10), .ref b]) (xi_X2 l dC dI dA (b + 19)) xkin_X1_32 rfl rfl ⟨Nat.le_of_ble_eq_true rfl, Nat.le_of_ble_eq_true rfl⟩ hl.1 (Nat.le_of_ble_eq_true rfl) dX1_init_88 ⟨Nat.le_of_ble_eq_true rfl, Nat.le_of_ble_eq_true rfl⟩) hS (fun q h => Nat.le_trans (Nat.le_add_right b 19) h) (fun q h => Nat.le_trans (Nat.le_add_right b 19) h) (fun _ H locs _ hQ1 hz1 hk1 hS => ?_)
  have p0 := p0.kept (fun q hq => hk1 q (bk_sz p0 hq) (bkA_lt0 hq (by decide)))
  have p1 := p1.kept (fun q hq => hk1 q (bk_sz p1 hq) (bkA_lt hq (by decide)))
  have p2 := p2.kept (fun q hq => hk1 q (bk_sz p2 hq) (bkA_lt hq (by decide)))
  have p3 := p3.kept (fun q hq => hk1 q (bk_sz p3 hq) (bkA_lt hq (by decide)))
  have p4 := p4.kept (fun q hq => hk1 q (bk_sz p4 hq) (bkA_lt hq (by decide)))
  have p5 := p5.kept (fun q hq => hk1 q (bk_sz p5 hq) (bkA_lt hq (by decide)))
  have p6 := p6.kept (fun q hq => hk1 q (bk_sz p6 hq) (bkA_lt hq (by decide)))
  have p10 := p10.kept (fun q hq => hk1 q (bk_sz p10 hq) (bkA_lt hq (by decide)))
  have p11 := p11.kept (fun q hq => hk1 q (bk_sz p11 hq) (bkA_lt hq (by decide)))
  have p15 := p15.kept (fun q hq => hk1 q (bk_sz p15 hq) (bkA_lt hq (by decide)))
  have p19 := hQ1.1
  have hsz : H.size = b + 23 := hQ1.2
  refine xc_aast (E := RX2) (a := b + 10) (t := 4) (n := 8) (f := va_up (va_up (fun _ => none) 0 (some (b + 11))) 1 (some (b + 15))) (v := b + 19) X (p10 0 (by decide)) hS (show b ≤ b + 10 from Nat.le_add_right _ _) rfl (cell_any X.2.2.2.2.2 (ci := 2) rfl (p19 0 (by decide))) (i := 2) (by decide) (by decide) dX1_init_91 (fun H locs hV1 hz1 ho1 hS => ?_)
  have p0 := p0.kept (fun q hq => ho1 q (bkA_ne0 hq (by decide)))
  have p1 := p1.kept (fun q hq => ho1 q (bkA_ne hq (by decide)))
  have p2 := p2.kept (fun q hq => ho1 q (bkA_ne hq (by decide)))
  have p3 := p3.kept (fun q hq => ho1 q (bkA_ne hq (by decide)))
  have p4 := p4.kept (fun q hq => ho1 q (bkA_ne hq (by decide)))
  have p5 := p5.kept (fun q hq => ho1 q (bkA_ne hq (by decide)))
  have p6 := p6.kept (fun q hq => ho1 q (bkA_ne hq (by decide)))
  have p11 := p11.kept (fun q hq => ho1 q (bkA_ne hq (by decide)))
  have p15 := p15.kept (fun q hq => ho1 q (bkA_ne hq (by decide)))
  have p19 := p19.kept (fun q hq => ho1 q (bkA_ne hq (by decide)))
  have p10 : bkP dC dI (b + 10) 1 (fun _ => xQ dA 4 8 (va_up (va_up (va_up (fun _ => none) 0 (some (b + 11))) 1 (some (b + 15))) 2 (some (b + 19)))) H := bk_1 hV1
  have hsz := hz1.trans hsz
  refine lv_dup X.1 X.2.1 dX1_init_92 rfl ?_
  refine lv_iconst (v := nI 3) X.1 X.2.1 dX1_init_93 rfl ?_
  refine xb_new (b := b + 23) (N := 0) (C := RX2) (T := TX2) (NN := 6) (ci := 2) X in_X2 tyX2 tyX2_ok rfl q99 q100 q63 bk_0 hsz hS (fs := [.null, .null, .int 0, .int 0, .null, .int 0]) (fun j hj => by match j, hj with | 0, _ => rfl | 1, _ => rfl | 2, _ => rfl | 3, _ => rfl | 4, _ => rfl | 5, _ => rfl) (Nat.le_of_ble_eq_true rfl) (Nat.le_of_ble_eq_true rfl) dX1_init_94 (fun H hP0 hsz ho hS => ?_)
  have p0 := p0.kept (fun q hq => ho q (bk_sz p0 hq))
  have p1 := p1.kept (fun q hq => ho q (bk_sz p1 hq))
  have p2 := p2.kept (fun q hq => ho q (bk_sz p2 hq))
  have p3 := p3.kept (fun q hq => ho q (bk_sz p3 hq))
  have p4 := p4.kept (fun q hq => ho q (bk_sz p4 hq))
  have p5 := p5.kept (fun q hq => ho q (bk_sz p5 hq))
  have p6 := p6.kept (fun q hq => ho q (bk_sz p6 hq))
  have p10 := p10.kept (fun q hq => ho q (bk_sz p10 hq))
  have p11 := p11.kept (fun q hq => ho q (bk_sz p11 hq))
  have p15 := p15.kept (fun q hq => ho q (bk_sz p15 hq))
  have p19 := p19.kept (fun q hq => ho q (bk_sz p19 hq))
  have p23 : bkP dC dI (b + 23) 1 (fun _ => .inr (2, [.null, .null, .int 0, .int 0, .null, .int 0])) H := bk_1 (hP0 0 Nat.zero_lt_one)
  have hsz : H.size = b + 24 := hsz
  refine lv_dup X.1 X.2.1 dX1_init_97 rfl ?_
  refine x_cWv (x_runIN X hN (b := b + 23) ⟨hsz, (p23 0 (by decide))⟩ (As := []) (rest := [.ref (b + 23), .int (nI 3), .ref (b + 10), .ref (b + 10), .ref b]) (xi_X2 l dC dI dA (b + 23)) xkin_X1_32 rfl rfl ⟨Nat.le_of_ble_eq_true rfl, Nat.le_of_ble_eq_true rfl⟩ hl.1 (Nat.le_of_ble_eq_true rfl) dX1_init_98 ⟨Nat.le_of_ble_eq_true rfl, Nat.le_of_ble_eq_true rfl⟩) hS (fun q h => Nat.le_trans (Nat.le_add_right b 23) h) (fun q h => Nat.le_trans (Nat.le_add_right b 23) h) (fun _ H locs _ hQ1 hz1 hk1 hS => ?_)
  have p0 := p0.kept (fun q hq => hk1 q (bk_sz p0 hq) (bkA_lt0 hq (by decide)))
  have p1 := p1.kept (fun q hq => hk1 q (bk_sz p1 hq) (bkA_lt hq (by decide)))
  have p2 := p2.kept (fun q hq => hk1 q (bk_sz p2 hq) (bkA_lt hq (by decide)))
  have p3 := p3.kept (fun q hq => hk1 q (bk_sz p3 hq) (bkA_lt hq (by decide)))
  have p4 := p4.kept (fun q hq => hk1 q (bk_sz p4 hq) (bkA_lt hq (by decide)))
  have p5 := p5.kept (fun q hq => hk1 q (bk_sz p5 hq) (bkA_lt hq (by decide)))
  have p6 := p6.kept (fun q hq => hk1 q (bk_sz p6 hq) (bkA_lt hq (by decide)))
  have p10 := p10.kept (fun q hq => hk1 q (bk_sz p10 hq) (bkA_lt hq (by decide)))
  have p11 := p11.kept (fun q hq => hk1 q (bk_sz p11 hq) (bkA_lt hq (by decide)))
  have p15 := p15.kept (fun q hq => hk1 q (bk_sz p15 hq) (bkA_lt hq (by decide)))
  have p19 := p19.kept (fun q hq => hk1 q (bk_sz p19 hq) (bkA_lt hq (by decide)))
  have p23 := hQ1.1
  have hsz : H.size = b + 27 := hQ1.2
  refine xc_aast (E := RX2) (a := b + 10) (t := 4) (n := 8) (f := va_up (va_up (va_up (fun _ => none) 0 (some (b + 11))) 1 (some (b + 15))) 2 (some (b + 19))) (v := b + 23) X (p10 0 (by decide)) hS (show b ≤ b + 10 from Nat.le_add_right _ _) rfl (cell_any X.2.2.2.2.2 (ci := 2) rfl (p23 0 (by decide))) (i := 3) (by decide) (by decide) dX1_init_101 (fun H locs hV1 hz1 ho1 hS => ?_)
  have p0 := p0.kept (fun q hq => ho1 q (bkA_ne0 hq (by decide)))
  have p1 := p1.kept (fun q hq => ho1 q (bkA_ne hq (by decide)))
  have p2 := p2.kept (fun q hq => ho1 q (bkA_ne hq (by decide)))
  have p3 := p3.kept (fun q hq => ho1 q (bkA_ne hq (by decide)))
  have p4 := p4.kept (fun q hq => ho1 q (bkA_ne hq (by decide)))
  have p5 := p5.kept (fun q hq => ho1 q (bkA_ne hq (by decide)))
  have p6 := p6.kept (fun q hq => ho1 q (bkA_ne hq (by decide)))
  have p11 := p11.kept (fun q hq => ho1 q (bkA_ne hq (by decide)))
  have p15 := p15.kept (fun q hq => ho1 q (bkA_ne hq (by decide)))
  have p19 := p19.kept (fun q hq => ho1 q (bkA_ne hq (by decide)))
  have p23 := p23.kept (fun q hq => ho1 q (bkA_ne hq (by decide)))
  have p10 : bkP dC dI (b + 10) 1 (fun _ => xQ dA 4 8 (va_up (va_up (va_up (va_up (fun _ => none) 0 (some (b + 11))) 1 (some (b + 15))) 2 (some (b + 19))) 3 (some (b + 23)))) H := bk_1 hV1
  have hsz := hz1.trans hsz
  refine lv_dup X.1 X.2.1 dX1_init_102 rfl ?_
  refine lv_iconst (v := nI 4) X.1 X.2.1 dX1_init_103 rfl ?_
  refine xb_new (b := b + 27) (N := 0) (C := RX2) (T := TX2) (NN := 6) (ci := 2) X in_X2 tyX2 tyX2_ok rfl q99 q100 q63 bk_0 hsz hS (fs := [.null, .null, .int 0, .int 0, .null, .int 0]) (fun j hj => by match j, hj with | 0, _ => rfl | 1, _ => rfl | 2, _ => rfl | 3, _ => rfl | 4, _ => rfl | 5, _ => rfl) (Nat.le_of_ble_eq_true rfl) (Nat.le_of_ble_eq_true rfl) dX1_init_104 (fun H hP0 hsz ho hS => ?_)
  have p0 := p0.kept (fun q hq => ho q (bk_sz p0 hq))
  have p1 := p1.kept (fun q hq => ho q (bk_sz p1 hq))
  have p2 := p2.kept (fun q hq => ho q (bk_sz p2 hq))
  have p3 := p3.kept (fun q hq => ho q (bk_sz p3 hq))
  have p4 := p4.kept (fun q hq => ho q (bk_sz p4 hq))
  have p5 := p5.kept (fun q hq => ho q (bk_sz p5 hq))
  have p6 := p6.kept (fun q hq => ho q (bk_sz p6 hq))
  have p10 := p10.kept (fun q hq => ho q (bk_sz p10 hq))
  have p11 := p11.kept (fun q hq => ho q (bk_sz p11 hq))
  have p15 := p15.kept (fun q hq => ho q (bk_sz p15 hq))
  have p19 := p19.kept (fun q hq => ho q (bk_sz p19 hq))
  have p23 := p23.kept (fun q hq => ho q (bk_sz p23 hq))
  have p27 : bkP dC dI (b + 27) 1 (fun _ => .inr (2, [.null, .null, .int 0, .int 0, .null, .int 0])) H := bk_1 (hP0 0 Nat.zero_lt_one)
  have hsz : H.size = b + 28 := hsz
  refine lv_dup X.1 X.2.1 dX1_init_107 rfl ?_
  refine x_cWv (x_runIN X hN (b := b + 27) ⟨hsz, (p27 0 (by decide))⟩ (As := []) (rest := [.ref (b + 27), .int (nI 4), .ref (b + 10), .ref (b + 10), .ref b]) (xi_X2 l dC dI dA (b + 27)) xkin_X1_32 rfl rfl ⟨Nat.le_of_ble_eq_true rfl, Nat.le_of_ble_eq_true rfl⟩ hl.1 (Nat.le_of_ble_eq_true rfl) dX1_init_108 ⟨Nat.le_of_ble_eq_true rfl, Nat.le_of_ble_eq_true rfl⟩) hS (fun q h => Nat.le_trans (Nat.le_add_right b 27) h) (fun q h => Nat.le_trans (Nat.le_add_right b 27) h) (fun _ H locs _ hQ1 hz1 hk1 hS => ?_)
  have p0 := p0.kept (fun q hq => hk1 q (bk_sz p0 hq) (bkA_lt0 hq (by decide)))
  have p1 := p1.kept (fun q hq => hk1 q (bk_sz p1 hq) (bkA_lt hq (by decide)))
  have p2 := p2.kept (fun q hq => hk1 q (bk_sz p2 hq) (bkA_lt hq (by decide)))
  have p3 := p3.kept (fun q hq => hk1 q (bk_sz p3 hq) (bkA_lt hq (by decide)))
  have p4 := p4.kept (fun q hq => hk1 q (bk_sz p4 hq) (bkA_lt hq (by decide)))
  have p5 := p5.kept (fun q hq => hk1 q (bk_sz p5 hq) (bkA_lt hq (by decide)))
  have p6 := p6.kept (fun q hq => hk1 q (bk_sz p6 hq) (bkA_lt hq (by decide)))
  have p10 := p10.kept (fun q hq => hk1 q (bk_sz p10 hq) (bkA_lt hq (by decide)))
  have p11 := p11.kept (fun q hq => hk1 q (bk_sz p11 hq) (bkA_lt hq (by decide)))
  have p15 := p15.kept (fun q hq => hk1 q (bk_sz p15 hq) (bkA_lt hq (by decide)))
  have p19 := p19.kept (fun q hq => hk1 q (bk_sz p19 hq) (bkA_lt hq (by decide)))
  have p23 := p23.kept (fun q hq => hk1 q (bk_sz p23 hq) (bkA_lt hq (by decide)))
  have p27 := hQ1.1
  have hsz : H.size = b + 31 := hQ1.2
  refine xc_aast (E := RX2) (a := b + 10) (t := 4) (n := 8) (f := va_up (va_up (va_up (va_up (fun _ => none) 0 (some (b + 11))) 1 (some (b + 15))) 2 (some (b + 19))) 3 (some (b + 23))) (v := b + 27) X (p10 0 (by decide)) hS (show b ≤ b + 10 from Nat.le_add_right _ _) rfl (cell_any X.2.2.2.2.2 (ci := 2) rfl (p27 0 (by decide))) (i := 4) (by decide) (by decide) dX1_init_111 (fun H locs hV1 hz1 ho1 hS => ?_)
  have p0 := p0.kept (fun q hq => ho1 q (bkA_ne0 hq (by decide)))
  have p1 := p1.kept (fun q hq => ho1 q (bkA_ne hq (by decide)))
  have p2 := p2.kept (fun q hq => ho1 q (bkA_ne hq (by decide)))
  have p3 := p3.kept (fun q hq => ho1 q (bkA_ne hq (by decide)))
  have p4 := p4.kept (fun q hq => ho1 q (bkA_ne hq (by decide)))
  have p5 := p5.kept (fun q hq => ho1 q (bkA_ne hq (by decide)))
  have p6 := p6.kept (fun q hq => ho1 q (bkA_ne hq (by decide)))
  have p11 := p11.kept (fun q hq => ho1 q (bkA_ne hq (by decide)))
  have p15 := p15.kept (fun q hq => ho1 q (bkA_ne hq (by decide)))
  have p19 := p19.kept (fun q hq => ho1 q (bkA_ne hq (by decide)))
  have p23 := p23.kept (fun q hq => ho1 q (bkA_ne hq (by decide)))
  have p27 := p27.kept (fun q hq => ho1 q (bkA_ne hq (by decide)))
  have p10 : bkP dC dI (b + 10) 1 (fun _ => xQ dA 4 8 (va_up (va_up (va_up (va_up (va_up (fun _ => none) 0 (some (b + 11))) 1 (some (b + 15))) 2 (some (b + 19))) 3 (some (b + 23))) 4 (some (b + 27)))) H := bk_1 hV1
  have hsz := hz1.trans hsz
  refine lv_dup X.1 X.2.1 dX1_init_112 rfl ?_
  refine lv_iconst (v := nI 5) X.1 X.2.1 dX1_init_113 rfl ?_
  refine xb_new (b := b + 31) (N := 0) (C := RX2) (T := TX2) (NN := 6) (ci := 2) X in_X2 tyX2 tyX2_ok rfl q99 q100 q63 bk_0 hsz hS (fs := [.null, .null, .int 0, .int 0, .null, .int 0]) (fun j hj => by match j, hj with | 0, _ => rfl | 1, _ => rfl | 2, _ => rfl | 3, _ => rfl | 4, _ => rfl | 5, _ => rfl) (Nat.le_of_ble_eq_true rfl) (Nat.le_of_ble_eq_true rfl) dX1_init_114 (fun H hP0 hsz ho hS => ?_)
  have p0 := p0.kept (fun q hq => ho q (bk_sz p0 hq))
  have p1 := p1.kept (fun q hq => ho q (bk_sz p1 hq))
  have p2 := p2.kept (fun q hq => ho q (bk_sz p2 hq))
  have p3 := p3.kept (fun q hq => ho q (bk_sz p3 hq))
  have p4 := p4.kept (fun q hq => ho q (bk_sz p4 hq))
  have p5 := p5.kept (fun q hq => ho q (bk_sz p5 hq))
  have p6 := p6.kept (fun q hq => ho q (bk_sz p6 hq))
  have p10 := p10.kept (fun q hq => ho q (bk_sz p10 hq))
  have p11 := p11.kept (fun q hq => ho q (bk_sz p11 hq))
  have p15 := p15.kept (fun q hq => ho q (bk_sz p15 hq))
  have p19 := p19.kept (fun q hq => ho q (bk_sz p19 hq))
  have p23 := p23.kept (fun q hq => ho q (bk_sz p23 hq))
  have p27 := p27.kept (fun q hq => ho q (bk_sz p27 hq))
  have p31 : bkP dC dI (b + 31) 1 (fun _ => .inr (2, [.null, .null, .int 0, .int 0, .null, .int 0])) H := bk_1 (hP0 0 Nat.zero_lt_one)
  have hsz : H.size = b + 32 := hsz
  refine lv_dup X.1 X.2.1 dX1_init_117 rfl ?_
  refine x_cWv (x_runIN X hN (b := b + 31) ⟨hsz, (p31 0 (by decide))⟩ (As := []) (rest := [.ref (b + 31), .int (nI 5), .ref (b + 10), .ref (b + 10), .ref b]) (xi_X2 l dC dI dA (b + 31)) xkin_X1_32 rfl rfl ⟨Nat.le_of_ble_eq_true rfl, Nat.le_of_ble_eq_true rfl⟩ hl.1 (Nat.le_of_ble_eq_true rfl) dX1_init_118 ⟨Nat.le_of_ble_eq_true rfl, Nat.le_of_ble_eq_true rfl⟩) hS (fun q h => Nat.le_trans (Nat.le_add_right b 31) h) (fun q h => Nat.le_trans (Nat.le_add_right b 31) h) (fun _ H locs _ hQ1 hz1 hk1 hS => ?_)
  have p0 := p0.kept (fun q hq => hk1 q (bk_sz p0 hq) (bkA_lt0 hq (by decide)))
  have p1 := p1.kept (fun q hq => hk1 q (bk_sz p1 hq) (bkA_lt hq (by decide)))
  have p2 := p2.kept (fun q hq => hk1 q (bk_sz p2 hq) (bkA_lt hq (by decide)))
  have p3 := p3.kept (fun q hq => hk1 q (bk_sz p3 hq) (bkA_lt hq (by decide)))
  have p4 := p4.kept (fun q hq => hk1 q (bk_sz p4 hq) (bkA_lt hq (by decide)))
  have p5 := p5.kept (fun q hq => hk1 q (bk_sz p5 hq) (bkA_lt hq (by decide)))
  have p6 := p6.kept (fun q hq => hk1 q (bk_sz p6 hq) (bkA_lt hq (by decide)))
  have p10 := p10.kept (fun q hq => hk1 q (bk_sz p10 hq) (bkA_lt hq (by decide)))
  have p11 := p11.kept (fun q hq => hk1 q (bk_sz p11 hq) (bkA_lt hq (by decide)))
  have p15 := p15.kept (fun q hq => hk1 q (bk_sz p15 hq) (bkA_lt hq (by decide)))
  have p19 := p19.kept (fun q hq => hk1 q (bk_sz p19 hq) (bkA_lt hq (by decide)))
  have p23 := p23.kept (fun q hq => hk1 q (bk_sz p23 hq) (bkA_lt hq (by decide)))
  have p27 := p27.kept (fun q hq => hk1 q (bk_sz p27 hq) (bkA_lt hq (by decide)))
  have p31 := hQ1.1
  have hsz : H.size = b + 35 := hQ1.2
  refine xc_aast (E := RX2) (a := b + 10) (t := 4) (n := 8) (f := va_up (va_up (va_up (va_up (va_up (fun _ => none) 0 (some (b + 11))) 1 (some (b + 15))) 2 (some (b + 19))) 3 (some (b + 23))) 4 (some (b + 27))) (v := b + 31) X (p10 0 (by decide)) hS (show b ≤ b + 10 from Nat.le_add_right _ _) rfl (cell_any X.2.2.2.2.2 (ci := 2) rfl (p31 0 (by decide))) (i := 5) (by decide) (by decide) dX1_init_121 (fun H locs hV1 hz1 ho1 hS => ?_)
  have p0 := p0.kept (fun q hq => ho1 q (bkA_ne0 hq (by decide)))
  have p1 := p1.kept (fun q hq => ho1 q (bkA_ne hq (by decide)))
  have p2 := p2.kept (fun q hq => ho1 q (bkA_ne hq (by decide)))
  have p3 := p3.kept (fun q hq => ho1 q (bkA_ne hq (by decide)))
  have p4 := p4.kept (fun q hq => ho1 q (bkA_ne hq (by decide)))
  have p5 := p5.kept (fun q hq => ho1 q (bkA_ne hq (by decide)))
  have p6 := p6.kept (fun q hq => ho1 q (bkA_ne hq (by decide)))
  have p11 := p11.kept (fun q hq => ho1 q (bkA_ne hq (by decide)))
  have p15 := p15.kept (fun q hq => ho1 q (bkA_ne hq (by decide)))
  have p19 := p19.kept (fun q hq => ho1 q (bkA_ne hq (by decide)))
  have p23 := p23.kept (fun q hq => ho1 q (bkA_ne hq (by decide)))
  have p27 := p27.kept (fun q hq => ho1 q (bkA_ne hq (by decide)))
  have p31 := p31.kept (fun q hq => ho1 q (bkA_ne hq (by decide)))
  have p10 : bkP dC dI (b + 10) 1 (fun _ => xQ dA 4 8 (va_up (va_up (va_up (va_up (va_up (va_up (fun _ => none) 0 (some (b + 11))) 1 (some (b + 15))) 2 (some (b + 19))) 3 (some (b + 23))) 4 (some (b + 27))) 5 (some (b + 31)))) H := bk_1 hV1
  have hsz := hz1.trans hsz
  refine lv_dup X.1 X.2.1 dX1_init_122 rfl ?_
  refine lv_bipush (v := nI 6) X.1 X.2.1 dX1_init_123 rfl ?_
  refine xb_new (b := b + 35) (N := 0) (C := RX2) (T := TX2) (NN := 6) (ci := 2) X in_X2 tyX2 tyX2_ok rfl q99 q100 q63 bk_0 hsz hS (fs := [.null, .null, .int 0, .int 0, .null, .int 0]) (fun j hj => by match j, hj with | 0, _ => rfl | 1, _ => rfl | 2, _ => rfl | 3, _ => rfl | 4, _ => rfl | 5, _ => rfl) (Nat.le_of_ble_eq_true rfl) (Nat.le_of_ble_eq_true rfl) dX1_init_125 (fun H hP0 hsz ho hS => ?_)
  have p0 := p0.kept (fun q hq => ho q (bk_sz p0 hq))
  have p1 := p1.kept (fun q hq => ho q (bk_sz p1 hq))
  have p2 := p2.kept (fun q hq => ho q (bk_sz p2 hq))
  have p3 := p3.kept (fun q hq => ho q (bk_sz p3 hq))
  have p4 := p4.kept (fun q hq => ho q (bk_sz p4 hq))
  have p5 := p5.kept (fun q hq => ho q (bk_sz p5 hq))
  have p6 := p6.kept (fun q hq => ho q (bk_sz p6 hq))
  have p10 := p10.kept (fun q hq => ho q (bk_sz p10 hq))
  have p11 := p11.kept (fun q hq => ho q (bk_sz p11 hq))
  have p15 := p15.kept (fun q hq => ho q (bk_sz p15 hq))
  have p19 := p19.kept (fun q hq => ho q (bk_sz p19 hq))
  have p23 := p23.kept (fun q hq => ho q (bk_sz p23 hq))
  have p27 := p27.kept (fun q hq => ho q (bk_sz p27 hq))
  have p31 := p31.kept (fun q hq => ho q (bk_sz p31 hq))
  have p35 : bkP dC dI (b + 35) 1 (fun _ => .inr (2, [.null, .null, .int 0, .int 0, .null, .int 0])) H := bk_1 (hP0 0 Nat.zero_lt_one)
  have hsz : H.size = b + 36 := hsz
  refine lv_dup X.1 X.2.1 dX1_init_128 rfl ?_
  refine x_cWv (x_runIN X hN (b := b + 35) ⟨hsz, (p35 0 (by decide))⟩ (As := []) (rest := [.ref (b + 35), .int (nI 6), .ref (b + 10), .ref (b + 10), .ref b]) (xi_X2 l dC dI dA (b + 35)) xkin_X1_32 rfl rfl ⟨Nat.le_of_ble_eq_true rfl, Nat.le_of_ble_eq_true rfl⟩ hl.1 (Nat.le_of_ble_eq_true rfl) dX1_init_129 ⟨Nat.le_of_ble_eq_true rfl, Nat.le_of_ble_eq_true rfl⟩) hS (fun q h => Nat.le_trans (Nat.le_add_right b 35) h) (fun q h => Nat.le_trans (Nat.le_add_right b 35) h) (fun _ H locs _ hQ1 hz1 hk1 hS => ?_)
  have p0 := p0.kept (fun q hq => hk1 q (bk_sz p0 hq) (bkA_lt0 hq (by decide)))
  have p1 := p1.kept (fun q hq => hk1 q (bk_sz p1 hq) (bkA_lt hq (by decide)))
  have p2 := p2.kept (fun q hq => hk1 q (bk_sz p2 hq) (bkA_lt hq (by decide)))
  have p3 := p3.kept (fun q hq => hk1 q (bk_sz p3 hq) (bkA_lt hq (by decide)))
  have p4 := p4.kept (fun q hq => hk1 q (bk_sz p4 hq) (bkA_lt hq (by decide)))
  have p5 := p5.kept (fun q hq => hk1 q (bk_sz p5 hq) (bkA_lt hq (by decide)))
  have p6 := p6.kept (fun q hq => hk1 q (bk_sz p6 hq) (bkA_lt hq (by decide)))
  have p10 := p10.kept (fun q hq => hk1 q (bk_sz p10 hq) (bkA_lt hq (by decide)))
  have p11 := p11.kept (fun q hq => hk1 q (bk_sz p11 hq) (bkA_lt hq (by decide)))
  have p15 := p15.kept (fun q hq => hk1 q (bk_sz p15 hq) (bkA_lt hq (by decide)))
  have p19 := p19.kept (fun q hq => hk1 q (bk_sz p19 hq) (bkA_lt hq (by decide)))
  have p23 := p23.kept (fun q hq => hk1 q (bk_sz p23 hq) (bkA_lt hq (by decide)))
  have p27 := p27.kept (fun q hq => hk1 q (bk_sz p27 hq) (bkA_lt hq (by decide)))
  have p31 := p31.kept (fun q hq => hk1 q (bk_sz p31 hq) (bkA_lt hq (by decide)))
  have p35 := hQ1.1
  have hsz : H.size = b + 39 := hQ1.2
  refine xc_aast (E := RX2) (a := b + 10) (t := 4) (n := 8) (f := va_up (va_up (va_up (va_up (va_up (va_up (fun _ => none) 0 (some (b + 11))) 1 (some (b + 15))) 2 (some (b + 19))) 3 (some (b + 23))) 4 (some (b + 27))) 5 (some (b + 31))) (v := b + 35) X (p10 0 (by decide)) hS (show b ≤ b + 10 from Nat.le_add_right _ _) rfl (cell_any X.2.2.2.2.2 (ci := 2) rfl (p35 0 (by decide))) (i := 6) (by decide) (by decide) dX1_init_132 (fun H locs hV1 hz1 ho1 hS => ?_)
  have p0 := p0.kept (fun q hq => ho1 q (bkA_ne0 hq (by decide)))
  have p1 := p1.kept (fun q hq => ho1 q (bkA_ne hq (by decide)))
  have p2 := p2.kept (fun q hq => ho1 q (bkA_ne hq (by decide)))
  have p3 := p3.kept (fun q hq => ho1 q (bkA_ne hq (by decide)))
  have p4 := p4.kept (fun q hq => ho1 q (bkA_ne hq (by decide)))
  have p5 := p5.kept (fun q hq => ho1 q (bkA_ne hq (by decide)))
  have p6 := p6.kept (fun q hq => ho1 q (bkA_ne hq (by decide)))
  have p11 := p11.kept (fun q hq => ho1 q (bkA_ne hq (by decide)))
  have p15 := p15.kept (fun q hq => ho1 q (bkA_ne hq (by decide)))
  have p19 := p19.kept (fun q hq => ho1 q (bkA_ne hq (by decide)))
  have p23 := p23.kept (fun q hq => ho1 q (bkA_ne hq (by decide)))
  have p27 := p27.kept (fun q hq => ho1 q (bkA_ne hq (by decide)))
  have p31 := p31.kept (fun q hq => ho1 q (bkA_ne hq (by decide)))
  have p35 := p35.kept (fun q hq => ho1 q (bkA_ne hq (by decide)))
  have p10 : bkP dC dI (b + 10) 1 (fun _ => xQ dA 4 8 (va_up (va_up (va_up (va_up (va_up (va_up (va_up (fun _ => none) 0 (some (b + 11))) 1 (some (b + 15))) 2 (some (b + 19))) 3 (some (b + 23))) 4 (some (b + 27))) 5 (some (b + 31))) 6 (some (b + 35)))) H := bk_1 hV1
  have hsz := hz1.trans hsz
  refine lv_dup X.1 X.2.1 dX1_init_133 rfl ?_
  refine lv_bipush (v := nI 7) X.1 X.2.1 dX1_init_134 rfl ?_
  refine xb_new (b := b + 39) (N := 0) (C := RX2) (T := TX2) (NN := 6) (ci := 2) X in_X2 tyX2 tyX2_ok rfl q99 q100 q63 bk_0 hsz hS (fs := [.null, .null, .int 0, .int 0, .null, .int 0]) (fun j hj => by match j, hj with | 0, _ => rfl | 1, _ => rfl | 2, _ => rfl | 3, _ => rfl | 4, _ => rfl | 5, _ => rfl) (Nat.le_of_ble_eq_true rfl) (Nat.le_of_ble_eq_true rfl) dX1_init_136 (fun H hP0 hsz ho hS => ?_)
  have p0 := p0.kept (fun q hq => ho q (bk_sz p0 hq))
  have p1 := p1.kept (fun q hq => ho q (bk_sz p1 hq))
  have p2 := p2.kept (fun q hq => ho q (bk_sz p2 hq))
  have p3 := p3.kept (fun q hq => ho q (bk_sz p3 hq))
  have p4 := p4.kept (fun q hq => ho q (bk_sz p4 hq))
  have p5 := p5.kept (fun q hq => ho q (bk_sz p5 hq))
  have p6 := p6.kept (fun q hq => ho q (bk_sz p6 hq))
  have p10 := p10.kept (fun q hq => ho q (bk_sz p10 hq))
  have p11 := p11.kept (fun q hq => ho q (bk_sz p11 hq))
  have p15 := p15.kept (fun q hq => ho q (bk_sz p15 hq))
  have p19 := p19.kept (fun q hq => ho q (bk_sz p19 hq))
  have p23 := p23.kept (fun q hq => ho q (bk_sz p23 hq))
  have p27 := p27.kept (fun q hq => ho q (bk_sz p27 hq))
  have p31 := p31.kept (fun q hq => ho q (bk_sz p31 hq))
  have p35 := p35.kept (fun q hq => ho q (bk_sz p35 hq))
  have p39 : bkP dC dI (b + 39) 1 (fun _ => .inr (2, [.null, .null, .int 0, .int 0, .null, .int 0])) H := bk_1 (hP0 0 Nat.zero_lt_one)
  have hsz : H.size = b + 40 := hsz
  refine lv_dup X.1 X.2.1 dX1_init_139 rfl ?_
  refine x_cWv (x_runIN X hN (b := b + 39) ⟨hsz, (p39 0 (by decide))⟩ (As := []) (rest := [.ref (b + 39), .int (nI 7), .ref (b + 10), .ref (b + 10), .ref b]) (xi_X2 l dC dI dA (b + 39)) xkin_X1_32 rfl rfl ⟨Nat.le_of_ble_eq_true rfl, Nat.le_of_ble_eq_true rfl⟩ hl.1 (Nat.le_of_ble_eq_true rfl) dX1_init_140 ⟨Nat.le_of_ble_eq_true rfl, Nat.le_of_ble_eq_true rfl⟩) hS (fun q h => Nat.le_trans (Nat.le_add_right b 39) h) (fun q h => Nat.le_trans (Nat.le_add_right b 39) h) (fun _ H locs _ hQ1 hz1 hk1 hS => ?_)
  have p0 := p0.kept (fun q hq => hk1 q (bk_sz p0 hq) (bkA_lt0 hq (by decide)))
  have p1 := p1.kept (fun q hq => hk1 q (bk_sz p1 hq) (bkA_lt hq (by decide)))
  have p2 := p2.kept (fun q hq => hk1 q (bk_sz p2 hq) (bkA_lt hq (by decide)))
  have p3 := p3.kept (fun q hq => hk1 q (bk_sz p3 hq) (bkA_lt hq (by decide)))
  have p4 := p4.kept (fun q hq => hk1 q (bk_sz p4 hq) (bkA_lt hq (by decide)))
  have p5 := p5.kept (fun q hq => hk1 q (bk_sz p5 hq) (bkA_lt hq (by decide)))
  have p6 := p6.kept (fun q hq => hk1 q (bk_sz p6 hq) (bkA_lt hq (by decide)))
  have p10 := p10.kept (fun q hq => hk1 q (bk_sz p10 hq) (bkA_lt hq (by decide)))
  have p11 := p11.kept (fun q hq => hk1 q (bk_sz p11 hq) (bkA_lt hq (by decide)))
  have p15 := p15.kept (fun q hq => hk1 q (bk_sz p15 hq) (bkA_lt hq (by decide)))
  have p19 := p19.kept (fun q hq => hk1 q (bk_sz p19 hq) (bkA_lt hq (by decide)))
  have p23 := p23.kept (fun q hq => hk1 q (bk_sz p23 hq) (bkA_lt hq (by decide)))
  have p27 := p27.kept (fun q hq => hk1 q (bk_sz p27 hq) (bkA_lt hq (by decide)))
  have p31 := p31.kept (fun q hq => hk1 q (bk_sz p31 hq) (bkA_lt hq (by decide)))
  have p35 := p35.kept (fun q hq => hk1 q (bk_sz p35 hq) (bkA_lt hq (by decide)))
  have p39 := hQ1.1
  have hsz : H.size = b + 43 := hQ1.2
  refine xc_aast (E := RX2) (a := b + 10) (t := 4) (n := 8) (f := va_up (va_up (va_up (va_up (va_up (va_up (va_up (fun _ => none) 0 (some (b + 11))) 1 (some (b + 15))) 2 (some (b + 19))) 3 (some (b + 23))) 4 (some (b + 27))) 5 (some (b + 31))) 6 (some (b + 35))) (v := b + 39) X (p10 0 (by decide)) hS (show b ≤ b + 10 from Nat.le_add_right _ _) rfl (cell_any X.2.2.2.2.2 (ci := 2) rfl (p39 0 (by decide))) (i := 7) (by decide) (by decide) dX1_init_143 (fun H locs hV1 hz1 ho1 hS => ?_)
  have p0 := p0.kept (fun q hq => ho1 q (bkA_ne0 hq (by decide)))
  have p1 := p1.kept (fun q hq => ho1 q (bkA_ne hq (by decide)))
  have p2 := p2.kept (fun q hq => ho1 q (bkA_ne hq (by decide)))
  have p3 := p3.kept (fun q hq => ho1 q (bkA_ne hq (by decide)))
  have p4 := p4.kept (fun q hq => ho1 q (bkA_ne hq (by decide)))
  have p5 := p5.kept (fun q hq => ho1 q (bkA_ne hq (by decide)))
  have p6 := p6.kept (fun q hq => ho1 q (bkA_ne hq (by decide)))
  have p11 := p11.kept (fun q hq => ho1 q (bkA_ne hq (by decide)))
  have p15 := p15.kept (fun q hq => ho1 q (bkA_ne hq (by decide)))
  have p19 := p19.kept (fun q hq => ho1 q (bkA_ne hq (by decide)))
  have p23 := p23.kept (fun q hq => ho1 q (bkA_ne hq (by decide)))
  have p27 := p27.kept (fun q hq => ho1 q (bkA_ne hq (by decide)))
  have p31 := p31.kept (fun q hq => ho1 q (bkA_ne hq (by decide)))
  have p35 := p35.kept (fun q hq => ho1 q (bkA_ne hq (by decide)))
  have p39 := p39.kept (fun q hq => ho1 q (bkA_ne hq (by decide)))
  have p10 : bkP dC dI (b + 10) 1 (fun _ => xQ dA 4 8 (va_up (va_up (va_up (va_up (va_up (va_up (va_up (va_up (fun _ => none) 0 (some (b + 11))) 1 (some (b + 15))) 2 (some (b + 19))) 3 (some (b + 23))) 4 (some (b + 27))) 5 (some (b + 31))) 6 (some (b + 35))) 7 (some (b + 39)))) H := bk_1 hV1
  have hsz := hz1.trans hsz
  refine xc_putF (C := RX1) (T := TX1) X in_X1 tyX1 tyX1_ok nmX1 (ci := 1) rfl (show va_at (dC, dI) rvCl (b, .inr (1, [.ref (b + 1), .ref (b + 2), .int 0, .ref (b + 3), .ref (b + 4), .int 0, .ref (b + 5), .int 0, .ref (b + 6), .null, .int 0])) _ from p0 0 (by decide)) hS (show b ≤ b from Nat.le_refl _) 9 (by decide) q161 rfl rfl hnm rfl rfl rfl (Nat.le_of_ble_eq_true rfl) dX1_init_144 (fun H locs hV1 hz1 ho1 hS => ?_)
  have p1 := p1.kept (fun q hq => ho1 q (bkA_neb hq (by decide)))
  have p2 := p2.kept (fun q hq => ho1 q (bkA_neb hq (by decide)))
  have p3 := p3.kept (fun q hq => ho1 q (bkA_neb hq (by decide)))
  have p4 := p4.kept (fun q hq => ho1 q (bkA_neb hq (by decide)))
  have p5 := p5.kept (fun q hq => ho1 q (bkA_neb hq (by decide)))
  have p6 := p6.kept (fun q hq => ho1 q (bkA_neb hq (by decide)))
  have p10 := p10.kept (fun q hq => ho1 q (bkA_neb hq (by decide)))
  have p11 := p11.kept (fun q hq => ho1 q (bkA_neb hq (by decide)))
  have p15 := p15.kept (fun q hq => ho1 q (bkA_neb hq (by decide)))
  have p19 := p19.kept (fun q hq => ho1 q (bkA_neb hq (by decide)))
  have p23 := p23.kept (fun q hq => ho1 q (bkA_neb hq (by decide)))
  have p27 := p27.kept (fun q hq => ho1 q (bkA_neb hq (by decide)))
  have p31 := p31.kept (fun q hq => ho1 q (bkA_neb hq (by decide)))
  have p35 := p35.kept (fun q hq => ho1 q (bkA_neb hq (by decide)))
  have p39 := p39.kept (fun q hq => ho1 q (bkA_neb hq (by decide)))
  have p0 : bkP dC dI b 1 (fun _ => .inr (1, [.ref (b + 1), .ref (b + 2), .int 0, .ref (b + 3), .ref (b + 4), .int 0, .ref (b + 5), .int 0, .ref (b + 6), .ref (b + 10), .int 0])) H := bk_1 hV1
  have hsz := hz1.trans hsz
  exact x_rv () X hr hlk hS dX1_init_147 trivial ⟨(fun j hj => by match j, hj with | 0, _ => exact p0 0 (by decide) | 1, _ => exact p1 0 (by decide) | 2, _ => exact p2 0 (by decide) | 3, _ => exact p3 0 (by decide) | 4, _ => exact p4 0 (by decide) | 5, _ => exact p5 0 (by decide) | 6, _ => exact p6 0 (by decide) | 7, _ => exact p6 1 (by decide) | 8, _ => exact p6 2 (by decide) | 9, _ => exact p6 3 (by decide) | 10, _ => exact (p10 0 (by decide)).ext (xSame.q (fun k hk => by match k, hk with | 0, _ => rfl | 1, _ => rfl | 2, _ => rfl | 3, _ => rfl | 4, _ => rfl | 5, _ => rfl | 6, _ => rfl | 7, _ => rfl)) | 11, _ => exact p11 0 (by decide) | 12, _ => exact p11 1 (by decide) | 13, _ => exact p11 2 (by decide) | 14, _ => exact p11 3 (by decide) | 15, _ => exact p15 0 (by decide) | 16, _ => exact p15 1 (by decide) | 17, _ => exact p15 2 (by decide) | 18, _ => exact p15 3 (by decide) | 19, _ => exact p19 0 (by decide) | 20, _ => exact p19 1 (by decide) | 21, _ => exact p19 2 (by decide) | 22, _ => exact p19 3 (by decide) | 23, _ => exact p23 0 (by decide) | 24, _ => exact p23 1 (by decide) | 25, _ => exact p23 2 (by decide) | 26, _ => exact p23 3 (by decide) | 27, _ => exact p27 0 (by decide) | 28, _ => exact p27 1 (by decide) | 29, _ => exact p27 2 (by decide) | 30, _ => exact p27 3 (by decide) | 31, _ => exact p31 0 (by decide) | 32, _ => exact p31 1 (by decide) | 33, _ => exact p31 2 (by decide) | 34, _ => exact p31 3 (by decide) | 35, _ => exact p35 0 (by decide) | 36, _ => exact p35 1 (by decide) | 37, _ => exact p35 2 (by decide) | 38, _ => exact p35 3 (by decide) | 39, _ => exact p39 0 (by decide) | 40, _ => exact p39 1 (by decide) | 41, _ => exact p39 2 (by decide) | 42, _ => exact p39 3 (by decide) | (_ + 43), h => exact absurd h (Nat.not_lt.mpr (Nat.le_add_left 43 _))), hsz⟩
