set_option maxRecDepth 100000
/-! the component: views are made -/
theorem xki_X7_1 : xKI RX7 yX6_init cX6_init 4 1 3 := ⟨q332, q333, q67, q334, rfl, by decide +kernel⟩
theorem xki_X8_1 : xKI RX8 yX6_init cX6_init 4 1 3 := ⟨q354, q333, q67, q334, rfl, by decide +kernel⟩
theorem xki_X9_1 : xKI RX9 yX7_init cX7_init 4 1 3 := ⟨q364, q330, q68, q331, rfl, by decide +kernel⟩
theorem xki_X10_1 : xKI RX10 yX6_init cX6_init 4 1 3 := ⟨q374, q333, q67, q334, rfl, by decide +kernel⟩
theorem xki_X11_1 : xKI RX11 yX9_init cX9_init 4 1 3 := ⟨q384, q362, q70, q363, rfl, by decide +kernel⟩
theorem xki_X0_21 : xKI RX0 yX6_init cX6_init 4 21 3 := ⟨q391, q333, q67, q334, rfl, by decide +kernel⟩
theorem xki_X0_3 : xKI RX0 yX7_init cX7_init 4 3 3 := ⟨q329, q330, q68, q331, rfl, by decide +kernel⟩
theorem xki_X0_9 : xKI RX0 yX8_init cX8_init 4 9 3 := ⟨q351, q352, q69, q353, rfl, by decide +kernel⟩
theorem xki_X0_12 : xKI RX0 yX9_init cX9_init 4 12 3 := ⟨q361, q362, q70, q363, rfl, by decide +kernel⟩
theorem xki_X0_15 : xKI RX0 yX10_init cX10_init 4 15 3 := ⟨q371, q372, q71, q373, rfl, by decide +kernel⟩
theorem xki_X0_18 : xKI RX0 yX11_init cX11_init 4 18 3 := ⟨q381, q382, q72, q383, rfl, by decide +kernel⟩
section VI
variable {p : Program} {l : Launch} {e : Env} {R : Room} {s : State} {m : MethodId} {args : Array Value} {below : List Frame} {meth : Method} {c_ : Code} {H : Heap} {locs : List Loc} {cells slots mc ms : Nat} {Q : State → Prop}
variable {cc : ByteArray} {pc nL : Nat} {ls : Array Slot} {rest st0 : List Value} {dC : Nat → ClassId} {dI : Nat → Nat → Nat} {dA : Nat → ClassId} {H0 : Heap} {own : String} {A : Nat → Prop}
variable {a kd : Nat} {sz pr we : Int32} {C : String} {T : u_T}
theorem at_D {E : va_E} (h : A a) : va_D A [(a, E)] := by
  refine ⟨fun i j p q hi hj _ => ?_, fun k q hk => ?_⟩
  · match i, j, hi, hj with
    | 0, 0, _, _ => rfl
    | 0, _ + 1, _, hj => cases hj
    | _ + 1, _, hi, _ => cases hi
  · match k, hk with
    | 0, hk => cases hk; exact h
    | _ + 1, hk => cases hk
theorem vw_putF {index : Nat} (X : xC dC dI dA p s m c_ args cc nL RX6) (K : vwK kd C T) {gs : List Value} (hV : va_at (dC, dI) rvCl (a, .inr (6 + kd, gs)) H) (hg : gs.length = 3) (hS : va_S A H0 H locs) (hA : A a) (k : Nat) (hk : k < 3) (hl : Cond.fieldLink RX6 index RX6 (TX6 k).2.1 (TX6 k).2.2.1 ∈ lw_all) (hin2 : meth.name = "<init>") {v : Int32} (hdg : decode cc pc = .ok (.putfield index, 3))
    (kk : ∀ (H1 : Heap) (locs1 : List Loc), va_at (dC, dI) rvCl (a, .inr (6 + kd, gs.set k (.int v))) H1 → va_S A H0 H1 locs1 → W p l e R s m args below meth c_ H1 locs1 cells slots Q (F0 m (pc + 3) ls rest)) : W p l e R s m args below meth c_ H locs cells slots Q (F0 m pc ls (.int v :: .ref a :: rest)) :=
  va_putF (own := RX6) (ref := RX6) X.1 X.2.1 X.2.2.2.2.1 K.2.1 tyX6 (fun k hk => by rw [K.2.2 k hk]; exact tyX6_ok k hk) (fun a ha b hb hne => by rw [K.2.2 a ha, K.2.2 b hb]; exact nmX6 a ha b hb hne) X.2.2.2.1 X.2.2.2.2.2 (at_P hV) (at_D hA) hS 0 rfl K.1 k hk (by rw [K.2.2 k hk]; exact X.2.2.2.2.1 _ hl) (fun x h => by rw [K.2.2 k hk] at h ⊢; match k, hk with | 0, _ => exact h | 1, _ => exact h | 2, _ => exact h) (by rw [K.2.2 k hk]; match k, hk with | 0, _ => rfl | 1, _ => rfl | 2, _ => rfl) hin2 (by rw [K.2.2 k hk]; match k, hk with | 0, _ => rfl | 1, _ => rfl | 2, _ => rfl) (ty := .int) (by rw [K.2.2 k hk]; match k, hk with | 0, _ => rfl | 1, _ => rfl | 2, _ => rfl) rfl rfl (by rw [hg]; exact hk) hdg (fun H1 locs1 h1 _ h3 => kk H1 locs1 (h1 0 _ rfl) h3)
theorem x_rr {S : Type} {post : S → Prop} {P1 : S → Nat → Heap → Prop} {r : Nat} {Cn : String} (u : S) (X : xC dC dI dA p s m c_ args cc nL own) (hr : meth.sig.returnType = some (.object Cn)) (hlk : meth.locks = false) (hS : va_S A s.heap H locs) (hdg : decode cc pc = .ok (.areturn, 1)) (hp : post u) (hP : P1 u r H) : W p l e R s m args below meth c_ H locs cells slots (MQ below (xQr post P1 A) args s cells slots A) (F0 m pc ls [.ref r]) :=
  W.aret X.1 X.2.1 hr (Or.inl ⟨_, rfl⟩) (Or.inr ⟨_, rfl⟩) (fun t ht _ => ⟨⟨u, r, rfl, hp, (show P1 u r t.heap by rw [ht]; exact hP)⟩, hS.F ht⟩) hS.2.2 hdg hlk
end VI
theorem vi_X6 (l : Launch) (dC : Nat → ClassId) (dI : Nat → Nat → Nat) (dA : Nat → ClassId) (a : Nat) {kd : Nat} {C : String} {T : u_T} (K : vwK kd C T) (sz pr we : Int32) : Met l yX6_init (ws_ yX6_init cX6_init 4 none) { frames := 1, cells := 0, slots := 0, locals := 60 } (xPc dC dI dA (vwQ dC dI a kd 0 0 0) [.ref a, .int sz, .int pr, .int we]) (xEv (vwQ dC dI a kd sz pr we) (fun q => q = a)) 0 0 (fun q => q = a) := by
  refine x_in (by decide) rfl (Nat.le_of_ble_eq_true rfl) (lv := [(0, .ref a), (1, .int sz), (2, .int pr), (3, .int we)]) rfl ?_
  intro p e s m below meth c_ X hN hnm hr hlk hV ls hl
  have hS : va_S (fun q => q = a) s.heap s.heap [] := va_S.rf
  refine lv_aload_n X.1 X.2.1 dX6_init_0 rfl (lv_at hl 0 rfl) ?_
  refine W.objInit X.1 X.2.1 X.2.2.2.1 (X.2.2.2.2.1 _ q335) (X.2.2.2.2.1 _ q89) (X.2.2.2.2.1 _ q90) rfl (hl.1.trans X.2.2.1.symm) rfl dX6_init_1 (Nat.le_of_ble_eq_true rfl) (Nat.le_of_ble_eq_true rfl) ?_
  refine lv_aload_n X.1 X.2.1 dX6_init_4 rfl (lv_at hl 0 rfl) ?_
  refine lv_iload_n X.1 X.2.1 dX6_init_5 rfl (lv_at hl 1 rfl) ?_
  refine vw_putF X K hV rfl hS rfl 0 (by decide) q336 hnm dX6_init_6 (fun H locs hV hS => ?_)
  refine lv_aload_n X.1 X.2.1 dX6_init_9 rfl (lv_at hl 0 rfl) ?_
  refine lv_iload_n X.1 X.2.1 dX6_init_10 rfl (lv_at hl 2 rfl) ?_
  refine vw_putF X K hV rfl hS rfl 1 (by decide) q338 hnm dX6_init_11 (fun H locs hV hS => ?_)
  refine lv_aload_n X.1 X.2.1 dX6_init_14 rfl (lv_at hl 0 rfl) ?_
  refine lv_iload_n X.1 X.2.1 dX6_init_15 rfl (lv_at hl 3 rfl) ?_
  refine vw_putF X K hV rfl hS rfl 2 (by decide) q340 hnm dX6_init_16 (fun H locs hV hS => ?_)
  exact x_rv () X hr hlk hS dX6_init_19 trivial hV
theorem vi_X7 (l : Launch) (dC : Nat → ClassId) (dI : Nat → Nat → Nat) (dA : Nat → ClassId) (a : Nat) {kd : Nat} {C : String} {T : u_T} (K : vwK kd C T) (sz pr we : Int32) : Met l yX7_init (ws_ yX7_init cX7_init 4 none) { frames := 2, cells := 0, slots := 0, locals := 120 } (xPc dC dI dA (vwQ dC dI a kd 0 0 0) [.ref a, .int sz, .int pr, .int we]) (xEv (vwQ dC dI a kd sz pr we) (fun q => q = a)) 0 0 (fun q => q = a) := by
  refine x_in (by decide) rfl (Nat.le_of_ble_eq_true rfl) (lv := [(0, .ref a), (1, .int sz), (2, .int pr), (3, .int we)]) rfl ?_
  intro p e s m below meth c_ X hN hnm hr hlk hV ls hl
  have hS : va_S (fun q => q = a) s.heap s.heap [] := va_S.rf
  refine lv_aload_n X.1 X.2.1 dX7_init_0 rfl (lv_at hl 0 rfl) ?_
  refine lv_iload_n X.1 X.2.1 dX7_init_1 rfl (lv_at hl 1 rfl) ?_
  refine lv_iload_n X.1 X.2.1 dX7_init_2 rfl (lv_at hl 2 rfl) ?_
  refine lv_iload_n X.1 X.2.1 dX7_init_3 rfl (lv_at hl 3 rfl) ?_
  refine x_cWv (x_runI X hN hV (As := [.int sz, .int pr, .int we]) (rest := []) (vi_X6 l dC dI dA a K sz pr we) xki_X7_1 rfl rfl ⟨Nat.le_of_ble_eq_true rfl, Nat.le_of_ble_eq_true rfl⟩ hl.1 (Nat.le_of_ble_eq_true rfl) dX7_init_4 ⟨Nat.le_of_ble_eq_true rfl, Nat.le_of_ble_eq_true rfl⟩) hS (fun q h => h) (fun q h => h) (fun _ H locs _ hV hz1 hk1 hS => ?_)
  exact x_rv () X hr hlk hS dX7_init_7 trivial hV
theorem vi_X8 (l : Launch) (dC : Nat → ClassId) (dI : Nat → Nat → Nat) (dA : Nat → ClassId) (a : Nat) {kd : Nat} {C : String} {T : u_T} (K : vwK kd C T) (sz pr we : Int32) : Met l yX8_init (ws_ yX8_init cX8_init 4 none) { frames := 2, cells := 0, slots := 0, locals := 120 } (xPc dC dI dA (vwQ dC dI a kd 0 0 0) [.ref a, .int sz, .int pr, .int we]) (xEv (vwQ dC dI a kd sz pr we) (fun q => q = a)) 0 0 (fun q => q = a) := by
  refine x_in (by decide) rfl (Nat.le_of_ble_eq_true rfl) (lv := [(0, .ref a), (1, .int sz), (2, .int pr), (3, .int we)]) rfl ?_
  intro p e s m below meth c_ X hN hnm hr hlk hV ls hl
  have hS : va_S (fun q => q = a) s.heap s.heap [] := va_S.rf
  refine lv_aload_n X.1 X.2.1 dX8_init_0 rfl (lv_at hl 0 rfl) ?_
  refine lv_iload_n X.1 X.2.1 dX8_init_1 rfl (lv_at hl 1 rfl) ?_
  refine lv_iload_n X.1 X.2.1 dX8_init_2 rfl (lv_at hl 2 rfl) ?_
  refine lv_iload_n X.1 X.2.1 dX8_init_3 rfl (lv_at hl 3 rfl) ?_
  refine x_cWv (x_runI X hN hV (As := [.int sz, .int pr, .int we]) (rest := []) (vi_X6 l dC dI dA a K sz pr we) xki_X8_1 rfl rfl ⟨Nat.le_of_ble_eq_true rfl, Nat.le_of_ble_eq_true rfl⟩ hl.1 (Nat.le_of_ble_eq_true rfl) dX8_init_4 ⟨Nat.le_of_ble_eq_true rfl, Nat.le_of_ble_eq_true rfl⟩) hS (fun q h => h) (fun q h => h) (fun _ H locs _ hV hz1 hk1 hS => ?_)
  exact x_rv () X hr hlk hS dX8_init_7 trivial hV
theorem vi_X9 (l : Launch) (dC : Nat → ClassId) (dI : Nat → Nat → Nat) (dA : Nat → ClassId) (a : Nat) {kd : Nat} {C : String} {T : u_T} (K : vwK kd C T) (sz pr we : Int32) : Met l yX9_init (ws_ yX9_init cX9_init 4 none) { frames := 3, cells := 0, slots := 0, locals := 180 } (xPc dC dI dA (vwQ dC dI a kd 0 0 0) [.ref a, .int sz, .int pr, .int we]) (xEv (vwQ dC dI a kd sz pr we) (fun q => q = a)) 0 0 (fun q => q = a) := by
  refine x_in (by decide) rfl (Nat.le_of_ble_eq_true rfl) (lv := [(0, .ref a), (1, .int sz), (2, .int pr), (3, .int we)]) rfl ?_
  intro p e s m below meth c_ X hN hnm hr hlk hV ls hl
  have hS : va_S (fun q => q = a) s.heap s.heap [] := va_S.rf
  refine lv_aload_n X.1 X.2.1 dX9_init_0 rfl (lv_at hl 0 rfl) ?_
  refine lv_iload_n X.1 X.2.1 dX9_init_1 rfl (lv_at hl 1 rfl) ?_
  refine lv_iload_n X.1 X.2.1 dX9_init_2 rfl (lv_at hl 2 rfl) ?_
  refine lv_iload_n X.1 X.2.1 dX9_init_3 rfl (lv_at hl 3 rfl) ?_
  refine x_cWv (x_runI X hN hV (As := [.int sz, .int pr, .int we]) (rest := []) (vi_X7 l dC dI dA a K sz pr we) xki_X9_1 rfl rfl ⟨Nat.le_of_ble_eq_true rfl, Nat.le_of_ble_eq_true rfl⟩ hl.1 (Nat.le_of_ble_eq_true rfl) dX9_init_4 ⟨Nat.le_of_ble_eq_true rfl, Nat.le_of_ble_eq_true rfl⟩) hS (fun q h => h) (fun q h => h) (fun _ H locs _ hV hz1 hk1 hS => ?_)
  exact x_rv () X hr hlk hS dX9_init_7 trivial hV
theorem vi_X10 (l : Launch) (dC : Nat → ClassId) (dI : Nat → Nat → Nat) (dA : Nat → ClassId) (a : Nat) {kd : Nat} {C : String} {T : u_T} (K : vwK kd C T) (sz pr we : Int32) : Met l yX10_init (ws_ yX10_init cX10_init 4 none) { frames := 2, cells := 0, slots := 0, locals := 120 } (xPc dC dI dA (vwQ dC dI a kd 0 0 0) [.ref a, .int sz, .int pr, .int we]) (xEv (vwQ dC dI a kd sz pr we) (fun q => q = a)) 0 0 (fun q => q = a) := by
  refine x_in (by decide) rfl (Nat.le_of_ble_eq_true rfl) (lv := [(0, .ref a), (1, .int sz), (2, .int pr), (3, .int we)]) rfl ?_
  intro p e s m below meth c_ X hN hnm hr hlk hV ls hl
  have hS : va_S (fun q => q = a) s.heap s.heap [] := va_S.rf
  refine lv_aload_n X.1 X.2.1 dX10_init_0 rfl (lv_at hl 0 rfl) ?_
  refine lv_iload_n X.1 X.2.1 dX10_init_1 rfl (lv_at hl 1 rfl) ?_
  refine lv_iload_n X.1 X.2.1 dX10_init_2 rfl (lv_at hl 2 rfl) ?_
  refine lv_iload_n X.1 X.2.1 dX10_init_3 rfl (lv_at hl 3 rfl) ?_
  refine x_cWv (x_runI X hN hV (As := [.int sz, .int pr, .int we]) (rest := []) (vi_X6 l dC dI dA a K sz pr we) xki_X10_1 rfl rfl ⟨Nat.le_of_ble_eq_true rfl, Nat.le_of_ble_eq_true rfl⟩ hl.1 (Nat.le_of_ble_eq_true rfl) dX10_init_4 ⟨Nat.le_of_ble_eq_true rfl, Nat.le_of_ble_eq_true rfl⟩) hS (fun q h => h) (fun q h => h) (fun _ H locs _ hV hz1 hk1 hS => ?_)
  exact x_rv () X hr hlk hS dX10_init_7 trivial hV
theorem vi_X11 (l : Launch) (dC : Nat → ClassId) (dI : Nat → Nat → Nat) (dA : Nat → ClassId) (a : Nat) {kd : Nat} {C : String} {T : u_T} (K : vwK kd C T) (sz pr we : Int32) : Met l yX11_init (ws_ yX11_init cX11_init 4 none) { frames := 4, cells := 0, slots := 0, locals := 240 } (xPc dC dI dA (vwQ dC dI a kd 0 0 0) [.ref a, .int sz, .int pr, .int we]) (xEv (vwQ dC dI a kd sz pr we) (fun q => q = a)) 0 0 (fun q => q = a) := by
  refine x_in (by decide) rfl (Nat.le_of_ble_eq_true rfl) (lv := [(0, .ref a), (1, .int sz), (2, .int pr), (3, .int we)]) rfl ?_
  intro p e s m below meth c_ X hN hnm hr hlk hV ls hl
  have hS : va_S (fun q => q = a) s.heap s.heap [] := va_S.rf
  refine lv_aload_n X.1 X.2.1 dX11_init_0 rfl (lv_at hl 0 rfl) ?_
  refine lv_iload_n X.1 X.2.1 dX11_init_1 rfl (lv_at hl 1 rfl) ?_
  refine lv_iload_n X.1 X.2.1 dX11_init_2 rfl (lv_at hl 2 rfl) ?_
  refine lv_iload_n X.1 X.2.1 dX11_init_3 rfl (lv_at hl 3 rfl) ?_
  refine x_cWv (x_runI X hN hV (As := [.int sz, .int pr, .int we]) (rest := []) (vi_X9 l dC dI dA a K sz pr we) xki_X11_1 rfl rfl ⟨Nat.le_of_ble_eq_true rfl, Nat.le_of_ble_eq_true rfl⟩ hl.1 (Nat.le_of_ble_eq_true rfl) dX11_init_4 ⟨Nat.le_of_ble_eq_true rfl, Nat.le_of_ble_eq_true rfl⟩) hS (fun q h => h) (fun q h => h) (fun _ H locs _ hV hz1 hk1 hS => ?_)
  exact x_rv () X hr hlk hS dX11_init_7 trivial hV
theorem x_made (l : Launch) (dC : Nat → ClassId) (dI : Nat → Nat → Nat) (dA : Nat → ClassId) (z kd : Nat) (sz pr we : Int32) (hkd : kd < 6) : Met l yX0_made (ws_ yX0_made cX0_made 4 (some (.object "RentedViews$View"))) { frames := 5, cells := 1, slots := 3, locals := 300 } (xPc dC dI dA (fun H => H.size = z) [.int (nI kd), .int sz, .int pr, .int we]) (xQr (S := Unit) (fun _ => True) (fun _ r H => r = z ∧ vwP dC dI z kd sz pr we H) (fun q => z ≤ q)) 1 3 (fun q => z ≤ q) := by
  refine x_in (by decide) rfl (Nat.le_of_ble_eq_true rfl) (lv := [(0, .int (nI kd)), (1, .int sz), (2, .int pr), (3, .int we)]) rfl ?_
  intro p e s m below meth c_ X hN hnm hr hlk hZ ls hl
  have hS : va_S (fun q => z ≤ q) s.heap s.heap [] := va_S.rf
  refine lv_iload_n X.1 X.2.1 dX0_made_0 rfl (lv_at hl 0 rfl) ?_
  have hE : bkP dC dI z 0 (fun _ => vwE 0 0 0 0) s.heap := fun j hj => absurd hj (by omega)
  match kd, hkd, hl with
  | 0, _, hl =>
    refine lv_tableOut (tgt := 91) X.1 X.2.1 dX0_made_1 (Or.inl (by decide)) (by decide) ?_
    refine xb_new (C := RX6) (T := TX6) (NN := 3) (ci := 6) X in_X6 tyX6 tyX6_ok rfl q389 q390 q67 hE hZ hS (fs := [.int 0, .int 0, .int 0]) (fun j hj => match j, hj with | 0, _ => rfl | 1, _ => rfl | 2, _ => rfl) (Nat.le_of_ble_eq_true rfl) (Nat.le_of_ble_eq_true rfl) dX0_made_91 (fun H1 hB hz1 ho1 hS => ?_)
    have hV : vwQ dC dI z 0 0 0 0 H1 := by have := hB 0 (by decide); rw [va_up_self] at this; exact this
    refine lv_dup X.1 X.2.1 dX0_made_94 rfl ?_
    refine lv_iload_n X.1 X.2.1 dX0_made_95 rfl (lv_at hl 1 rfl) ?_
    refine lv_iload_n X.1 X.2.1 dX0_made_96 rfl (lv_at hl 2 rfl) ?_
    refine lv_iload_n X.1 X.2.1 dX0_made_97 rfl (lv_at hl 3 rfl) ?_
    refine x_cWv (x_runI X hN hV (b := z) (As := [.int sz, .int pr, .int we]) (rest := [.ref z]) (vi_X6 l dC dI dA z vwK0 sz pr we) xki_X0_21 rfl rfl ⟨Nat.le_of_ble_eq_true rfl, Nat.le_of_ble_eq_true rfl⟩ hl.1 (Nat.le_of_ble_eq_true rfl) dX0_made_98 ⟨Nat.le_of_ble_eq_true rfl, Nat.le_of_ble_eq_true rfl⟩) hS (fun q h => Nat.le_of_eq h.symm) (fun q h => Nat.le_of_eq h.symm) (fun _ H locs _ hV hz1 hk1 hS => ?_)
    exact x_rr () X hr hlk hS dX0_made_101 trivial ⟨rfl, vw_QP (by decide) hV⟩
  | 1, _, hl =>
    refine lv_tableIn (tgt := 36) X.1 X.2.1 dX0_made_1 (by decide) (by decide) (off := 35) rfl (by decide) ?_
    refine xb_new (C := RX7) (T := TX7) (NN := 3) (ci := 7) X in_X7 tyX7 tyX7_ok rfl q327 q328 q68 hE hZ hS (fs := [.int 0, .int 0, .int 0]) (fun j hj => match j, hj with | 0, _ => rfl | 1, _ => rfl | 2, _ => rfl) (Nat.le_of_ble_eq_true rfl) (Nat.le_of_ble_eq_true rfl) dX0_made_36 (fun H1 hB hz1 ho1 hS => ?_)
    have hV : vwQ dC dI z 1 0 0 0 H1 := by have := hB 0 (by decide); rw [va_up_self] at this; exact this
    refine lv_dup X.1 X.2.1 dX0_made_39 rfl ?_
    refine lv_iload_n X.1 X.2.1 dX0_made_40 rfl (lv_at hl 1 rfl) ?_
    refine lv_iload_n X.1 X.2.1 dX0_made_41 rfl (lv_at hl 2 rfl) ?_
    refine lv_iload_n X.1 X.2.1 dX0_made_42 rfl (lv_at hl 3 rfl) ?_
    refine x_cWv (x_runI X hN hV (b := z) (As := [.int sz, .int pr, .int we]) (rest := [.ref z]) (vi_X7 l dC dI dA z vwK1 sz pr we) xki_X0_3 rfl rfl ⟨Nat.le_of_ble_eq_true rfl, Nat.le_of_ble_eq_true rfl⟩ hl.1 (Nat.le_of_ble_eq_true rfl) dX0_made_43 ⟨Nat.le_of_ble_eq_true rfl, Nat.le_of_ble_eq_true rfl⟩) hS (fun q h => Nat.le_of_eq h.symm) (fun q h => Nat.le_of_eq h.symm) (fun _ H locs _ hV hz1 hk1 hS => ?_)
    exact x_rr () X hr hlk hS dX0_made_46 trivial ⟨rfl, vw_QP (by decide) hV⟩
  | 2, _, hl =>
    refine lv_tableIn (tgt := 47) X.1 X.2.1 dX0_made_1 (by decide) (by decide) (off := 46) rfl (by decide) ?_
    refine xb_new (C := RX8) (T := TX8) (NN := 3) (ci := 8) X in_X8 tyX8 tyX8_ok rfl q349 q350 q69 hE hZ hS (fs := [.int 0, .int 0, .int 0]) (fun j hj => match j, hj with | 0, _ => rfl | 1, _ => rfl | 2, _ => rfl) (Nat.le_of_ble_eq_true rfl) (Nat.le_of_ble_eq_true rfl) dX0_made_47 (fun H1 hB hz1 ho1 hS => ?_)
    have hV : vwQ dC dI z 2 0 0 0 H1 := by have := hB 0 (by decide); rw [va_up_self] at this; exact this
    refine lv_dup X.1 X.2.1 dX0_made_50 rfl ?_
    refine lv_iload_n X.1 X.2.1 dX0_made_51 rfl (lv_at hl 1 rfl) ?_
    refine lv_iload_n X.1 X.2.1 dX0_made_52 rfl (lv_at hl 2 rfl) ?_
    refine lv_iload_n X.1 X.2.1 dX0_made_53 rfl (lv_at hl 3 rfl) ?_
    refine x_cWv (x_runI X hN hV (b := z) (As := [.int sz, .int pr, .int we]) (rest := [.ref z]) (vi_X8 l dC dI dA z vwK2 sz pr we) xki_X0_9 rfl rfl ⟨Nat.le_of_ble_eq_true rfl, Nat.le_of_ble_eq_true rfl⟩ hl.1 (Nat.le_of_ble_eq_true rfl) dX0_made_54 ⟨Nat.le_of_ble_eq_true rfl, Nat.le_of_ble_eq_true rfl⟩) hS (fun q h => Nat.le_of_eq h.symm) (fun q h => Nat.le_of_eq h.symm) (fun _ H locs _ hV hz1 hk1 hS => ?_)
    exact x_rr () X hr hlk hS dX0_made_57 trivial ⟨rfl, vw_QP (by decide) hV⟩
  | 3, _, hl =>
    refine lv_tableIn (tgt := 58) X.1 X.2.1 dX0_made_1 (by decide) (by decide) (off := 57) rfl (by decide) ?_
    refine xb_new (C := RX9) (T := TX9) (NN := 3) (ci := 9) X in_X9 tyX9 tyX9_ok rfl q359 q360 q70 hE hZ hS (fs := [.int 0, .int 0, .int 0]) (fun j hj => match j, hj with | 0, _ => rfl | 1, _ => rfl | 2, _ => rfl) (Nat.le_of_ble_eq_true rfl) (Nat.le_of_ble_eq_true rfl) dX0_made_58 (fun H1 hB hz1 ho1 hS => ?_)
    have hV : vwQ dC dI z 3 0 0 0 H1 := by have := hB 0 (by decide); rw [va_up_self] at this; exact this
    refine lv_dup X.1 X.2.1 dX0_made_61 rfl ?_
    refine lv_iload_n X.1 X.2.1 dX0_made_62 rfl (lv_at hl 1 rfl) ?_
    refine lv_iload_n X.1 X.2.1 dX0_made_63 rfl (lv_at hl 2 rfl) ?_
    refine lv_iload_n X.1 X.2.1 dX0_made_64 rfl (lv_at hl 3 rfl) ?_
    refine x_cWv (x_runI X hN hV (b := z) (As := [.int sz, .int pr, .int we]) (rest := [.ref z]) (vi_X9 l dC dI dA z vwK3 sz pr we) xki_X0_12 rfl rfl ⟨Nat.le_of_ble_eq_true rfl, Nat.le_of_ble_eq_true rfl⟩ hl.1 (Nat.le_of_ble_eq_true rfl) dX0_made_65 ⟨Nat.le_of_ble_eq_true rfl, Nat.le_of_ble_eq_true rfl⟩) hS (fun q h => Nat.le_of_eq h.symm) (fun q h => Nat.le_of_eq h.symm) (fun _ H locs _ hV hz1 hk1 hS => ?_)
    exact x_rr () X hr hlk hS dX0_made_68 trivial ⟨rfl, vw_QP (by decide) hV⟩
  | 4, _, hl =>
    refine lv_tableIn (tgt := 69) X.1 X.2.1 dX0_made_1 (by decide) (by decide) (off := 68) rfl (by decide) ?_
    refine xb_new (C := RX10) (T := TX10) (NN := 3) (ci := 10) X in_X10 tyX10 tyX10_ok rfl q369 q370 q71 hE hZ hS (fs := [.int 0, .int 0, .int 0]) (fun j hj => match j, hj with | 0, _ => rfl | 1, _ => rfl | 2, _ => rfl) (Nat.le_of_ble_eq_true rfl) (Nat.le_of_ble_eq_true rfl) dX0_made_69 (fun H1 hB hz1 ho1 hS => ?_)
    have hV : vwQ dC dI z 4 0 0 0 H1 := by have := hB 0 (by decide); rw [va_up_self] at this; exact this
    refine lv_dup X.1 X.2.1 dX0_made_72 rfl ?_
    refine lv_iload_n X.1 X.2.1 dX0_made_73 rfl (lv_at hl 1 rfl) ?_
    refine lv_iload_n X.1 X.2.1 dX0_made_74 rfl (lv_at hl 2 rfl) ?_
    refine lv_iload_n X.1 X.2.1 dX0_made_75 rfl (lv_at hl 3 rfl) ?_
    refine x_cWv (x_runI X hN hV (b := z) (As := [.int sz, .int pr, .int we]) (rest := [.ref z]) (vi_X10 l dC dI dA z vwK4 sz pr we) xki_X0_15 rfl rfl ⟨Nat.le_of_ble_eq_true rfl, Nat.le_of_ble_eq_true rfl⟩ hl.1 (Nat.le_of_ble_eq_true rfl) dX0_made_76 ⟨Nat.le_of_ble_eq_true rfl, Nat.le_of_ble_eq_true rfl⟩) hS (fun q h => Nat.le_of_eq h.symm) (fun q h => Nat.le_of_eq h.symm) (fun _ H locs _ hV hz1 hk1 hS => ?_)
    exact x_rr () X hr hlk hS dX0_made_79 trivial ⟨rfl, vw_QP (by decide) hV⟩
  | 5, _, hl =>
    refine lv_tableIn (tgt := 80) X.1 X.2.1 dX0_made_1 (by decide) (by decide) (off := 79) rfl (by decide) ?_
    refine xb_new (C := RX11) (T := TX11) (NN := 3) (ci := 11) X in_X11 tyX11 tyX11_ok rfl q379 q380 q72 hE hZ hS (fs := [.int 0, .int 0, .int 0]) (fun j hj => match j, hj with | 0, _ => rfl | 1, _ => rfl | 2, _ => rfl) (Nat.le_of_ble_eq_true rfl) (Nat.le_of_ble_eq_true rfl) dX0_made_80 (fun H1 hB hz1 ho1 hS => ?_)
    have hV : vwQ dC dI z 5 0 0 0 H1 := by have := hB 0 (by decide); rw [va_up_self] at this; exact this
    refine lv_dup X.1 X.2.1 dX0_made_83 rfl ?_
    refine lv_iload_n X.1 X.2.1 dX0_made_84 rfl (lv_at hl 1 rfl) ?_
    refine lv_iload_n X.1 X.2.1 dX0_made_85 rfl (lv_at hl 2 rfl) ?_
    refine lv_iload_n X.1 X.2.1 dX0_made_86 rfl (lv_at hl 3 rfl) ?_
    refine x_cWv (x_runI X hN hV (b := z) (As := [.int sz, .int pr, .int we]) (rest := [.ref z]) (vi_X11 l dC dI dA z vwK5 sz pr we) xki_X0_18 rfl rfl ⟨Nat.le_of_ble_eq_true rfl, Nat.le_of_ble_eq_true rfl⟩ hl.1 (Nat.le_of_ble_eq_true rfl) dX0_made_87 ⟨Nat.le_of_ble_eq_true rfl, Nat.le_of_ble_eq_true rfl⟩) hS (fun q h => Nat.le_of_eq h.symm) (fun q h => Nat.le_of_eq h.symm) (fun _ H locs _ hV hz1 hk1 hS => ?_)
    exact x_rr () X hr hlk hS dX0_made_90 trivial ⟨rfl, vw_QP (by decide) hV⟩
  | (_ + 6), h, _ => exact absurd h (by omega)
