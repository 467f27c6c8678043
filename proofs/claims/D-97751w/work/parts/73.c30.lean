set_option maxRecDepth 100000
/-! the component: read -/
theorem xkv_X0_145 : xKV RX0 yX3_reads cX3_reads 2 (some .int) 145 0 := ⟨q436, q437, q438, q64, q439, by decide +kernel⟩
def xWs_ (y : MethodName) (bytes : ByteArray) (maxL : Nat) (ret : Option FieldType) (hh : List (Nat × Nat × Nat × Nat)) : List Cond := Cond.codeWith y bytes maxL ret hh :: lw_all
section XIW
variable {p : Program} {l : Launch} {e : Env} {R : Room} {s : State} {m : MethodId} {args : Array Value} {below : List Frame} {meth : Method} {c : Code} {H : Heap} {locs : List Loc} {cells slots mc ms : Nat} {Q : State → Prop}
variable {cc : ByteArray} {pc nL : Nat} {ls : Array Slot} {rest st0 : List Value} {dC : Nat → ClassId} {dI : Nat → Nat → Nat} {dA : Nat → ClassId} {H0 : Heap} {own : String} {A : Nat → Prop} {a : Nat}
variable {Z : State → Heap → Prop} {P : Heap → Prop} {y : MethodName} {bytes : ByteArray} {maxL : Nat} {ret : Option FieldType} {As : List Value} {free : Addr → Prop} {Qc : Array Value → State → Outcome → State → Prop} {hh : List (Nat × Nat × Nat × Nat)}
theorem x_inW {C : String} (hy : plainName y.cls = true) (hC : y.cls = C) (hsl : (lg_sl As).length ≤ maxL) {rm : Room} {lv : List (Nat × Value)} (hlv : lv_args 0 As = lv)
    (body : ∀ p e s m below meth c, xC dC dI dA p s m c As.toArray bytes maxL C → rvN s → meth.name = y.name → meth.sig.returnType = ret → meth.locks = false → c.exceptionTable.toList.map (fun h => (h.startPc, h.endPc, h.handlerPc, h.catchType)) = hh → P s.heap → Z s s.heap → ∀ ls, lv_has ls maxL lv → W p l e rm s m As.toArray below meth c s.heap [] 0 0 (MQ below Qc As.toArray s mc ms free) (F0 m 0 ls [])) :
    Met l y (xWs_ y bytes maxL ret hh) rm (xPz dC dI dA Z P As) Qc mc ms free := by
  refine va_MetW (cc := bytes) (maxL := maxL) (ret := ret) (hh := hh) hy rfl ?_
  intro p e s m args below meth c s₁ B hml hv
  obtain ⟨rfl, ⟨hP, hZ⟩, hK, hN⟩ := hv
  have hts := atoms_spec (ws := xWs_ y bytes maxL ret hh) B.pre
  have hcw := hts _ List.mem_cons_self
  have hts : ∀ w ∈ lw_all, w.before _ s = true := fun w h => hts w (List.mem_cons_of_mem _ h)
  have hown : s.vm.findClass y.cls = some m.cls := findClass_of_methodNamed B.named
  rw [hC] at hown
  obtain ⟨m9, meth9, c9, hn9, h91, h92, -, -, htab, -⟩ := Cond.codeWith_spec hcw
  cases hn9.symm.trans B.named
  cases h91.symm.trans B.method
  cases h92.symm.trans (Stand.of_body B).code
  have hl := lv_entry As (n := maxL) hsl
  rw [lg_entry_eq]
  generalize (lg_sl As ++ List.replicate (maxL - (lg_sl As).length) Slot.unset).toArray = ls at hl ⊢
  rw [hlv] at hl
  exact body p e s m below meth c ⟨B.exec, B.bytes, hml, hown, hts, hK⟩ hN (name_of_methodNamed B.named B.method).1 B.returns B.notSynchronized htab hP hZ ls hl
end XIW
section RXR
variable {dC : Nat → ClassId} {dI : Nat → Nat → Nat} {dA : Nat → ClassId} {H H0 H1 : Heap} {T T1 : Nat → Prop} {c n z many many' rent rd un hs ev ty : Nat} {ξ ξ' S σ σ' : mdT} {V V' V2 V3 im : Nat → Option Nat} {ab be : Int64} {locs : List Loc} {f : Nat → Int32}
theorem x_bothI (h : bkP dC dI n 96 (xE dA n ξ V V2 im ab be) H) (g : bkP dC dI (n + 1) 43 (sbE dA (n + 1) S V') H1) (g2 : bkP dC dI (n + 44) 43 (sbE dA (n + 44) (fun i => ξ (44 + i)) V2) H1) (hk : ∀ q, bkA n 96 q → ¬ (bkA (n + 1) 43 q ∨ bkA (n + 44) 43 q) → H1[q]? = H[q]?) : bkP dC dI n 96 (xE dA n (mdI ξ 1 43 S) V' V2 im ab be) H1 := by
  intro j hj
  by_cases h1 : 1 ≤ j ∧ j < 44
  · have g' := g (j - 1) (by omega)
    have e : sbE dA (n + 1) S V' (j - 1) = xE dA n (mdI ξ 1 43 S) V' V2 im ab be (1 + (j - 1)) := by unfold sbE xE; rw [mdI_in _ _ (by omega), xF_shop _ _ _ _ _ _ _ _ (by omega)]
    rw [e, show 1 + (j - 1) = j by omega, show n + 1 + (j - 1) = n + j by omega] at g'
    exact g'
  · by_cases h2 : 44 ≤ j ∧ j < 87
    · have g' := g2 (j - 44) (by omega)
      have e : sbE dA (n + 44) (fun i => ξ (44 + i)) V2 (j - 44) = xE dA n (mdI ξ 1 43 S) V' V2 im ab be (44 + (j - 44)) := by unfold sbE xE; rw [mdI_out _ _ (by omega), xF_aside _ _ _ _ _ _ _ _ (by omega)]
      rw [e, show 44 + (j - 44) = j by omega, show n + 44 + (j - 44) = n + j by omega] at g'
      exact g'
    · have e : xE dA n ξ V V2 im ab be j = xE dA n (mdI ξ 1 43 S) V' V2 im ab be j := by
        unfold xE
        rw [mdI_out _ _ (by omega)]
        unfold xF
        by_cases h0 : j = 0
        · rw [if_pos h0, if_pos h0]
        · have h4 : ¬ j < 44 := by omega
          rw [if_neg h0, if_neg h0, if_neg h4, if_neg h4]
      rw [← e]
      refine (h j hj).kept (hk _ ⟨by show n ≤ n + j; omega, by show n + j < n + 96; omega⟩ (fun y => ?_))
      rcases y with ⟨y1, y2⟩ | ⟨y1, y2⟩
      · have y1 : n + 1 ≤ n + j := y1
        have y2 : n + j < n + 1 + 43 := y2
        omega
      · have y1 : n + 44 ≤ n + j := y1
        have y2 : n + j < n + 44 + 43 := y2
        omega
theorem shV.tight (h : shV dC dI T many f V H) : shV dC dI (fun a => T a ∧ a < H.size) many f V H := by
  refine ⟨fun v hv a ha => ?_, fun v hv => ?_⟩
  · obtain ⟨h1, kd, sz, pr, we, h2, h3⟩ := h.1 v hv a ha
    exact ⟨⟨h1, h3.lt⟩, kd, sz, pr, we, h2, h3⟩
  · obtain ⟨a, kd, h1, h2, h3, h4, h5⟩ := h.2 v hv
    exact ⟨a, kd, h1, ⟨h2, h5.lt⟩, h3, h4, h5⟩
theorem RX.read0 (hP : bkP dC dI n 96 (xE dA n ξ' V' V3 im ab be) H) (hR : shR c many' rent rd un hs ev (σ' 0) (fun i => ξ' (1 + i))) (hV : shV dC dI (fun a => T a ∨ z ≤ a) many' (σ' 0) V' H) (hAs : asR dC dI c (fun a => T a ∨ z ≤ a) (fun i => ξ' (44 + i)) V3 H) (ho : oR ty ξ' σ') (hO : xO dC dI dA c T n many V V2 im (fun i => ξ (44 + i)) σ H0) (hz : H0.size = z) (hS : va_S (fun q => bkA n 96 q ∨ z ≤ q) H0 H locs) (h1 : σ' 1 = σ 1) (h2 : σ' 2 = σ 2) : RX dC dI dA c n σ' ab be H := by
  have hk := hO.atz hS hz
  obtain ⟨f2, m2, r2, rd2, un2, hs2, ev2, hR2, hV2⟩ := hAs
  have hTz : ∀ a, T a → a < H0.size := fun a ha => (hO.2.2.2.1 a ha).1
  have hz96 := hO.2.2.2.2
  refine ⟨fun a => (T a ∨ z ≤ a) ∧ a < H.size, ξ', V', V3, im, many', rent, rd, un, hs, ev, ty, hP, hR, ho, hV.tight, ⟨f2, m2, r2, rd2, un2, hs2, ev2, hR2, hV2.tight⟩, ?_, fun a ha => ⟨ha.2, fun y => ?_⟩, Nat.le_trans hz96 hS.1⟩
  · rw [h1, h2]
    exact imR.mono2 hk.2.2.1 hO.2.2.1 (fun a ha => ⟨Or.inl ha, Nat.lt_of_lt_of_le (hTz a ha) hS.1⟩) (fun a ha hn => by
      rcases ha.1 with h | h
      · exact absurd h hn
      · rw [hz]; exact h)
  · rcases ha.1 with h | h
    · exact (hO.2.2.2.1 a h).2 y
    · have := y.2; omega
end RXR
theorem x_X0_read (l : Launch) (dC : Nat → ClassId) (dI : Nat → Nat → Nat) (dA : Nat → ClassId) (n c : Nat) (σ : mdT) (ab be : Int64) (adK adV : Nat → Nat) (fm us sb : Nat) (z : Nat) : Met l yX0_read (xWs_ yX0_read cX0_read 2 (some .int) [(0, 20, 21, 152)]) { frames := 8, cells := 1300, slots := 10200, locals := 480 } (xPz dC dI dA (xZr n adK adV fm us sb) (fun H => RX dC dI dA c n σ ab be H ∧ H.size = z) [.ref n]) (xQi (S := Unit) (fun r_ _ => r_ = (sp_read σ).1) (fun _ => RX dC dI dA c n (sp_read σ).2 ab be) (fun q => bkA n 96 q ∨ z ≤ q)) 1300 10200 (fun q => bkA n 96 q ∨ z ≤ q) := by
  refine x_inW (by decide) rfl (Nat.le_of_ble_eq_true rfl) (lv := [(0, .ref n)]) rfl ?_
  intro p e s m below meth c_ X hN hnm hr hlk htab hP hZs ls hl
  obtain ⟨⟨T, ξ, V, V2, im, many, rent, rd, un, hs, ev, ty, hP, hR, ho, hO⟩, hze⟩ := hP
  have hS : va_S (fun q => bkA n 96 q ∨ z ≤ q) s.heap s.heap [] := va_S.rf
  have hO0 := hO
  obtain ⟨f2, m2, r2, rd2, un2, hs2, ev2, hR2, hV2⟩ := hO.2.1
  have hz112 := hO.2.2.2.2
  have ht : ξ 0 0 = nI ty := ho.2.2.1
  have ht6 : ty ≤ 150 := ho.1
  have hT : ∀ k_, k_ < ty → ξ 88 k_ = σ 12 k_ := ho.2.2.2.1
  have hcl : rv_cl (σ 15 5) = ty := by rw [ho.2.1]; exact rv_cln (by omega)
  have hTb : ∀ a, (T a ∨ z ≤ a) → ¬ bkA n 96 a := fun a ha y => by
    rcases ha with h | h
    · exact (hO.2.2.2.1 a h).2 ⟨y.1, by have := y.2; omega⟩
    · have := y.2; omega
  refine lv_aload_n X.1 X.2.1 dX0_read_0 rfl (lv_at hl 0 rfl) ?_
  refine xb_get (C := RX0) (T := TX0) (v := .ref (n + 90)) X in_X0 (ci := 0) rfl hP (j := 0) (by decide) (xe_x0 ..) 8 (by decide) q259 rfl rfl dX0_read_1 ?_
  refine x_okC (rv_read (σ 12) ty).2.1 (fun okr => ?_) (fun okr => ?_)
  · refine x_catch (nm := RX12) X (x_runVT (xZr_w n adK adV fm us sb) X hN ⟨⟨hP, hV2.mono (fun a h => Or.inl h)⟩, hze⟩ hZs (As := []) (rest := []) (x_X3_reads l dC dI dA n ξ V V2 im ab be adK adV fm us sb z ty ht ht6 (σ 12) hT c (σ 0) (fun a => T a ∨ z ≤ a) hTb (fun a h => Or.inr h) m2 f2 (by omega)) okr xkv_X0_145 (x_recv (ci := 3) X.2.2.2.2.2 hP (j := 90) (by decide) (xe_x90 ..) rfl) rfl rfl ⟨Nat.le_of_ble_eq_true rfl, Nat.le_of_ble_eq_true rfl⟩ hl.1 (Nat.le_of_ble_eq_true rfl) dX0_read_4 ⟨Nat.le_of_ble_eq_true rfl, Nat.le_of_ble_eq_true rfl⟩) q435 htab (by decide) (by decide) hS (fun _ h => h) (fun _ h => h) (fun x H1 h => ?_) (fun x H locs hE hz1 hk1 hS => ?_)
    · obtain ⟨-, pl, hft, -⟩ := h
      exact va_recv (q0 := 0) X.2.2.2.2.2 (at_P hft) (ci := 12) rfl rfl
    obtain ⟨⟨u, V3, A_, hY, m3, r3, hP, hRa, hVa⟩, pl, hft, hpl⟩ := hE
    refine lv_astore_n (lv' := [(1, .ref x), (0, .ref n)]) X.1 X.2.1 dX0_read_21 rfl hl (by decide) rfl (fun ls hl => ?_)
    refine lv_bipush (v := (-10)) X.1 X.2.1 dX0_read_22 rfl ?_
    refine lv_aload_n X.1 X.2.1 dX0_read_24 rfl (lv_at hl 0 rfl) ?_
    have hB : bkP dC dI x 1 (fun _ => .inr (12, ft0 pl)) H := fun j hj => by obtain rfl : j = 0 := (by omega); exact hft
    refine xb_getN (host := "RentedViews") (b := x) (C := RX12) (T := TX12) (v := .int pl) X in_X12 (ci := 12) rfl hB (j := 0) (by decide) rfl 6 (by decide) (x_nest hN q504 rfl) rfl rfl dX0_read_25 ?_
    refine lv_isub X.1 X.2.1 dX0_read_28 ?_
    have hq : sp_read σ = ((-10) - pl, σ) := by unfold sp_read; rw [hcl, if_neg (rv_nf okr), hpl]
    exact x_pi hq X hr hlk hS dX0_read_29 (RX.read0 hP (hR.cg (fun i hi => hY (1 + i) (by omega) (by omega)) (fun _ _ => rfl)) ((hO.atz hS hze).1.mono (fun a h => Or.inl h)) ⟨_, m3, r3, 0, 0, 0, 0, hRa, hVa⟩ (ho.cg (congrFun (hY 0 (by decide) (by decide)) 0) (hY 88 (by decide) (by decide)) (hY 89 (by decide) (by decide)) rfl rfl rfl) hO hze hS rfl rfl)
  · refine x_cWi (x_runVW (xZr_w n adK adV fm us sb) X hN ⟨⟨hP, hV2.mono (fun a h => Or.inl h)⟩, hze⟩ hZs (As := []) (rest := []) (MetT.metb (x_X3_reads l dC dI dA n ξ V V2 im ab be adK adV fm us sb z ty ht ht6 (σ 12) hT c (σ 0) (fun a => T a ∨ z ≤ a) hTb (fun a h => Or.inr h) m2 f2 (by omega)) okr xQi_ret) xkv_X0_145 (x_recv (ci := 3) X.2.2.2.2.2 hP (j := 90) (by decide) (xe_x90 ..) rfl) rfl rfl ⟨Nat.le_of_ble_eq_true rfl, Nat.le_of_ble_eq_true rfl⟩ hl.1 (Nat.le_of_ble_eq_true rfl) dX0_read_4 ⟨Nat.le_of_ble_eq_true rfl, Nat.le_of_ble_eq_true rfl⟩) hS (fun _ h => h) (fun _ h => h) (fun r u H locs hu hP1 hz1 hk1 hS => ?_)
    obtain ⟨rfl, hY⟩ := hu
    obtain ⟨m3, r3, hP, hRa, hVa⟩ := hP1
    refine lv_istore_n (lv' := [(1, .int (rv_read (σ 12) ty).1), (0, .ref n)]) X.1 X.2.1 dX0_read_7 rfl hl (by decide) rfl (fun ls hl => ?_)
    refine lv_aload_n X.1 X.2.1 dX0_read_8 rfl (lv_at hl 1 rfl) ?_
    refine xb_get (C := RX0) (T := TX0) (v := .ref (n + 1)) X in_X0 (ci := 0) rfl hP (j := 0) (by decide) (xe_x0 ..) 0 (by decide) q248 rfl rfl dX0_read_9 ?_
    refine lv_aload_n X.1 X.2.1 dX0_read_12 rfl (lv_at hl 1 rfl) ?_
    refine xb_get (C := RX0) (T := TX0) (v := .ref (n + 44)) X in_X0 (ci := 0) rfl hP (j := 0) (by decide) (xe_x0 ..) 1 (by decide) q249 rfl rfl dX0_read_13 ?_
    refine x_cWv (x_runV X hN ⟨x_shop hP, x_aside hP, hVa⟩ (As := [.ref (n + 44)]) (rest := []) (x_X1_takes l dC dI dA (n + 1) (fun i_ => u.1 (1 + i_)) V (fun i_ => u.1 (44 + i_)) u.2 (n + 44) c m3 r3 0 0 0 0 (rdF (rv_read (σ 12) ty).2.2 (σ 0)) (fun a => T a ∨ z ≤ a) hRa (by omega)) xkv_X0_148 (x_recv (ci := 1) X.2.2.2.2.2 hP (j := 1) (by decide) (xe_x1 ..) rfl) rfl rfl ⟨Nat.le_of_ble_eq_true rfl, Nat.le_of_ble_eq_true rfl⟩ hl.1 (Nat.le_of_ble_eq_true rfl) dX0_read_16 ⟨Nat.le_of_ble_eq_true rfl, Nat.le_of_ble_eq_true rfl⟩) hS (fun q h => Or.inl (by unfold bkA at *; omega)) (fun q h => Or.inl (by unfold bkA at *; omega)) (fun w H locs hw hP1 hz2 hk2 hS => ?_)
    have hVa := hVa.step0 (fun q hq ht => hk2 q hq (fun y => hTb q ht (by unfold bkA at *; omega)))
    have hP := x_bothI hP hP1.1 hP1.2 (fun q h1 h2 => hk2 q (bk_sz hP h1) h2)
    refine lv_iload_n X.1 X.2.1 dX0_read_19 rfl (lv_at hl 0 rfl) ?_
    have hq : sp_read σ = ((rv_read (σ 12) ty).1, mdN σ (rdF (rv_read (σ 12) ty).2.2 (σ 0))) := by unfold sp_read; rw [hcl, if_pos okr]; rfl
    exact x_pi hq X hr hlk hS dX0_read_20 (RX.read0 (σ' := mdN σ (rdF (rv_read (σ 12) ty).2.2 (σ 0))) hP (hw.cg (fun i hi => mdI_in _ _ hi) (fun _ _ => rfl)) hVa ⟨_, m3, r3, 0, 0, 0, 0, hRa.cg (fun i hi => mdI_out _ _ (by omega)) (fun _ _ => rfl), hVa⟩ (ho.cg ((congrFun (mdI_out _ _ (by omega)) 0).trans (congrFun (hY 0 (by decide) (by decide)) 0)) ((mdI_out _ _ (by omega)).trans (hY 88 (by decide) (by decide))) ((mdI_out _ _ (by omega)).trans (hY 89 (by decide) (by decide))) rfl rfl rfl) hO hze hS rfl rfl)
