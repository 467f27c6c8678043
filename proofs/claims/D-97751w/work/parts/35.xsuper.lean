/-! super calls and calls of inherited methods; a view's cell -/
set_option maxRecDepth 100000
/-- super.m(): named in x's class, declared in y's -/
def xKU (own : String) (x y : MethodName) (bytes : ByteArray) (maxL : Nat) (ret : Option FieldType) (idx k : Nat) : Prop :=
  Cond.methodLink own idx x ∈ lw_all ∧ Cond.sameMethod x.cls y.cls x.name x.desc ∈ lw_all ∧ Cond.superclass own x.cls ∈ lw_all ∧ (x.cls = y.cls ∨ Cond.superclass x.cls y.cls ∈ lw_all) ∧ Cond.instanceMethod y ∈ lw_all ∧ Cond.initialized y.cls ∈ lw_all ∧ Cond.code y bytes maxL ret ∈ lw_all ∧ (y.name = x.name ∧ y.desc = x.desc ∧ y.name ≠ "<init>") ∧ xOk y k
section XU
variable {p : Program} {l : Launch} {e : Env} {R : Room} {s : State} {m : MethodId} {args : Array Value} {below : List Frame} {meth : Method} {c : Code} {H : Heap} {locs : List Loc} {cells slots mc ms : Nat} {Q : State → Prop}
variable {cc : ByteArray} {pc nL : Nat} {ls : Array Slot} {rest st0 : List Value} {dC : Nat → ClassId} {dI : Nat → Nat → Nat} {dA : Nat → ClassId} {b : Nat} {H0 : Heap} {own host : String} {P : Heap → Prop}
variable {x y : MethodName} {bytes : ByteArray} {maxL idx k fr lo : Nat} {ret : Option FieldType} {As : List Value} {free : Addr → Prop} {Qc : Array Value → State → Outcome → State → Prop}
theorem x_sub {a t : ClassId} {kd : Class} (h1 : s.vm.classes[a]? = some kd) (h2 : kd.super = some t) : s.vm.isSubclass a t = true := by
  unfold Vm.isSubclass
  have hz : 0 < s.vm.classes.size := by
    rcases Nat.eq_zero_or_pos s.vm.classes.size with h | h
    · rw [Array.getElem?_eq_none (by omega)] at h1; cases h1
    · exact h
  obtain ⟨z, hz⟩ : ∃ z, s.vm.classes.size = z + 1 := ⟨s.vm.classes.size - 1, by omega⟩
  rw [hz]
  simp [Vm.isSubclassAux, h1, h2]
theorem x_runSU {C : String} {cC : ClassId} (hat : ClassAt s C cC) (X : xC dC dI dA p s m c args cc nL own) (hN : rvN s) (hP : P H) (hM : Met l y (ws_ y bytes maxL ret) { frames := fr, cells := mc, slots := ms, locals := lo } (xPc dC dI dA P (.ref b :: As)) Qc mc ms free) (K : xKU own x y bytes maxL ret idx k) (hr : xRecv s H C b) (hn : As.length = k) (hst : st0 = As.reverse ++ .ref b :: rest) (hR : fr + 1 ≤ R.frames ∧ 8 + (maxL + 11) + lo ≤ R.locals) (hsz : ls.size = nL) (hw : (rest.map fun v => v.category).sum ≤ 8) (hdg : decode cc pc = .ok (.invokespecial idx, 3)) (hf : cells + mc ≤ R.cells ∧ slots + ms ≤ R.slots) :
    va_Run p l e R s m args below meth c H locs cells slots mc ms (F0 m pc ls st0) rest (Qc (Value.ref b :: As).toArray) free := by
  have hts := X.2.2.2.2.1
  obtain ⟨k1, k2, k3, k4, k5, k6, k7, ⟨k8, k9, k10⟩, kok⟩ := K
  have hK : Back l R p e below s args y 3 8 (PreOf R mc ms (xPc dC dI dA P (.ref b :: As))) (PostOf Qc mc ms free) := back_of (bytes := bytes) (maxL := maxL) (ret := ret) hM x_blind rfl rfl hR.1 hR.2 (pay_in hts (lw_meth k7)) List.mem_cons_self (fun a' U hW => word_at hW (Or.inl (by first | rfl | simp [Cond.onTables, Cond.keeps, Cond.steady])) (hts _ k6))
  obtain ⟨cellB, hcB, hoB, hclB⟩ := hr
  obtain ⟨hfc, kB, hkB, -⟩ := hat
  cases hfc.symm.trans hclB
  obtain ⟨mk, methM, hnamed, hmethM, hstM, habM⟩ := Cond.instanceMethod_spec (hts _ k5)
  obtain ⟨methM', cM, hmethM', -, -, -, -, -, -, hsigM⟩ := Cond.code_spec hnamed (hts _ k7)
  cases hmethM.symm.trans hmethM'
  obtain ⟨ps, dk, kp, hps, hdk, hkp, hsuper, -, -, hnid⟩ := Cond.superclass_spec X.2.2.2.1 (hts _ k3)
  have hn2 : s.methodNamed? ⟨y.cls, x.name, x.desc⟩ = some mk := by rw [← k8, ← k9]; exact hnamed
  have hsub : s.vm.isSubclass ps mk.cls = true := by
    rcases k4 with h | h
    · have hpm : ps = mk.cls := Option.some.inj (hps.symm.trans (by rw [h]; exact findClass_of_methodNamed hnamed))
      rw [hpm]; simp [Vm.isSubclass, Vm.isSubclassAux]
    · obtain ⟨ps2, dk2, kp2, hps2, hdk2, hkp2, hsuper2, -⟩ := Cond.superclass_spec hps (hts _ h)
      have hpm : ps2 = mk.cls := Option.some.inj (hps2.symm.trans (findClass_of_methodNamed hnamed))
      rw [← hpm]
      exact x_sub hdk2 hsuper2
  have hlen : ∀ sig, parseMethodDescriptor y.desc = some sig → As.length = sig.parameters.length := fun sig h => by
    have h2 := kok.2.2
    rw [h] at h2
    rw [hn]
    exact (Option.some.inj h2).symm
  intro T hT Z
  obtain ⟨vm₁, X₁, hstep₁⟩ := Z.invokespecialUp X.1 X.2.2.2.1 (hts _ k1) (hts _ k2) hn2 hmethM hstM habM (by rw [← k8]; exact k10) hdk hnid hps hsuper hsub (a := b) (cell := cellB) (by rw [hT]; exact hcB)
    (fun z h => by rw [h] at hoB; cases hoB) hkB (g := F0 m pc ls st0) rfl (argsL := As) (rest := rest) (hlen _ hsigM) hst (by rw [X.2.1]; exact hdg)
  obtain ⟨v, ⟨U', l2, c2, s2⟩, X', ⟨g', mk', t, L, e1, e2, hq, h1, hL, h2, h3⟩, hsteps⟩ := hK m meth c ⟨T.setVm vm₁, locs, cells, slots⟩ { F0 m pc ls st0 with stack := rest } (.invokespecial idx) mk (Value.ref b :: As).toArray X₁ rfl (hsz.trans X.2.2.1.symm) (by rw [X.2.1]; exact hdg) (lv_room hw) (X₁.named hnamed) ⟨hf.1, hf.2, ⟨rfl, by rw [show (T.setVm vm₁).heap = H from hT]; exact hP, rvK.moved X₁.warmed.alike X.2.2.2.2.2, hN.warm X₁.warmed⟩⟩
  dsimp only [Pt.U, Pt.locs, Pt.cells, Pt.slots] at X' e1 e2 h1 h2 h3 hsteps
  subst h1; subst h2; subst h3
  exact ⟨v, (T.setVm vm₁).calling g' mk' (Value.ref b :: As).toArray, t, U', L, hT, X', hL, e1, e2, hq, fun target h => hstep₁ _ (by rw [doInvoke_state]; exact hsteps.trans h)⟩
/-- a virtual call on a receiver of class C: x is named, owner declares it, y runs -/
def xKO (own C owner : String) (x y : MethodName) (bytes : ByteArray) (maxL : Nat) (ret : Option FieldType) (idx k : Nat) : Prop :=
  Cond.methodLink own idx x ∈ lw_all ∧ Cond.sameMethod x.cls owner x.name x.desc ∈ lw_all ∧ (Cond.declares ⟨owner, x.name, x.desc⟩ ∈ lw_tbl ∨ (Cond.instanceMethod ⟨owner, x.name, x.desc⟩ ∈ lw_all ∧ ∃ b0 m0 r0, Cond.code ⟨owner, x.name, x.desc⟩ b0 m0 r0 ∈ lw_all)) ∧ Cond.selects C x y ∈ lw_all ∧ Cond.instanceMethod y ∈ lw_all ∧ Cond.initialized y.cls ∈ lw_all ∧ Cond.code y bytes maxL ret ∈ lw_all ∧ (owner ≠ "java/lang/invoke/MethodHandle" ∧ owner ≠ "java/lang/invoke/VarHandle" ∧ (parseMethodDescriptor x.desc).map (fun d => d.parameters.length) = some k)
theorem x_runO {C owner : String} (X : xC dC dI dA p s m c args cc nL own) (hN : rvN s) (hP : P H) (hM : Met l y (ws_ y bytes maxL ret) { frames := fr, cells := mc, slots := ms, locals := lo } (xPc dC dI dA P (.ref b :: As)) Qc mc ms free) (K : xKO own C owner x y bytes maxL ret idx k) (hr : xRecv s H C b) (hn : As.length = k) (hst : st0 = As.reverse ++ .ref b :: rest) (hR : fr + 1 ≤ R.frames ∧ 8 + (maxL + 11) + lo ≤ R.locals) (hsz : ls.size = nL) (hw : (rest.map fun v => v.category).sum ≤ 8) (hdg : decode cc pc = .ok (.invokevirtual idx, 3)) (hf : cells + mc ≤ R.cells ∧ slots + ms ≤ R.slots) :
    va_Run p l e R s m args below meth c H locs cells slots mc ms (F0 m pc ls st0) rest (Qc (Value.ref b :: As).toArray) free := by
  have hts := X.2.2.2.2.1
  obtain ⟨k1, k2, k3, k4, k5, k6, k7, kok⟩ := K
  refine va_runU (owner := owner) (x := x) (C := C) (As := As) (rest := rest) (nL := nL) (cc := cc) (n := k) (x_fix X) hM ⟨⟨rfl, rfl, hR.1, hR.2, pay_in hts (lw_meth k7), List.mem_cons_self⟩, hts _ k7, hts _ k6, ⟨kok.1, kok.2.1⟩, fun sig h => ?_, hts _ k1, hts _ k2, k3.elim (fun h => va_Decl.abs (x_nest hN h rfl)) (fun ⟨h, _, _, _, h2⟩ => va_Decl.of (hts _ h) (hts _ h2)), hts _ k4, hts _ k5⟩ (x_preV X hN hP hr) rfl hn hsz hst (lv_room hw) hdg hf
  have h2 := kok.2.2
  rw [h] at h2
  exact (Option.some.inj h2).symm
/-- calls that only read, whose answer is said exactly -/
theorem x_cSe {v : Int32} {a : Array Value} (hr : va_Run p l e R s m args below meth c H locs cells slots 0 0 (F0 m pc ls st0) rest (vp_Si (fun r => r = v) a) (fun _ => False)) (kk : W p l e R s m args below meth c H locs cells slots Q (F0 m (pc + 3) ls (.int v :: rest))) : W p l e R s m args below meth c H locs cells slots Q (F0 m pc ls st0) :=
  vp_callSi hr.run (fun r er => by rw [er]; exact kk)
theorem x_cSle {v : Int64} {a : Array Value} (hr : va_Run p l e R s m args below meth c H locs cells slots 0 0 (F0 m pc ls st0) rest (vp_Sl (fun r => r = v) a) (fun _ => False)) (kk : W p l e R s m args below meth c H locs cells slots Q (F0 m (pc + 3) ls (.long v :: rest))) : W p l e R s m args below meth c H locs cells slots Q (F0 m pc ls st0) :=
  vp_callSl hr.run (fun r er => by rw [er]; exact kk)
end XU
/-- a view: its kind, size, price, weather -/
abbrev vwE (kd : Nat) (sz pr we : Int32) : va_E := .inr (6 + kd, [.int sz, .int pr, .int we])
abbrev vwQ (dC : Nat → ClassId) (dI : Nat → Nat → Nat) (a kd : Nat) (sz pr we : Int32) (H : Heap) : Prop := va_at (dC, dI) rvCl (a, vwE kd sz pr we) H
/-- the same, whatever else the cell may be known for -/
def vwP (dC : Nat → ClassId) (dI : Nat → Nat → Nat) (a kd : Nat) (sz pr we : Int32) (H : Heap) : Prop :=
  ∃ cell : Cell, H[a]? = some cell ∧ cell.cls = dC (6 + kd) ∧ cell.vm.isStatics = false ∧ cell.vm ≠ .unknown ∧ ∀ k, k < 3 → cell.slots[dI (6 + kd) k]? = some (vp_V [.int sz, .int pr, .int we] k)
theorem vwP.kept0 {dC : Nat → ClassId} {dI : Nat → Nat → Nat} {a kd : Nat} {sz pr we : Int32} {H H1 : Heap} (h : vwP dC dI a kd sz pr we H) (hk : H1[a]? = H[a]?) : vwP dC dI a kd sz pr we H1 := by
  obtain ⟨cell, h1, h2⟩ := h
  exact ⟨cell, by rw [hk]; exact h1, h2⟩
theorem vwP.lt {dC : Nat → ClassId} {dI : Nat → Nat → Nat} {a kd : Nat} {sz pr we : Int32} {H : Heap} (h : vwP dC dI a kd sz pr we H) : a < H.size := by
  obtain ⟨cell, h1, h2⟩ := h
  exact (Array.getElem?_eq_some_iff.mp h1).1
theorem vw_QP {dC : Nat → ClassId} {dI : Nat → Nat → Nat} {a kd : Nat} {sz pr we : Int32} {H : Heap} (hk : kd < 6) (h : vwQ dC dI a kd sz pr we H) : vwP dC dI a kd sz pr we H := by
  obtain ⟨r, h1, cell, q1, q2, q3, q4⟩ := h
  have h3 : r.2.2 = 3 := by
    match kd, hk, h1 with
    | 0, _, h1 => cases h1; rfl
    | 1, _, h1 => cases h1; rfl
    | 2, _, h1 => cases h1; rfl
    | 3, _, h1 => cases h1; rfl
    | 4, _, h1 => cases h1; rfl
    | 5, _, h1 => cases h1; rfl
  rw [h3] at q4
  exact ⟨cell, q1, q2, (by rw [q3]; rfl), (by rw [q3]; intro h; cases h), q4⟩
def vwK (kd : Nat) (C : String) (T : u_T) : Prop := rvCl[6 + kd]? = some (C, T, 3) ∧ (∀ w ∈ u_ws C T 3, w ∈ lw_all) ∧ ∀ k, k < 3 → T k = TX6 k
theorem at_P {dC : Nat → ClassId} {dI : Nat → Nat → Nat} {a : Nat} {E : va_E} {H : Heap} (h : va_at (dC, dI) rvCl (a, E) H) : va_P (dC, dI) rvCl [(a, E)] H := fun k q hk => by
  cases k with
  | zero => cases hk; exact h
  | succ k => cases hk
section XV
variable {p : Program} {l : Launch} {e : Env} {R : Room} {s : State} {m : MethodId} {args : Array Value} {below : List Frame} {meth : Method} {c : Code} {H : Heap} {locs : List Loc} {cells slots mc ms : Nat} {Q : State → Prop}
variable {cc : ByteArray} {pc nL : Nat} {ls : Array Slot} {rest st0 : List Value} {dC : Nat → ClassId} {dI : Nat → Nat → Nat} {dA : Nat → ClassId} {a kd : Nat} {sz pr we : Int32} {own host : String} {C : String} {T : u_T}
theorem vw_recv (hK : rvK dC dI dA s) (K : vwK kd C T) (hV : vwP dC dI a kd sz pr we H) : xRecv s H C a := by
  obtain ⟨cell, g1, g2, g3, -⟩ := hV
  exact ⟨cell, g1, g3, by rw [g2]; exact (hK.1 (6 + kd) _ K.1).2.1⟩
theorem vw_rAny {E : String} (hK : rvK dC dI dA s) (K : vwK kd C T) (hV : vwP dC dI a kd sz pr we H) (hasg : ∀ comp c0 : ClassId, s.vm.findClass E = some comp → s.vm.findClass C = some c0 → s.vm.assignable c0 comp = true) : va_Any E s H a := by
  obtain ⟨cell, h1, h2, h3⟩ := vw_recv hK K hV
  obtain ⟨kC, hkC, -⟩ := Vm.findClass_spec h3
  exact ⟨cell, h1, h2, ⟨kC, hkC⟩, fun comp h => hasg comp _ h h3⟩
theorem vw_cls (hK : rvK dC dI dA s) (K : vwK kd C T) : ClassAt s C (dC (6 + kd)) := (hK.1 (6 + kd) _ K.1).2
theorem vw_get {index : Nat} (X : xC dC dI dA p s m c args cc nL own) (K : vwK kd C T) (hV : vwP dC dI a kd sz pr we H) (k : Nat) (hk : k < 3) (hl : Cond.fieldLink own index RX6 (TX6 k).2.1 (TX6 k).2.2.1 ∈ lw_all) {v : Value} (hv : [Value.int sz, .int pr, .int we][k]? = some v) (hdg : decode cc pc = .ok (.getfield index, 3))
    (kk : W p l e R s m args below meth c H locs cells slots Q (F0 m (pc + 3) ls (v :: rest))) : W p l e R s m args below meth c H locs cells slots Q (F0 m pc ls (.ref a :: rest)) := by
  obtain ⟨cell, q1, q2, q3, q3', q4⟩ := hV
  obtain ⟨hSl, hfc, kC, hkC, hkind⟩ := X.2.2.2.2.2.1 (6 + kd) _ K.1
  obtain ⟨cf, kf, fi, f, hi, hsl⟩ := hSl k hk
  have hst := (u_facts hfc hkC (u_lays X.2.2.2.2.1 K.2.1 hk) hi).1
  have hi2 : s.fieldFound? RX6 (TX6 k).2.1 (TX6 k).2.2.1 = some (cf, kf, fi, f) := by
    have hi : s.fieldFound? (T k).1 (T k).2.1 (T k).2.2.1 = some (cf, kf, fi, f) := hi
    rw [show T k = TX6 k from K.2.2 k hk] at hi
    match k, hk, hi with | 0, _, hi => exact hi | 1, _, hi => exact hi | 2, _, hi => exact hi
  refine W.getf X.1 X.2.1 X.2.2.2.1 (X.2.2.2.2.1 _ hl) hi2 hst q1 q3' (v := v) ?_ rfl rfl hdg kk
  rw [hsl, q4 k hk]
  simp [vp_V, hv]
theorem vw_getN {index : Nat} (X : xC dC dI dA p s m c args cc nL own) (hN : rvN s) (K : vwK kd C T) (hV : vwP dC dI a kd sz pr we H) (k : Nat) (hk : k < 3) (hl : Cond.fieldLinkNest own index RX6 (TX6 k).2.1 (TX6 k).2.2.1 host ∈ lw_tbl) {v : Value} (hv : [Value.int sz, .int pr, .int we][k]? = some v) (hdg : decode cc pc = .ok (.getfield index, 3))
    (kk : W p l e R s m args below meth c H locs cells slots Q (F0 m (pc + 3) ls (v :: rest))) : W p l e R s m args below meth c H locs cells slots Q (F0 m pc ls (.ref a :: rest)) := by
  obtain ⟨cell, q1, q2, q3, q3', q4⟩ := hV
  obtain ⟨hSl, hfc, kC, hkC, hkind⟩ := X.2.2.2.2.2.1 (6 + kd) _ K.1
  obtain ⟨cf, kf, fi, f, hi, hsl⟩ := hSl k hk
  have hst := (u_facts hfc hkC (u_lays X.2.2.2.2.1 K.2.1 hk) hi).1
  have hi2 : s.fieldFound? RX6 (TX6 k).2.1 (TX6 k).2.2.1 = some (cf, kf, fi, f) := by
    have hi : s.fieldFound? (T k).1 (T k).2.1 (T k).2.2.1 = some (cf, kf, fi, f) := hi
    rw [show T k = TX6 k from K.2.2 k hk] at hi
    match k, hk, hi with | 0, _, hi => exact hi | 1, _, hi => exact hi | 2, _, hi => exact hi
  refine va_Wgetf X.1 X.2.1 X.2.2.2.1 (va_Nw.use rfl (x_nest hN hl rfl)) hi2 hst q1 q3' (v := v) ?_ rfl rfl hdg kk
  rw [hsl, q4 k hk]
  simp [vp_V, hv]
end XV
theorem vwK0 : vwK 0 RX6 TX6 := ⟨rfl, in_X6, fun _ _ => rfl⟩
theorem vwK1 : vwK 1 RX7 TX7 := ⟨rfl, in_X7, fun k hk => match k, hk with | 0, _ => rfl | 1, _ => rfl | 2, _ => rfl⟩
theorem vwK2 : vwK 2 RX8 TX8 := ⟨rfl, in_X8, fun k hk => match k, hk with | 0, _ => rfl | 1, _ => rfl | 2, _ => rfl⟩
theorem vwK3 : vwK 3 RX9 TX9 := ⟨rfl, in_X9, fun k hk => match k, hk with | 0, _ => rfl | 1, _ => rfl | 2, _ => rfl⟩
theorem vwK4 : vwK 4 RX10 TX10 := ⟨rfl, in_X10, fun k hk => match k, hk with | 0, _ => rfl | 1, _ => rfl | 2, _ => rfl⟩
theorem vwK5 : vwK 5 RX11 TX11 := ⟨rfl, in_X11, fun k hk => match k, hk with | 0, _ => rfl | 1, _ => rfl | 2, _ => rfl⟩
