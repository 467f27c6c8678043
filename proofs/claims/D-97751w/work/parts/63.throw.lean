/-! calls that may throw -/
set_option maxRecDepth 100000
def FrT (st t : State) (L : List Loc) (mc ms : Nat) : Prop := st.WarmedH t.vm ∧ st.sameButNew ({ t with vm := st.vm } : State) L mc ms
/-- a contract that may end in a throw -/
def MetT (l : Launch) (y : MethodName) (ws : List Cond) (rm : Room) (Pc : Array Value → State → Prop) (Qc : Array Value → State → Outcome → State → Prop) (mc ms : Nat) (free : Addr → Prop) : Prop :=
  MetFree l y (headSpec ws rm) Pc (fun _ _ _ _ _ => True) (fun a st o t => Qc a st o t ∧ ∃ L, FrT st t L mc ms ∧ ∀ q ∈ L, free q.base)
def MQT (below : List Frame) (Qc : Array Value → State → Outcome → State → Prop) (a : Array Value) (s : State) (mc ms : Nat) (free : Addr → Prop) : State → Prop := fun t =>
  ∃ o, t.status = .running ∧ Ended t below o ∧ Qc a s o t ∧ ∃ L, FrT s t L mc ms ∧ ∀ q ∈ L, free q.base
/-- what is thrown: where it lies, and the heap -/
def xEr (Er : Nat → Heap → Prop) (A : Nat → Prop) : State → Outcome → State → Prop := fun st o t => (∃ x, o = .threw x ∧ Er x t.heap) ∧ va_F A st t
/-- returns if ok, throws if not -/
def xQT (ok : Bool) (Qn : Array Value → State → Outcome → State → Prop) (Er : Nat → Heap → Prop) (A : Nat → Prop) : Array Value → State → Outcome → State → Prop := fun a st o t =>
  (ok = true → Qn a st o t) ∧ (ok = false → xEr Er A st o t)
def PostX (Qa : Array Value → State → Outcome → State → Prop) (mc ms : Nat) (free : Addr → Prop) : Pt → Array Value → Addr → Pt → Prop := fun A a x B =>
  ∃ (g : JFrame) (mk : MethodId) (t : State) (L : List Loc), B.U.heap = t.heap ∧ B.U.vm = t.vm ∧ Qa a (A.U.calling g mk a) (.threw x) t ∧ B.locs = A.locs ++ L ∧ (∀ q ∈ L, free q.base) ∧ B.cells = A.cells + mc ∧ B.slots = A.slots + ms
/-- calls of y that throw, from every point -/
def xBT (l : Launch) (R : Room) (p : Program) (e : Env) (below : List Frame) (s : State) (sargs : Array Value) (y : MethodName) (len W : Nat) (Pre : Pt → Array Value → Prop) (Post : Pt → Array Value → Addr → Pt → Prop) : Prop :=
  ∀ (m : MethodId) (meth : Method) (c : Code) (A : Pt) (g : JFrame) (ig : Instr) (mk : MethodId) (a : Array Value),
    Stand p l e R s m sargs below meth c A.U A.locs A.cells A.slots → g.method = m → g.locals.size = c.maxLocals → decode c.code g.pc = .ok (ig, len) →
    2 * g.monitorRoom + (g.stack.map fun v => v.category).sum ≤ W → A.U.methodNamed? y = some mk → Pre A a →
    ∃ (x : Addr) (B : Pt), Stand p l e R s m sargs below meth c B.U B.locs B.cells B.slots ∧ Post A a x B ∧ Steps p.tables e below (doInvoke e (A.U.setTop g) [] mk a).1 ((B.U.setTop g).pushFrame (.throwing x))
/-- a call that throws -/
def xRunT (p : Program) (l : Launch) (e : Env) (R : Room) (s : State) (m : MethodId) (args : Array Value) (below : List Frame) (meth : Method) (c : Code) (H : Heap) (locs : List Loc) (cells slots mc ms : Nat) (g : JFrame) (rest : List Value) (Qa : State → Outcome → State → Prop) (free : Addr → Prop) : Prop :=
  ∀ T : State, T.heap = H → Stand p l e R s m args below meth c T locs cells slots → ∃ (x : Addr) (st₀ t T' : State) (L : List Loc), st₀.heap = H ∧ Stand p l e R s m args below meth c T' (locs ++ L) (cells + mc) (slots + ms) ∧ (∀ q ∈ L, free q.base) ∧ T'.heap = t.heap ∧ T'.vm = t.vm ∧ Qa st₀ (.threw x) t ∧
    ∀ target, Steps p.tables e below ((T'.setTop { g with stack := rest }).pushFrame (.throwing x)) target → Steps p.tables e below (T.setTop g) target
/-- what stays when the tables grow warm -/
def zW (Z : State → Heap → Prop) : Prop := (∀ (u U : State) (H : Heap), u.WarmedH U.vm → Z u H → Z U H) ∧ ∀ (u U : State) (H : Heap), U.vm = u.vm → Z u H → Z U H
theorem zOk.w {Z : State → Heap → Prop} (h : zOk Z) : zW Z := ⟨fun u U H hW hZ => h u U H hW.alike hZ, fun u U H e hZ => h u U H (e ▸ Vm.Alike.refl _) hZ⟩
section XT
variable {p : Program} {l : Launch} {e : Env} {R : Room} {s : State} {m : MethodId} {args : Array Value} {below : List Frame} {meth : Method} {c : Code} {H : Heap} {locs : List Loc} {cells slots mc ms : Nat} {Q : State → Prop}
variable {cc : ByteArray} {pc nL : Nat} {ls : Array Slot} {rest st0 : List Value} {dC : Nat → ClassId} {dI : Nat → Nat → Nat} {dA : Nat → ClassId} {b : Nat} {H0 : Heap} {own host : String} {P : Heap → Prop}
variable {y : MethodName} {bytes : ByteArray} {maxL idx k fr lo : Nat} {ret : Option FieldType} {As : List Value} {free A A1 : Addr → Prop} {Qc Qn : Array Value → State → Outcome → State → Prop} {ws : List Cond} {rm : Room} {Pc : Array Value → State → Prop} {ok : Bool} {Er Er2 : Nat → Heap → Prop}
theorem MetT.met (hM : MetT l y ws rm Pc (xQT true Qn Er A) mc ms free) (h : ∀ a st o t, Qn a st o t → ∃ v, o = .returned v) : Met l y ws rm Pc Qn mc ms free := fun p e ha hc hk s m args below hf happ hP hK => by
  obtain ⟨n, o, a1, a2, a3, q, L, hL, hfr⟩ := hM p e ha hc hk s m args below hf happ hP hK
  exact ⟨n, o, a1, a2, a3, q.1 rfl, L, ⟨h _ _ _ _ (q.1 rfl), hL⟩, hfr⟩
theorem MetT.metb (hM : MetT l y ws rm Pc (xQT ok Qn Er A) mc ms free) (hok : ok = true) (h : ∀ a st o t, Qn a st o t → ∃ v, o = .returned v) : Met l y ws rm Pc Qn mc ms free := by
  subst hok; exact hM.met h
theorem xQv_ret {S : Type} {post : S → Prop} {P1 : S → Heap → Prop} : ∀ a st o t, xQv post P1 A a st o t → ∃ v, o = .returned v := fun _ _ _ _ h => by
  obtain ⟨⟨u, h1, -⟩, -⟩ := h
  exact ⟨_, h1⟩
theorem xQi_ret {S : Type} {post : Int32 → S → Prop} {P1 : S → Heap → Prop} : ∀ a st o t, xQi post P1 A a st o t → ∃ v, o = .returned v := fun _ _ _ _ h => by
  obtain ⟨⟨r, u, h1, -⟩, -⟩ := h
  exact ⟨_, h1⟩
theorem W.monoT {g : JFrame} (hok : ok = true) (k : W p l e R s m args below meth c H locs cells slots (MQ below Qn args s mc ms free) g) : W p l e R s m args below meth c H locs cells slots (MQT below (xQT ok Qn Er A) args s mc ms free) g := fun T hT X => by
  obtain ⟨t, h1, o, h2, h3, h4, L, h5, h6⟩ := k T hT X
  exact ⟨t, h1, o, h2, h3, ⟨fun _ => h4, fun h => by rw [hok] at h; cases h⟩, L, h5.2, h6⟩
theorem MetT.ofW {ws' : List Cond} {cc : ByteArray} {maxL : Nat} {ret : Option FieldType}
    (hy : plainName y.cls = true) (hw : ws = Cond.code y cc maxL ret :: ws')
    (body : ∀ p e s m args below meth c s₁, BodyLoose p l y (headSpec ws rm) cc maxL ret e s m args below meth c s₁ → c.maxLocals = maxL → c.exceptionTable.isEmpty = true → Pc args s →
      W p l e (headSpec ws rm).room s m args below meth c s.heap [] 0 0 (MQT below Qc args s mc ms free) (entryFrame m args maxL)) : MetT l y ws rm Pc Qc mc ms free := by
  refine MetFree.of_bodyS (code := cc) (maxLocals := maxL) (ret := ret) hy ?_ ?_
  · intro args s m h hn
    obtain ⟨meth, c, h1, h2, h3, h4, h5, h6, -, -⟩ := Cond.code_spec hn (atoms_spec (ws := ws) h _ (by rw [hw]; exact List.mem_cons_self))
    exact ⟨meth, c, h1, h2, h3, h4, h5, h6⟩
  · intro p e s m args below meth c s₁ B hml hP _
    have hh0 : s₁.heap = s.heap := by rw [B.state]; rfl
    have hne := B.noHandlers (atoms_spec (ws := ws) B.pre _ (by rw [hw]; exact List.mem_cons_self))
    obtain ⟨t, a1, o, b1, b2, b3⟩ := body p e s m args below meth c s₁ B hml hne hP s₁ hh0 (Stand.of_body B)
    exact ⟨t, o, a1, b1, b2, b3.1, b3.2⟩
theorem x_inT {Z : State → Heap → Prop} {C : String} (hy : plainName y.cls = true) (hC : y.cls = C) (hsl : (lg_sl As).length ≤ maxL) {lv : List (Nat × Value)} (hlv : lv_args 0 As = lv)
    (body : ∀ p e s m below meth c, xC dC dI dA p s m c As.toArray bytes maxL C → rvN s → meth.name = y.name → meth.sig.returnType = ret → meth.locks = false → c.exceptionTable.isEmpty = true → P s.heap → Z s s.heap → ∀ ls, lv_has ls maxL lv → W p l e rm s m As.toArray below meth c s.heap [] 0 0 (MQT below Qc As.toArray s mc ms free) (F0 m 0 ls [])) :
    MetT l y (ws_ y bytes maxL ret) rm (xPz dC dI dA Z P As) Qc mc ms free := by
  refine MetT.ofW (cc := bytes) (maxL := maxL) (ret := ret) hy rfl ?_
  intro p e s m args below meth c s₁ B hml hne hv
  obtain ⟨rfl, ⟨hP, hZ⟩, hK, hN⟩ := hv
  have hts := atoms_spec (ws := ws_ y bytes maxL ret) B.pre
  have hts : ∀ w ∈ lw_all, w.before _ s = true := fun w h => hts w (List.mem_cons_of_mem _ h)
  have hown : s.vm.findClass y.cls = some m.cls := findClass_of_methodNamed B.named
  rw [hC] at hown
  have hl := lv_entry As (n := maxL) hsl
  rw [lg_entry_eq]
  generalize (lg_sl As ++ List.replicate (maxL - (lg_sl As).length) Slot.unset).toArray = ls at hl ⊢
  rw [hlv] at hl
  exact body p e s m below meth c ⟨B.exec, B.bytes, hml, hown, hts, hK⟩ hN (name_of_methodNamed B.named B.method).1 B.returns B.notSynchronized hne hP hZ ls hl
theorem xBackT (hM : MetT l y ws rm Pc (xQT false Qn Er A) mc ms free) (hblind : FrameBlind Pc) (hrc : rm.cells = mc) (hrs : rm.slots = ms) {W len : Nat}
    (hframes : rm.frames + 1 ≤ R.frames) (hlocals : W + (maxL + 11) + rm.locals ≤ R.locals)
    (hws : ∀ w ∈ ws, ∀ a' U, s.WarmedH U.vm → w.before a' U = true) (hcode : Cond.code y bytes maxL ret ∈ ws) (hinit : ∀ a' U, s.WarmedH U.vm → (Cond.initialized y.cls).before a' U = true) :
    xBT l R p e below s args y len W (PreOf R mc ms Pc) (PostX (fun _ => xEr Er A) mc ms free) := by
  intro m meth c At_ g ig mk a X hg hsize hdg hW hn hp
  obtain ⟨U, Ls, c0, s0⟩ := At_
  dsimp only [Pt.U, Pt.locs, Pt.cells, Pt.slots, PreOf] at hp X hn ⊢
  obtain ⟨h4, h5, hp⟩ := hp
  have h1 : (headSpec ws rm).pre.before a U = true := atoms_intro fun w hw => hws w hw _ _ X.warmed
  obtain ⟨methY, cY, hmY, hcY, -, hlY, -, -, -, -⟩ := Cond.code_spec hn (hws _ hcode a U X.warmed)
  obtain ⟨kY, hkY, -⟩ := className_of_methodNamed hn
  have hinitY : kY.init = .initialized := Cond.initialized_spec (findClass_of_methodNamed hn) hkY (hinit a U X.warmed)
  have h : At U g.method c below := by rw [hg]; exact X.here
  have happ : (headSpec ws rm).appliesLoose y e.platform (U.calling g mk a) = true :=
    Spec.appliesLoose_calling (g := g) h hdg hn hkY hinitY
      (X.room_calling (g := g) (R' := (headSpec ws rm).room) hsize hmY hcY hframes (by rw [hlY]; have : (headSpec ws rm).room.locals = rm.locals := rfl; omega) (by rw [show (headSpec ws rm).room.cells = mc from hrc]; exact h4) (by rw [show (headSpec ws rm).room.slots = ms from hrs]; exact h5)) h1
  obtain ⟨mid, hmid⟩ := h.above
  have hfr : (U.setTop g).frames = (.java g :: mid) ++ below := by rw [State.frames_setTop' g h.top, hmid]; rfl
  obtain ⟨o, s₂, hsteps, -, hend, hq, L, ⟨hW₂, e2, q2, q3, q4, q5, q6⟩, hL⟩ := Steps.callFree hM p X.admits X.cas X.clock (acts := []) hfr happ (hblind _ _ _ _ hp) trivial
  have hq' : xEr Er A (U.calling g mk a) o s₂ := hq.2 rfl
  obtain ⟨⟨v, hv, -⟩, -⟩ := id hq'
  subst hv
  rw [State.frames_setTop' g h.top] at hend
  have e3 : s₂ = ({ (U.calling g mk a).setFrames s₂.frames with heap := s₂.heap, slotsUsed := s₂.slotsUsed } : State).setVm s₂.vm := by
    have : s₂ = ({ s₂ with vm := (U.calling g mk a).vm } : State).setVm s₂.vm := rfl
    rw [show ({ s₂ with vm := (U.calling g mk a).vm } : State) = _ from e2] at this
    exact this
  have hf₂ : s₂.frames = .throwing v :: .java g :: U.frames.tail := hend
  have hW' : U.WarmedH s₂.vm := hW₂
  obtain ⟨g₀, hg0⟩ := Option.isSome_iff_exists.mp h.top
  obtain ⟨r, hr⟩ := State.topJava?_eq_some.mp hg0
  have hs₂ : s₂ = ((({ U with heap := s₂.heap, slotsUsed := s₂.slotsUsed } : State).setVm s₂.vm).setTop g).pushFrame (.throwing v) := by
    have hr' : (({ U with heap := s₂.heap, slotsUsed := s₂.slotsUsed } : State).setVm s₂.vm).frames = .java g₀ :: r := hr
    refine e3.trans ?_
    rw [hf₂, State.calling_eq h.top, State.setFrames_setFrames, State.pushFrame, State.frames_setTop _ hr', State.setTop_of_frames _ hr', State.setFrames_setFrames, hr]
    rfl
  have hsame : U.sameButNew ({ U with heap := s₂.heap, slotsUsed := s₂.slotsUsed } : State) L mc ms := by
    refine ⟨?_, q2, q3, q4, q5, q6⟩
    obtain ⟨t, ht, -⟩ := State.frames_cons hr
    show ({ U with heap := s₂.heap, slotsUsed := s₂.slotsUsed } : State) = { U.setFrames U.frames with heap := s₂.heap, slotsUsed := s₂.slotsUsed }
    rw [State.setFrames_self ht]
  subst hg
  refine ⟨v, ⟨(({ U with heap := s₂.heap, slotsUsed := s₂.slotsUsed } : State).setVm s₂.vm), Ls ++ L, c0 + mc, s0 + ms⟩,
    ⟨X.admits, X.cas, X.clock, X.frames, X.room, X.hears, X.method, X.code, (X.here.setHeapUsed s₂.heap s₂.slotsUsed).setVm hW'.alike, X.tail, State.WarmedH.trans X.warmed hW', X.limits, X.bytes, X.same.trans (hsame.setVm s.vm)⟩,
    ⟨g, mk, s₂, L, rfl, rfl, hq', rfl, hL, rfl, rfl⟩, ?_⟩
  show Steps p.tables e below _ (((({ U with heap := s₂.heap, slotsUsed := s₂.slotsUsed } : State).setVm s₂.vm).setTop g).pushFrame (.throwing v))
  rw [← hs₂]
  exact hsteps
theorem x_blindW {Z : State → Heap → Prop} (hz : zW Z) : FrameBlind (xPz dC dI dA Z P As) := fun a U g mk q => by
  obtain ⟨q0, ⟨qP, qZ⟩, qK, qN⟩ := q
  exact ⟨q0, ⟨qP, hz.2 U (U.calling g mk a) _ rfl qZ⟩, rvK.moved (u := U) (U := U.calling g mk a) (Vm.Alike.refl U.vm) qK, rvN.same (u := U) (U := U.calling g mk a) rfl qN⟩
theorem x_preVW {Z : State → Heap → Prop} (hz : zW Z) (X : xC dC dI dA p s m c args cc nL own) (hN : rvN s) (hP : P H) (hZ : Z s H) {C : String} (hr : xRecv s H C b) : PreV s H C b (xPz dC dI dA Z P (.ref b :: As)) As :=
  ⟨x_blindW hz, hr, fun U hU hW => ⟨rfl, ⟨by rw [hU]; exact hP, by rw [hU]; exact hz.1 s U H hW hZ⟩, rvK.moved hW.alike X.2.2.2.2.2, hN.warm hW⟩⟩
theorem x_preSW {Z : State → Heap → Prop} (hz : zW Z) (X : xC dC dI dA p s m c args cc nL own) (hN : rvN s) (hP : P H) (hZ : Z s H) : PreS s H (xPz dC dI dA Z P As) As :=
  ⟨x_blindW hz, fun U hU hW => ⟨rfl, ⟨by rw [hU]; exact hP, by rw [hU]; exact hz.1 s U H hW hZ⟩, rvK.moved hW.alike X.2.2.2.2.2, hN.warm hW⟩⟩
theorem x_runVW {Z : State → Heap → Prop} (hz : zW Z) (X : xC dC dI dA p s m c args cc nL own) (hN : rvN s) (hP : P H) (hZ : Z s H) (hM : Met l y (ws_ y bytes maxL ret) { frames := fr, cells := mc, slots := ms, locals := lo } (xPz dC dI dA Z P (.ref b :: As)) Qc mc ms free) (K : xKV own y bytes maxL ret idx k) (hr : xRecv s H y.cls b) (hn : As.length = k) (hst : st0 = As.reverse ++ .ref b :: rest) (hR : fr + 1 ≤ R.frames ∧ 8 + (maxL + 11) + lo ≤ R.locals) (hsz : ls.size = nL) (hw : (rest.map fun v => v.category).sum ≤ 8) (hdg : decode cc pc = .ok (.invokevirtual idx, 3)) (hf : cells + mc ≤ R.cells ∧ slots + ms ≤ R.slots) :
    va_Run p l e R s m args below meth c H locs cells slots mc ms (F0 m pc ls st0) rest (Qc (Value.ref b :: As).toArray) free :=
  va_runV (As := As) (rest := rest) (nL := nL) (cc := cc) (x_fix X) hM (cwV k X.2.2.2.2.1 (lw_V K.1 K.2.1 K.2.2.1 K.2.2.2.1 K.2.2.2.2.1) rfl rfl rfl ⟨rfl, K.2.2.2.2.2⟩ hR) (x_preVW hz X hN hP hZ hr) rfl hn hsz hst (lv_room hw) hdg hf
theorem x_runSW {Z : State → Heap → Prop} (hz : zW Z) (X : xC dC dI dA p s m c args cc nL own) (hN : rvN s) (hP : P H) (hZ : Z s H) (hM : Met l y (ws_ y bytes maxL ret) { frames := fr, cells := mc, slots := ms, locals := lo } (xPz dC dI dA Z P As) Qc mc ms free) (K : xKS own y bytes maxL ret idx k) (hn : As.length = k) (hst : st0 = As.reverse ++ rest) (hR : fr + 1 ≤ R.frames ∧ 8 + (maxL + 11) + lo ≤ R.locals) (hsz : ls.size = nL) (hw : (rest.map fun v => v.category).sum ≤ 8) (hdg : decode cc pc = .ok (.invokestatic idx, 3)) (hf : cells + mc ≤ R.cells ∧ slots + ms ≤ R.slots) :
    va_Run p l e R s m args below meth c H locs cells slots mc ms (F0 m pc ls st0) rest (Qc As.toArray) free :=
  va_runS (As := As) (rest := rest) (nL := nL) (cc := cc) (x_fix X) hM (va_cwS k X.2.2.2.2.1 (lw_S K.1 K.2.1 K.2.2.1 K.2.2.2.1) rfl rfl rfl K.2.2.2.2 hR) (x_preSW hz X hN hP hZ) rfl hn hsz hst (lv_room hw) hdg hf
theorem x_runIW {Z : State → Heap → Prop} (hz : zW Z) (X : xC dC dI dA p s m c args cc nL own) (hN : rvN s) (hP : P H) (hZ : Z s H) (hM : Met l y (ws_ y bytes maxL none) { frames := fr, cells := mc, slots := ms, locals := lo } (xPz dC dI dA Z P (.ref b :: As)) Qc mc ms free) (K : xKI own y bytes maxL idx k) (hn : As.length = k) (hst : st0 = As.reverse ++ .ref b :: rest) (hR : fr + 1 ≤ R.frames ∧ 8 + (maxL + 11) + lo ≤ R.locals) (hsz : ls.size = nL) (hw : (rest.map fun v => v.category).sum ≤ 8) (hdg : decode cc pc = .ok (.invokespecial idx, 3)) (hf : cells + mc ≤ R.cells ∧ slots + ms ≤ R.slots) :
    va_Run p l e R s m args below meth c H locs cells slots mc ms (F0 m pc ls st0) rest (Qc (Value.ref b :: As).toArray) free :=
  va_runI (As := As) (rest := rest) (nL := nL) (cc := cc) (x_fix X) hM ⟨⟨rfl, rfl, hR.1, hR.2, pay_in X.2.2.2.2.1 (lw_meth K.2.2.2.1), List.mem_cons_self, X.2.2.2.2.1 _ K.2.2.2.1, X.2.2.2.2.1 _ K.2.2.1, ⟨K.2.2.2.2.2.1, K.2.2.2.2.2.2.1⟩, fun sig h => by
    have h2 := K.2.2.2.2.2.2.2
    rw [h] at h2
    exact (Option.some.inj h2).symm, X.2.2.2.2.1 _ K.1⟩, K.2.2.2.2.1, X.2.2.2.2.1 _ K.2.1⟩ (x_preSW hz X hN hP hZ) rfl hn hsz hst (lv_room hw) hdg hf
theorem x_runVT {Z : State → Heap → Prop} (hz : zW Z) (X : xC dC dI dA p s m c args cc nL own) (hN : rvN s) (hP : P H) (hZ : Z s H) (hM : MetT l y (ws_ y bytes maxL ret) { frames := fr, cells := mc, slots := ms, locals := lo } (xPz dC dI dA Z P (.ref b :: As)) (xQT ok Qn Er A) mc ms free) (hok : ok = false) (K : xKV own y bytes maxL ret idx k) (hr : xRecv s H y.cls b) (hn : As.length = k) (hst : st0 = As.reverse ++ .ref b :: rest) (hR : fr + 1 ≤ R.frames ∧ 8 + (maxL + 11) + lo ≤ R.locals) (hsz : ls.size = nL) (hw : (rest.map fun v => v.category).sum ≤ 8) (hdg : decode cc pc = .ok (.invokevirtual idx, 3)) (hf : cells + mc ≤ R.cells ∧ slots + ms ≤ R.slots) :
    xRunT p l e R s m args below meth c H locs cells slots mc ms (F0 m pc ls st0) rest (xEr Er A) free := by
  subst hok
  have hts := X.2.2.2.2.1
  obtain ⟨k1, k2, k3, k4, k5, kok⟩ := K
  have hK : xBT l R p e below s args y 3 8 (PreOf R mc ms (xPz dC dI dA Z P (.ref b :: As))) (PostX (fun _ => xEr Er A) mc ms free) := xBackT (bytes := bytes) (maxL := maxL) (ret := ret) hM (x_blindW hz) rfl rfl hR.1 hR.2 (pay_in hts (lw_meth k5)) List.mem_cons_self (fun a' U hW => word_at hW (Or.inl (by first | rfl | simp [Cond.onTables, Cond.keeps, Cond.steady])) (hts _ k4))
  obtain ⟨cellB, hcB, hoB, hclB⟩ := hr
  obtain ⟨mk, methM, hnamed, hmethM, hstM, habM⟩ := Cond.instanceMethod_spec (hts _ k2)
  obtain ⟨methM', cM, hmethM', -, -, -, -, -, -, hsigM⟩ := Cond.code_spec hnamed (hts _ k5)
  cases hmethM.symm.trans hmethM'
  obtain ⟨c2, r2, m2, q1, q2, q3, q4, kP, hkP, hkPi⟩ := Cond.selects_spec (hts _ k3)
  cases hclB.symm.trans q1
  cases (State.methodFound?_of_named hnamed ⟨kok.1, kok.2.1⟩).symm.trans q2
  cases hnamed.symm.trans q3
  have hlen : ∀ sig, parseMethodDescriptor y.desc = some sig → As.length = sig.parameters.length := fun sig h => by
    have h2 := kok.2.2
    rw [h] at h2
    rw [hn]
    exact (Option.some.inj h2).symm
  intro T hT Y
  have hselP : selectMethod e.platform s.vm cellB.cls mk = .method mk := by rw [Launch.admits_selectMethod Y.admits]; exact q4
  obtain ⟨vm₁, X₁, hstep₁⟩ := Y.invokevirtual X.1 X.2.2.2.1 (hts _ k1) hnamed hmethM hstM hkP hkPi ⟨kok.1, kok.2.1⟩ (a := b) (cell := cellB) (by rw [hT]; exact hcB)
    (fun z h => by rw [h] at hoB; cases hoB) hselP hmethM habM hkP hkPi (g := F0 m pc ls st0) rfl (argsL := As) (rest := rest) (hlen _ hsigM) hst (by rw [X.2.1]; exact hdg)
  obtain ⟨v, ⟨U', l2, c2, s2⟩, X', ⟨g', mk', t, L, e1, e2, hq, h1, hL, h2, h3⟩, hsteps⟩ := hK m meth c ⟨T.setVm vm₁, locs, cells, slots⟩ { F0 m pc ls st0 with stack := rest } (.invokevirtual idx) mk (Value.ref b :: As).toArray X₁ rfl (hsz.trans X.2.2.1.symm) (by rw [X.2.1]; exact hdg) (lv_room hw) (X₁.named hnamed) ⟨hf.1, hf.2, ⟨rfl, ⟨by rw [show (T.setVm vm₁).heap = H from hT]; exact hP, by rw [show (T.setVm vm₁).heap = H from hT]; exact hz.1 s _ _ X₁.warmed hZ⟩, rvK.moved X₁.warmed.alike X.2.2.2.2.2, hN.warm X₁.warmed⟩⟩
  dsimp only [Pt.U, Pt.locs, Pt.cells, Pt.slots] at X' e1 e2 h1 h2 h3 hsteps
  subst h1; subst h2; subst h3
  exact ⟨v, (T.setVm vm₁).calling g' mk' (Value.ref b :: As).toArray, t, U', L, hT, X', hL, e1, e2, hq, fun target h => hstep₁ _ fun acts => by rw [doInvoke_state]; exact hsteps.trans h⟩
/-- the throw goes on, out of the method -/
theorem x_prop {mc2 ms2 : Nat} (hr : xRunT p l e R s m args below meth c H locs cells slots mc ms (F0 m pc ls st0) rest (xEr Er A1) free) (hne : c.exceptionTable.isEmpty = true) (hlk : meth.locks = false) (hS : va_S A s.heap H locs) (hA : ∀ q, A1 q → A q) (hf : ∀ q, free q → A q) (hok : ok = false)
    (hE : ∀ x H1, Er x H1 → H.size ≤ H1.size → (∀ q : Nat, q < H.size → ¬ A1 q → H1[q]? = H[q]?) → Er2 x H1) (hmc : cells + mc ≤ mc2) (hms : slots + ms ≤ ms2) : W p l e R s m args below meth c H locs cells slots (MQT below (xQT ok Qn Er2 A) args s mc2 ms2 A) (F0 m pc ls st0) := by
  intro T hT X
  obtain ⟨x, st₀, t, T', L, h0, X', hL, e1, e2, ⟨⟨x', hx, hEr⟩, hz, hk⟩, st⟩ := hr T hT X
  cases hx
  rw [h0] at hz hk
  obtain ⟨q1, q2, q3, q4, q5⟩ := X'.leaveThrown x (g := { F0 m pc ls st0 with stack := rest }) rfl rfl rfl (fun z hz' => by rw [Array.isEmpty_iff.mp hne] at hz'; cases hz') hlk
  have g1 : Er2 x (T'.setFrames (.throwing x :: below)).heap := by
    show Er2 x T'.heap
    rw [e1]; exact hE x _ hEr hz hk
  have g2 : va_F A s (T'.setFrames (.throwing x :: below)) := by
    refine ⟨?_, fun q h1 h2 => ?_⟩
    · show s.heap.size ≤ T'.heap.size
      rw [e1]; exact Nat.le_trans hS.1 hz
    · show T'.heap[q]? = s.heap[q]?
      rw [e1, hk q (Nat.lt_of_lt_of_le h1 hS.1) (fun z => h2 (hA q z))]; exact hS.2.1 q h1 h2
  have g3 : ∀ q ∈ locs ++ L, A q.base := fun q hq => by
    rcases List.mem_append.mp hq with h | h
    · exact hS.2.2 q h
    · exact hf _ (hL q h)
  exact ⟨_, st _ q1, .threw x, q2, q3, ⟨fun h => (by rw [hok] at h; cases h), fun _ => ⟨⟨x, rfl, g1⟩, g2⟩⟩, locs ++ L, ⟨q4, q5.weaken (fun _ h _ => h) hmc hms⟩, g3⟩
theorem x_athrow {mc2 ms2 x : Nat} (X : xC dC dI dA p s m c args cc nL own) (hne : c.exceptionTable.isEmpty = true) (hlk : meth.locks = false) (hS : va_S A s.heap H locs) (hok : ok = false) (hE : Er2 x H) (hmc : cells ≤ mc2) (hms : slots ≤ ms2) (hdg : decode cc pc = .ok (.athrow, 1)) : W p l e R s m args below meth c H locs cells slots (MQT below (xQT ok Qn Er2 A) args s mc2 ms2 A) (F0 m pc ls (.ref x :: rest)) := by
  intro T hT Y
  obtain ⟨q1, q2, q3, q4, q5⟩ := Y.athrowLeaves X.1 (g := F0 m pc ls (.ref x :: rest)) rfl rfl rfl (fun z hz' => by rw [Array.isEmpty_iff.mp hne] at hz'; cases hz') (a := x) (rest := rest) rfl (by rw [X.2.1]; exact hdg) hlk
  have g1 : Er2 x (T.setFrames (.throwing x :: below)).heap := by
    show Er2 x T.heap
    rw [hT]; exact hE
  have g2 : va_F A s (T.setFrames (.throwing x :: below)) := by
    refine ⟨?_, fun q h1 h2 => ?_⟩
    · show s.heap.size ≤ T.heap.size
      rw [hT]; exact hS.1
    · show T.heap[q]? = s.heap[q]?
      rw [hT]; exact hS.2.1 q h1 h2
  exact ⟨_, q1, .threw x, q2, q3, ⟨fun h => (by rw [hok] at h; cases h), fun _ => ⟨⟨x, rfl, g1⟩, g2⟩⟩, locs, ⟨q4, q5.weaken (fun _ h _ => h) hmc hms⟩, hS.2.2⟩
end XT
