/-! the component's methods: how a contract begins, calls and ends -/
set_option maxRecDepth 100000
/-- words that don't ride in the lists: nest mates, casts, arrays over a class, declared -/
def isNest : Cond → Bool
  | .fieldLinkNest _ _ _ _ _ _ => true
  | .methodLinkNest _ _ _ _ => true
  | .castable _ _ => true
  | .declares _ => true
  | .arrayOver (.object _) => true
  | _ => false
def rvN (U : State) : Prop := ∀ w ∈ lw_tbl, isNest w = true → va_Nw w U
theorem rvN.same {u U : State} (h : u.vm = U.vm) (hN : rvN u) : rvN U := by
  intro w hw hi
  have g := hN w hw hi
  cases w <;> first | exact absurd (show false = true from hi) Bool.false_ne_true | (unfold va_Nw at g ⊢; exact va_tabs rfl h g) | skip
  rename_i t
  cases t <;> first | exact absurd (show false = true from hi) Bool.false_ne_true | exact va_AO.moved (h ▸ Vm.Alike.refl _) g
theorem rvN.warm {s U : State} (hW : s.WarmedH U.vm) (hN : rvN s) : rvN U := by
  intro w hw hi
  have g := hN w hw hi
  cases w <;> first | exact absurd (show false = true from hi) Bool.false_ne_true | exact va_Nw.warmF hW g | exact va_Nw.warmM hW g | exact va_Nw.warmC hW g | exact va_Nw.warmD hW g | skip
  rename_i t
  cases t <;> first | exact absurd (show false = true from hi) Bool.false_ne_true | exact va_AO.moved hW.alike g
/-- a method's start: what holds of the heap, and the tables -/
def xPc (dC : Nat → ClassId) (dI : Nat → Nat → Nat) (dA : Nat → ClassId) (P : Heap → Prop) (As : List Value) : Array Value → State → Prop := va_Pc As (fun U => P U.heap ∧ rvK dC dI dA U ∧ rvN U)
theorem x_blind {dC : Nat → ClassId} {dI : Nat → Nat → Nat} {dA : Nat → ClassId} {P : Heap → Prop} {As : List Value} : FrameBlind (xPc dC dI dA P As) := fun a U g mk q => by
  obtain ⟨q0, qP, qK, qN⟩ := q
  exact ⟨q0, qP, rvK.moved (u := U) (U := U.calling g mk a) (Vm.Alike.refl U.vm) qK, rvN.same (u := U) (U := U.calling g mk a) rfl qN⟩
def xRecv (s : State) (H : Heap) (C : String) (b : Nat) : Prop := ∃ cell : Cell, H[b]? = some cell ∧ cell.vm.isStatics = false ∧ s.vm.findClass C = some cell.cls
theorem x_recv {dC : Nat → ClassId} {dI : Nat → Nat → Nat} {dA : Nat → ClassId} {s : State} {b N j ci : Nat} {E : Nat → va_E} {H : Heap} {fs : List Value} {q : vw_C} (hK : rvK dC dI dA s) (hP : bkP dC dI b N E H) (hj : j < N) (he : E j = .inr (ci, fs)) (hc : rvCl[ci]? = some q) : xRecv s H q.1 (b + j) :=
  va_recv (q0 := j) hK hP.P hc (by rw [bk_at b N E hj, he])
abbrev xOk (y : MethodName) (k : Nat) : Prop := y.cls ≠ "java/lang/invoke/MethodHandle" ∧ y.cls ≠ "java/lang/invoke/VarHandle" ∧ (parseMethodDescriptor y.desc).map (fun d => d.parameters.length) = some k
/-- what calls ask of the tables: an own method, a static one, a constructor; of a nest mate -/
def xKV (own : String) (y : MethodName) (bytes : ByteArray) (maxL : Nat) (ret : Option FieldType) (idx k : Nat) : Prop :=
  Cond.methodLink own idx y ∈ lw_all ∧ Cond.instanceMethod y ∈ lw_all ∧ Cond.selects y.cls y y ∈ lw_all ∧ Cond.initialized y.cls ∈ lw_all ∧ Cond.code y bytes maxL ret ∈ lw_all ∧ xOk y k
def xKS (own : String) (y : MethodName) (bytes : ByteArray) (maxL : Nat) (ret : Option FieldType) (idx k : Nat) : Prop :=
  Cond.methodLink own idx y ∈ lw_all ∧ Cond.static y ∈ lw_all ∧ Cond.initialized y.cls ∈ lw_all ∧ Cond.code y bytes maxL ret ∈ lw_all ∧ xOk y k
def xKSN (own host : String) (y : MethodName) (bytes : ByteArray) (maxL : Nat) (ret : Option FieldType) (idx k : Nat) : Prop :=
  Cond.methodLinkNest own idx y host ∈ lw_tbl ∧ Cond.static y ∈ lw_all ∧ Cond.initialized y.cls ∈ lw_all ∧ Cond.code y bytes maxL ret ∈ lw_all ∧ xOk y k
def xKI (own : String) (y : MethodName) (bytes : ByteArray) (maxL : Nat) (idx k : Nat) : Prop :=
  Cond.methodLink own idx y ∈ lw_all ∧ Cond.instanceMethod y ∈ lw_all ∧ Cond.initialized y.cls ∈ lw_all ∧ Cond.code y bytes maxL none ∈ lw_all ∧ y.name = "<init>" ∧ xOk y k
def xKIN (own host : String) (y : MethodName) (bytes : ByteArray) (maxL : Nat) (idx k : Nat) : Prop :=
  Cond.methodLinkNest own idx y host ∈ lw_tbl ∧ Cond.instanceMethod y ∈ lw_all ∧ Cond.initialized y.cls ∈ lw_all ∧ Cond.code y bytes maxL none ∈ lw_all ∧ y.name = "<init>" ∧ xOk y k
section XC
variable {p : Program} {l : Launch} {e : Env} {R : Room} {s : State} {m : MethodId} {args : Array Value} {below : List Frame} {meth : Method} {c : Code} {H : Heap} {locs : List Loc} {cells slots mc ms : Nat} {Q : State → Prop}
variable {cc : ByteArray} {pc nL : Nat} {ls : Array Slot} {rest st0 : List Value} {dC : Nat → ClassId} {dI : Nat → Nat → Nat} {dA : Nat → ClassId} {b : Nat} {H0 : Heap} {own host : String} {P : Heap → Prop}
variable {y : MethodName} {bytes : ByteArray} {maxL idx k fr lo : Nat} {ret : Option FieldType} {As : List Value} {free : Addr → Prop} {Qc : Array Value → State → Outcome → State → Prop}
theorem W.pad {cells2 slots2 : Nat} {g : JFrame} (h1 : cells ≤ cells2) (h2 : slots ≤ slots2) (kk : W p l e R s m args below meth c H locs cells2 slots2 Q g) : W p l e R s m args below meth c H locs cells slots Q g :=
  fun T hT X => kk T hT { X with same := X.same.weaken (fun _ h _ => h) h1 h2 }
theorem x_preV (X : xC dC dI dA p s m c args cc nL own) (hN : rvN s) (hP : P H) {C : String} (hr : xRecv s H C b) : PreV s H C b (xPc dC dI dA P (.ref b :: As)) As :=
  ⟨x_blind, hr, fun U hU hW => ⟨rfl, by rw [hU]; exact hP, rvK.moved hW.alike X.2.2.2.2.2, hN.warm hW⟩⟩
theorem x_preS (X : xC dC dI dA p s m c args cc nL own) (hN : rvN s) (hP : P H) : PreS s H (xPc dC dI dA P As) As :=
  ⟨x_blind, fun U hU hW => ⟨rfl, by rw [hU]; exact hP, rvK.moved hW.alike X.2.2.2.2.2, hN.warm hW⟩⟩
theorem x_fix (X : xC dC dI dA p s m c args cc nL own) : CallFix p m c cc nL s args lw_all own := ⟨X.1, X.2.1, X.2.2.1, X.2.2.2.1, X.2.2.2.2.1⟩
theorem x_runV (X : xC dC dI dA p s m c args cc nL own) (hN : rvN s) (hP : P H) (hM : Met l y (ws_ y bytes maxL ret) { frames := fr, cells := mc, slots := ms, locals := lo } (xPc dC dI dA P (.ref b :: As)) Qc mc ms free) (K : xKV own y bytes maxL ret idx k) (hr : xRecv s H y.cls b) (hn : As.length = k) (hst : st0 = As.reverse ++ .ref b :: rest) (hR : fr + 1 ≤ R.frames ∧ 8 + (maxL + 11) + lo ≤ R.locals) (hsz : ls.size = nL) (hw : (rest.map fun v => v.category).sum ≤ 8) (hdg : decode cc pc = .ok (.invokevirtual idx, 3)) (hf : cells + mc ≤ R.cells ∧ slots + ms ≤ R.slots) :
    va_Run p l e R s m args below meth c H locs cells slots mc ms (F0 m pc ls st0) rest (Qc (Value.ref b :: As).toArray) free :=
  va_runV (As := As) (rest := rest) (nL := nL) (cc := cc) (x_fix X) hM (cwV k X.2.2.2.2.1 (lw_V K.1 K.2.1 K.2.2.1 K.2.2.2.1 K.2.2.2.2.1) rfl rfl rfl ⟨rfl, K.2.2.2.2.2⟩ hR) (x_preV X hN hP hr) rfl hn hsz hst (lv_room hw) hdg hf
theorem x_runS (X : xC dC dI dA p s m c args cc nL own) (hN : rvN s) (hP : P H) (hM : Met l y (ws_ y bytes maxL ret) { frames := fr, cells := mc, slots := ms, locals := lo } (xPc dC dI dA P As) Qc mc ms free) (K : xKS own y bytes maxL ret idx k) (hn : As.length = k) (hst : st0 = As.reverse ++ rest) (hR : fr + 1 ≤ R.frames ∧ 8 + (maxL + 11) + lo ≤ R.locals) (hsz : ls.size = nL) (hw : (rest.map fun v => v.category).sum ≤ 8) (hdg : decode cc pc = .ok (.invokestatic idx, 3)) (hf : cells + mc ≤ R.cells ∧ slots + ms ≤ R.slots) :
    va_Run p l e R s m args below meth c H locs cells slots mc ms (F0 m pc ls st0) rest (Qc As.toArray) free :=
  va_runS (As := As) (rest := rest) (nL := nL) (cc := cc) (x_fix X) hM (va_cwS k X.2.2.2.2.1 (lw_S K.1 K.2.1 K.2.2.1 K.2.2.2.1) rfl rfl rfl K.2.2.2.2 hR) (x_preS X hN hP) rfl hn hsz hst (lv_room hw) hdg hf
/-- a static method that asks nothing of the heap -/
theorem x_runSp (X : xC dC dI dA p s m c args cc nL own) (hM : Met l y (ws_ y bytes maxL ret) { frames := fr, cells := 0, slots := 0, locals := lo } (fun v _ => v = As.toArray) Qc 0 0 free) (K : xKS own y bytes maxL ret idx k) (hn : As.length = k) (hst : st0 = As.reverse ++ rest) (hR : fr + 1 ≤ R.frames ∧ 8 + (maxL + 11) + lo ≤ R.locals) (hsz : ls.size = nL) (hw : (rest.map fun v => v.category).sum ≤ 8) (hdg : decode cc pc = .ok (.invokestatic idx, 3)) (hf : cells + 0 ≤ R.cells ∧ slots + 0 ≤ R.slots) :
    va_Run p l e R s m args below meth c H locs cells slots 0 0 (F0 m pc ls st0) rest (Qc As.toArray) free :=
  va_runS (As := As) (rest := rest) (nL := nL) (cc := cc) (x_fix X) hM (va_cwS k X.2.2.2.2.1 (lw_S K.1 K.2.1 K.2.2.1 K.2.2.2.1) rfl rfl rfl K.2.2.2.2 hR) preEq rfl hn hsz hst (lv_room hw) hdg hf
theorem x_nest (hN : rvN s) {w : Cond} (h : w ∈ lw_tbl) (hi : isNest w = true) : va_Nw w s := hN w h hi
theorem x_cn (X : xC dC dI dA p s m c args cc nL own) (hN : rvN s) (h1 : Cond.methodLinkNest own idx y host ∈ lw_tbl) (h2 : Cond.initialized y.cls ∈ lw_all) (h3 : Cond.code y bytes maxL ret ∈ lw_all) (h4 : xOk y k) (hR : fr + 1 ≤ R.frames ∧ 8 + (maxL + 11) + lo ≤ R.locals) : va_CN R s args own idx y host bytes maxL ret (ws_ y bytes maxL ret) { frames := fr, cells := mc, slots := ms, locals := lo } mc ms k :=
  va_cnB k X.2.2.2.2.1 (lw_meth h3) rfl rfl rfl (x_nest hN h1 rfl) (X.2.2.2.2.1 _ h2) h4 hR
theorem x_runSN (X : xC dC dI dA p s m c args cc nL own) (hN : rvN s) (hP : P H) (hM : Met l y (ws_ y bytes maxL ret) { frames := fr, cells := mc, slots := ms, locals := lo } (xPc dC dI dA P As) Qc mc ms free) (K : xKSN own host y bytes maxL ret idx k) (hn : As.length = k) (hst : st0 = As.reverse ++ rest) (hR : fr + 1 ≤ R.frames ∧ 8 + (maxL + 11) + lo ≤ R.locals) (hsz : ls.size = nL) (hw : (rest.map fun v => v.category).sum ≤ 8) (hdg : decode cc pc = .ok (.invokestatic idx, 3)) (hf : cells + mc ≤ R.cells ∧ slots + ms ≤ R.slots) :
    va_Run p l e R s m args below meth c H locs cells slots mc ms (F0 m pc ls st0) rest (Qc As.toArray) free :=
  va_runSN (As := As) (rest := rest) (nL := nL) (cc := cc) (x_fix X) hM ⟨x_cn X hN K.1 K.2.2.1 K.2.2.2.1 K.2.2.2.2 hR, X.2.2.2.2.1 _ K.2.1, trivial⟩ (x_preS X hN hP) rfl hn hsz hst (lv_room hw) hdg hf
theorem x_runSpN (X : xC dC dI dA p s m c args cc nL own) (hN : rvN s) (hM : Met l y (ws_ y bytes maxL ret) { frames := fr, cells := 0, slots := 0, locals := lo } (fun v _ => v = As.toArray) Qc 0 0 free) (K : xKSN own host y bytes maxL ret idx k) (hn : As.length = k) (hst : st0 = As.reverse ++ rest) (hR : fr + 1 ≤ R.frames ∧ 8 + (maxL + 11) + lo ≤ R.locals) (hsz : ls.size = nL) (hw : (rest.map fun v => v.category).sum ≤ 8) (hdg : decode cc pc = .ok (.invokestatic idx, 3)) (hf : cells + 0 ≤ R.cells ∧ slots + 0 ≤ R.slots) :
    va_Run p l e R s m args below meth c H locs cells slots 0 0 (F0 m pc ls st0) rest (Qc As.toArray) free :=
  va_runSN (As := As) (rest := rest) (nL := nL) (cc := cc) (x_fix X) hM ⟨x_cn X hN K.1 K.2.2.1 K.2.2.2.1 K.2.2.2.2 hR, X.2.2.2.2.1 _ K.2.1, trivial⟩ preEq rfl hn hsz hst (lv_room hw) hdg hf
theorem x_runIN (X : xC dC dI dA p s m c args cc nL own) (hN : rvN s) (hP : P H) (hM : Met l y (ws_ y bytes maxL none) { frames := fr, cells := mc, slots := ms, locals := lo } (xPc dC dI dA P (.ref b :: As)) Qc mc ms free) (K : xKIN own host y bytes maxL idx k) (hn : As.length = k) (hst : st0 = As.reverse ++ .ref b :: rest) (hR : fr + 1 ≤ R.frames ∧ 8 + (maxL + 11) + lo ≤ R.locals) (hsz : ls.size = nL) (hw : (rest.map fun v => v.category).sum ≤ 8) (hdg : decode cc pc = .ok (.invokespecial idx, 3)) (hf : cells + mc ≤ R.cells ∧ slots + ms ≤ R.slots) :
    va_Run p l e R s m args below meth c H locs cells slots mc ms (F0 m pc ls st0) rest (Qc (Value.ref b :: As).toArray) free :=
  va_runIN (As := As) (rest := rest) (nL := nL) (cc := cc) (x_fix X) hM ⟨x_cn X hN K.1 K.2.2.1 K.2.2.2.1 K.2.2.2.2.2 hR, K.2.2.2.2.1, X.2.2.2.2.1 _ K.2.1⟩ (x_preS X hN hP) rfl hn hsz hst (lv_room hw) hdg hf
theorem x_runI (X : xC dC dI dA p s m c args cc nL own) (hN : rvN s) (hP : P H) (hM : Met l y (ws_ y bytes maxL none) { frames := fr, cells := mc, slots := ms, locals := lo } (xPc dC dI dA P (.ref b :: As)) Qc mc ms free) (K : xKI own y bytes maxL idx k) (hn : As.length = k) (hst : st0 = As.reverse ++ .ref b :: rest) (hR : fr + 1 ≤ R.frames ∧ 8 + (maxL + 11) + lo ≤ R.locals) (hsz : ls.size = nL) (hw : (rest.map fun v => v.category).sum ≤ 8) (hdg : decode cc pc = .ok (.invokespecial idx, 3)) (hf : cells + mc ≤ R.cells ∧ slots + ms ≤ R.slots) :
    va_Run p l e R s m args below meth c H locs cells slots mc ms (F0 m pc ls st0) rest (Qc (Value.ref b :: As).toArray) free :=
  va_runI (As := As) (rest := rest) (nL := nL) (cc := cc) (x_fix X) hM ⟨⟨rfl, rfl, hR.1, hR.2, pay_in X.2.2.2.2.1 (lw_meth K.2.2.2.1), List.mem_cons_self, X.2.2.2.2.1 _ K.2.2.2.1, X.2.2.2.2.1 _ K.2.2.1, ⟨K.2.2.2.2.2.1, K.2.2.2.2.2.2.1⟩, fun sig h => by
    have h2 := K.2.2.2.2.2.2.2
    rw [h] at h2
    exact (Option.some.inj h2).symm, X.2.2.2.2.1 _ K.1⟩, K.2.2.2.2.1, X.2.2.2.2.1 _ K.2.1⟩ (x_preS X hN hP) rfl hn hsz hst (lv_room hw) hdg hf
/-- a contract from the walk of its body -/
theorem x_in {C : String} (hy : plainName y.cls = true) (hC : y.cls = C) (hsl : (lg_sl As).length ≤ maxL) {rm : Room} {lv : List (Nat × Value)} (hlv : lv_args 0 As = lv)
    (body : ∀ p e s m below meth c, xC dC dI dA p s m c As.toArray bytes maxL C → rvN s → meth.name = y.name → meth.sig.returnType = ret → meth.locks = false → P s.heap → ∀ ls, lv_has ls maxL lv → W p l e rm s m As.toArray below meth c s.heap [] 0 0 (MQ below Qc As.toArray s mc ms free) (F0 m 0 ls [])) :
    Met l y (ws_ y bytes maxL ret) rm (xPc dC dI dA P As) Qc mc ms free := by
  refine Met.ofW (cc := bytes) (maxL := maxL) (ret := ret) hy rfl ?_
  intro p e s m args below meth c s₁ B hml hv
  obtain ⟨rfl, hP, hK, hN⟩ := hv
  have hts := atoms_spec (ws := ws_ y bytes maxL ret) B.pre
  have hts : ∀ w ∈ lw_all, w.before _ s = true := fun w h => hts w (List.mem_cons_of_mem _ h)
  have hown : s.vm.findClass y.cls = some m.cls := findClass_of_methodNamed B.named
  rw [hC] at hown
  have hl := lv_entry As (n := maxL) hsl
  rw [lg_entry_eq]
  generalize (lg_sl As ++ List.replicate (maxL - (lg_sl As).length) Slot.unset).toArray = ls at hl ⊢
  rw [hlv] at hl
  exact body p e s m below meth c ⟨B.exec, B.bytes, hml, hown, hts, hK⟩ hN (name_of_methodNamed B.named B.method).1 B.returns B.notSynchronized hP ls hl
end XC
