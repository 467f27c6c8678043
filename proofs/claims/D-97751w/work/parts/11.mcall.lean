/-! The Model's methods: how a contract begins, calls and ends -/
set_option maxRecDepth 100000
/-- a Model's method's start: the receiver and As -/
def mdPc (dC : Nat → ClassId) (dI : Nat → Nat → Nat) (dA : Nat → ClassId) (n : Nat) (σ : mdT) (ab be : Int64) (As : List Value) : Array Value → State → Prop := va_Pc As (fun U => mdP dC dI dA n σ ab be U.heap ∧ rvK dC dI dA U)
/-- the end of one that changes the Model's numbers -/
def mdB (dC : Nat → ClassId) (dI : Nat → Nat → Nat) (dA : Nat → ClassId) (n : Nat) (ab be : Int64) (u : mdT) (t : State) : Prop := mdP dC dI dA n u ab be t.heap ∧ rvK dC dI dA t
def mdBL (dC : Nat → ClassId) (dI : Nat → Nat → Nat) (dA : Nat → ClassId) (n : Nat) (u : mdT × Int64 × Int64) (t : State) : Prop := mdP dC dI dA n u.1 u.2.1 u.2.2 t.heap ∧ rvK dC dI dA t
/-- what a call of an own method asks of the tables -/
def mdCard (y : MethodName) (bytes : ByteArray) (maxL : Nat) (ret : Option FieldType) (idx k : Nat) : Prop :=
  Cond.methodLink RX5 idx y ∈ lw_all ∧ Cond.instanceMethod y ∈ lw_all ∧ Cond.selects RX5 y y ∈ lw_all ∧ Cond.code y bytes maxL ret ∈ lw_all ∧ (y.cls = RX5 ∧ y.cls ≠ "java/lang/invoke/MethodHandle" ∧ y.cls ≠ "java/lang/invoke/VarHandle" ∧ (parseMethodDescriptor y.desc).map (fun d => d.parameters.length) = some k)
def mdCardS (y : MethodName) (bytes : ByteArray) (maxL : Nat) (ret : Option FieldType) (idx k : Nat) : Prop :=
  Cond.methodLink RX5 idx y ∈ lw_all ∧ Cond.static y ∈ lw_all ∧ Cond.code y bytes maxL ret ∈ lw_all ∧ (y.cls = RX5 ∧ y.cls ≠ "java/lang/invoke/MethodHandle" ∧ y.cls ≠ "java/lang/invoke/VarHandle" ∧ (parseMethodDescriptor y.desc).map (fun d => d.parameters.length) = some k)
theorem md_blind {dC : Nat → ClassId} {dI : Nat → Nat → Nat} {dA : Nat → ClassId} {n : Nat} {σ : mdT} {ab be : Int64} {As : List Value} : FrameBlind (mdPc dC dI dA n σ ab be As) := fun a U g mk q => by
  obtain ⟨q0, qP, qK⟩ := q
  exact ⟨q0, qP, rvK.moved (u := U) (U := U.calling g mk a) (Vm.Alike.refl U.vm) qK⟩
section MDC
variable {p : Program} {l : Launch} {e : Env} {R : Room} {s : State} {m : MethodId} {args : Array Value} {below : List Frame} {meth : Method} {c : Code} {H : Heap} {locs : List Loc} {Q : State → Prop}
variable {cc : ByteArray} {pc nL : Nat} {ls : Array Slot} {rest st0 : List Value} {dC : Nat → ClassId} {dI : Nat → Nat → Nat} {dA : Nat → ClassId} {n : Nat} {σ : mdT} {ab be : Int64} {H0 : Heap}
variable {y : MethodName} {bytes : ByteArray} {maxL idx k fr lo : Nat} {ret : Option FieldType} {As : List Value} {free : Addr → Prop} {Qc : Array Value → State → Outcome → State → Prop}
theorem md_preV (C : mdC dC dI dA p s m c args cc nL) (hP : mdP dC dI dA n σ ab be H) : PreV s H RX5 n (mdPc dC dI dA n σ ab be (.ref n :: As)) As :=
  ⟨md_blind, va_recv C.2.2.2.2.2 hP (ci := 5) (q0 := 0) rfl rfl, fun U hU hW => ⟨rfl, by rw [hU]; exact hP, rvK.moved hW.alike C.2.2.2.2.2⟩⟩
theorem md_preS (C : mdC dC dI dA p s m c args cc nL) (hP : mdP dC dI dA n σ ab be H) : PreS s H (mdPc dC dI dA n σ ab be As) As :=
  ⟨md_blind, fun U hU hW => ⟨rfl, by rw [hU]; exact hP, rvK.moved hW.alike C.2.2.2.2.2⟩⟩
theorem md_cw (C : mdC dC dI dA p s m c args cc nL) (K : mdCard y bytes maxL ret idx k) (hR : fr + 1 ≤ R.frames ∧ 8 + (maxL + 11) + lo ≤ R.locals) : CallW R s args RX5 RX5 idx y bytes maxL ret (ws_ y bytes maxL ret) { frames := fr, cells := 0, slots := 0, locals := lo } 0 0 k :=
  cwV k C.2.2.2.2.1 (lw_V K.1 K.2.1 K.2.2.1 q66 K.2.2.2.1) rfl rfl rfl K.2.2.2.2 hR
theorem md_cwS (C : mdC dC dI dA p s m c args cc nL) (K : mdCardS y bytes maxL ret idx k) (hR : fr + 1 ≤ R.frames ∧ 8 + (maxL + 11) + lo ≤ R.locals) : CallB R s args RX5 idx y bytes maxL ret (ws_ y bytes maxL ret) { frames := fr, cells := 0, slots := 0, locals := lo } 0 0 k ∧ (Cond.static y).before args s = true :=
  va_cwS k C.2.2.2.2.1 (lw_S K.1 K.2.1 (by rw [K.2.2.2.1]; exact q66) K.2.2.1) rfl rfl rfl K.2.2.2.2 hR
theorem md_0 {R : Room} : 0 + 0 ≤ R.cells ∧ 0 + 0 ≤ R.slots := ⟨Nat.zero_le _, Nat.zero_le _⟩
/-- an own method that only reads -/
theorem md_cSi {post : Int32 → Prop} (C : mdC dC dI dA p s m c args cc nL) (hP : mdP dC dI dA n σ ab be H) (hM : Met l y (ws_ y bytes maxL ret) { frames := fr, cells := 0, slots := 0, locals := lo } (mdPc dC dI dA n σ ab be (.ref n :: As)) (vp_Si post) 0 0 (fun _ => False)) (K : mdCard y bytes maxL ret idx k) (hn : As.length = k) (hst : st0 = As.reverse ++ .ref n :: rest) (hR : fr + 1 ≤ R.frames ∧ 8 + (maxL + 11) + lo ≤ R.locals) (hsz : ls.size = nL) (hw : (rest.map fun v => v.category).sum ≤ 8) (hdg : decode cc pc = .ok (.invokevirtual idx, 3))
    (kk : ∀ r : Int32, post r → W p l e R s m args below meth c H locs 0 0 Q (F0 m (pc + 3) ls (.int r :: rest))) : W p l e R s m args below meth c H locs 0 0 Q (F0 m pc ls st0) :=
  vp_callSi (W.runV (As := As) (rest := rest) (nL := nL) (cc := cc) ⟨C.1, C.2.1, C.2.2.1, C.2.2.2.1, C.2.2.2.2.1⟩ hM (md_cw C K hR) (md_preV C hP) rfl hn hsz hst (lv_room hw) hdg md_0) kk
theorem md_cSl {post : Int64 → Prop} (C : mdC dC dI dA p s m c args cc nL) (hP : mdP dC dI dA n σ ab be H) (hM : Met l y (ws_ y bytes maxL ret) { frames := fr, cells := 0, slots := 0, locals := lo } (mdPc dC dI dA n σ ab be (.ref n :: As)) (vp_Sl post) 0 0 (fun _ => False)) (K : mdCard y bytes maxL ret idx k) (hn : As.length = k) (hst : st0 = As.reverse ++ .ref n :: rest) (hR : fr + 1 ≤ R.frames ∧ 8 + (maxL + 11) + lo ≤ R.locals) (hsz : ls.size = nL) (hw : (rest.map fun v => v.category).sum ≤ 8) (hdg : decode cc pc = .ok (.invokevirtual idx, 3))
    (kk : ∀ r : Int64, post r → W p l e R s m args below meth c H locs 0 0 Q (F0 m (pc + 3) ls (.long r :: rest))) : W p l e R s m args below meth c H locs 0 0 Q (F0 m pc ls st0) :=
  vp_callSl (W.runV (As := As) (rest := rest) (nL := nL) (cc := cc) ⟨C.1, C.2.1, C.2.2.1, C.2.2.2.1, C.2.2.2.2.1⟩ hM (md_cw C K hR) (md_preV C hP) rfl hn hsz hst (lv_room hw) hdg md_0) kk
/-- a static method that asks nothing of the heap -/
theorem md_sSi {post : Int32 → Prop} (C : mdC dC dI dA p s m c args cc nL) (hM : Met l y (ws_ y bytes maxL ret) { frames := fr, cells := 0, slots := 0, locals := lo } (fun v _ => v = As.toArray) (vp_Si post) 0 0 (fun _ => False)) (K : mdCardS y bytes maxL ret idx k) (hn : As.length = k) (hst : st0 = As.reverse ++ rest) (hR : fr + 1 ≤ R.frames ∧ 8 + (maxL + 11) + lo ≤ R.locals) (hsz : ls.size = nL) (hw : (rest.map fun v => v.category).sum ≤ 8) (hdg : decode cc pc = .ok (.invokestatic idx, 3))
    (kk : ∀ r : Int32, post r → W p l e R s m args below meth c H locs 0 0 Q (F0 m (pc + 3) ls (.int r :: rest))) : W p l e R s m args below meth c H locs 0 0 Q (F0 m pc ls st0) :=
  vp_callSi (W.runS (As := As) (rest := rest) (nL := nL) (cc := cc) ⟨C.1, C.2.1, C.2.2.1, C.2.2.2.1, C.2.2.2.2.1⟩ hM (md_cwS C K hR) preEq rfl hn hsz hst (lv_room hw) hdg md_0) kk
/-- own methods that change the Model's numbers -/
theorem md_cWi {post : Int32 → mdT → Prop} (C : mdC dC dI dA p s m c args cc nL) (hP : mdP dC dI dA n σ ab be H) (hS : va_S (mdA n) H0 H locs) (hM : Met l y (ws_ y bytes maxL ret) { frames := fr, cells := 0, slots := 0, locals := lo } (mdPc dC dI dA n σ ab be (.ref n :: As)) (va_Qi post (mdB dC dI dA n ab be) (mdA n)) 0 0 (mdA n)) (K : mdCard y bytes maxL ret idx k) (hn : As.length = k) (hst : st0 = As.reverse ++ .ref n :: rest) (hR : fr + 1 ≤ R.frames ∧ 8 + (maxL + 11) + lo ≤ R.locals) (hsz : ls.size = nL) (hw : (rest.map fun v => v.category).sum ≤ 8) (hdg : decode cc pc = .ok (.invokevirtual idx, 3))
    (kk : ∀ (r : Int32) (σ1 : mdT) (H1 : Heap) (locs1 : List Loc), post r σ1 → mdP dC dI dA n σ1 ab be H1 → va_S (mdA n) H0 H1 locs1 → W p l e R s m args below meth c H1 locs1 0 0 Q (F0 m (pc + 3) ls (.int r :: rest))) : W p l e R s m args below meth c H locs 0 0 Q (F0 m pc ls st0) :=
  va_calli (va_runV (As := As) (rest := rest) (nL := nL) (cc := cc) ⟨C.1, C.2.1, C.2.2.1, C.2.2.2.1, C.2.2.2.2.1⟩ hM (md_cw C K hR) (md_preV C hP) rfl hn hsz hst (lv_room hw) hdg md_0) hS (fun _ _ h => h) (fun _ h => h) (fun r u t H1 locs1 ht _ hp hB _ _ hS1 => kk r u H1 locs1 hp (by rw [← ht]; exact hB.1) hS1)
theorem md_cWv {post : mdT → Prop} (C : mdC dC dI dA p s m c args cc nL) (hP : mdP dC dI dA n σ ab be H) (hS : va_S (mdA n) H0 H locs) (hM : Met l y (ws_ y bytes maxL ret) { frames := fr, cells := 0, slots := 0, locals := lo } (mdPc dC dI dA n σ ab be (.ref n :: As)) (va_Qv post (mdB dC dI dA n ab be) (mdA n)) 0 0 (mdA n)) (K : mdCard y bytes maxL ret idx k) (hn : As.length = k) (hst : st0 = As.reverse ++ .ref n :: rest) (hR : fr + 1 ≤ R.frames ∧ 8 + (maxL + 11) + lo ≤ R.locals) (hsz : ls.size = nL) (hw : (rest.map fun v => v.category).sum ≤ 8) (hdg : decode cc pc = .ok (.invokevirtual idx, 3))
    (kk : ∀ (σ1 : mdT) (H1 : Heap) (locs1 : List Loc), post σ1 → mdP dC dI dA n σ1 ab be H1 → va_S (mdA n) H0 H1 locs1 → W p l e R s m args below meth c H1 locs1 0 0 Q (F0 m (pc + 3) ls rest)) : W p l e R s m args below meth c H locs 0 0 Q (F0 m pc ls st0) :=
  va_callv (va_runV (As := As) (rest := rest) (nL := nL) (cc := cc) ⟨C.1, C.2.1, C.2.2.1, C.2.2.2.1, C.2.2.2.2.1⟩ hM (md_cw C K hR) (md_preV C hP) rfl hn hsz hst (lv_room hw) hdg md_0) hS (fun _ _ h => h) (fun _ h => h) (fun u t H1 locs1 ht _ hp hB _ _ hS1 => kk u H1 locs1 hp (by rw [← ht]; exact hB.1) hS1)
theorem md_cLv {post : mdT × Int64 × Int64 → Prop} (C : mdC dC dI dA p s m c args cc nL) (hP : mdP dC dI dA n σ ab be H) (hS : va_S (mdA n) H0 H locs) (hM : Met l y (ws_ y bytes maxL ret) { frames := fr, cells := 0, slots := 0, locals := lo } (mdPc dC dI dA n σ ab be (.ref n :: As)) (va_Qv post (mdBL dC dI dA n) (mdA n)) 0 0 (mdA n)) (K : mdCard y bytes maxL ret idx k) (hn : As.length = k) (hst : st0 = As.reverse ++ .ref n :: rest) (hR : fr + 1 ≤ R.frames ∧ 8 + (maxL + 11) + lo ≤ R.locals) (hsz : ls.size = nL) (hw : (rest.map fun v => v.category).sum ≤ 8) (hdg : decode cc pc = .ok (.invokevirtual idx, 3))
    (kk : ∀ (u : mdT × Int64 × Int64) (H1 : Heap) (locs1 : List Loc), post u → mdP dC dI dA n u.1 u.2.1 u.2.2 H1 → va_S (mdA n) H0 H1 locs1 → W p l e R s m args below meth c H1 locs1 0 0 Q (F0 m (pc + 3) ls rest)) : W p l e R s m args below meth c H locs 0 0 Q (F0 m pc ls st0) :=
  va_callv (va_runV (As := As) (rest := rest) (nL := nL) (cc := cc) ⟨C.1, C.2.1, C.2.2.1, C.2.2.2.1, C.2.2.2.2.1⟩ hM (md_cw C K hR) (md_preV C hP) rfl hn hsz hst (lv_room hw) hdg md_0) hS (fun _ _ h => h) (fun _ h => h) (fun u t H1 locs1 ht _ hp hB _ _ hS1 => kk u H1 locs1 hp (by rw [← ht]; exact hB.1) hS1)
theorem md_sWv {post : mdT → Prop} (C : mdC dC dI dA p s m c args cc nL) (hP : mdP dC dI dA n σ ab be H) (hS : va_S (mdA n) H0 H locs) (hM : Met l y (ws_ y bytes maxL ret) { frames := fr, cells := 0, slots := 0, locals := lo } (mdPc dC dI dA n σ ab be As) (va_Qv post (mdB dC dI dA n ab be) (mdA n)) 0 0 (mdA n)) (K : mdCardS y bytes maxL ret idx k) (hn : As.length = k) (hst : st0 = As.reverse ++ rest) (hR : fr + 1 ≤ R.frames ∧ 8 + (maxL + 11) + lo ≤ R.locals) (hsz : ls.size = nL) (hw : (rest.map fun v => v.category).sum ≤ 8) (hdg : decode cc pc = .ok (.invokestatic idx, 3))
    (kk : ∀ (σ1 : mdT) (H1 : Heap) (locs1 : List Loc), post σ1 → mdP dC dI dA n σ1 ab be H1 → va_S (mdA n) H0 H1 locs1 → W p l e R s m args below meth c H1 locs1 0 0 Q (F0 m (pc + 3) ls rest)) : W p l e R s m args below meth c H locs 0 0 Q (F0 m pc ls st0) :=
  va_callv (va_runS (As := As) (rest := rest) (nL := nL) (cc := cc) ⟨C.1, C.2.1, C.2.2.1, C.2.2.2.1, C.2.2.2.2.1⟩ hM (md_cwS C K hR) (md_preS C hP) rfl hn hsz hst (lv_room hw) hdg md_0) hS (fun _ _ h => h) (fun _ h => h) (fun u t H1 locs1 ht _ hp hB _ _ hS1 => kk u H1 locs1 hp (by rw [← ht]; exact hB.1) hS1)
/-- a contract from the walk of its body -/
theorem md_in (hy : plainName y.cls = true) (hy5 : y.cls = RX5) (hsl : (lg_sl As).length ≤ maxL) {rm : Room} {lv : List (Nat × Value)} (hlv : lv_args 0 As = lv)
    (body : ∀ p e s m below meth c, mdC dC dI dA p s m c As.toArray bytes maxL → meth.sig.returnType = ret → meth.locks = false → mdP dC dI dA n σ ab be s.heap → ∀ ls, lv_has ls maxL lv → W p l e rm s m As.toArray below meth c s.heap [] 0 0 (MQ below Qc As.toArray s 0 0 free) (F0 m 0 ls [])) :
    Met l y (ws_ y bytes maxL ret) rm (mdPc dC dI dA n σ ab be As) Qc 0 0 free := by
  refine Met.ofW (cc := bytes) (maxL := maxL) (ret := ret) hy rfl ?_
  intro p e s m args below meth c s₁ B hml hv
  obtain ⟨rfl, hP, hK⟩ := hv
  have hts := atoms_spec (ws := ws_ y bytes maxL ret) B.pre
  have hts : ∀ w ∈ lw_all, w.before _ s = true := fun w h => hts w (List.mem_cons_of_mem _ h)
  have hown : s.vm.findClass y.cls = some m.cls := findClass_of_methodNamed B.named
  rw [hy5] at hown
  have hl := lv_entry As (n := maxL) hsl
  rw [lg_entry_eq]
  generalize (lg_sl As ++ List.replicate (maxL - (lg_sl As).length) Slot.unset).toArray = ls at hl ⊢
  rw [hlv] at hl
  exact body p e s m below meth c ⟨B.exec, B.bytes, hml, hown, hts, hK⟩ B.returns B.notSynchronized hP ls hl
/-- the same for a static one that asks nothing of the heap: any class -/
theorem rv_inS (hy : plainName y.cls = true) (hsl : (lg_sl As).length ≤ maxL) {rm : Room} {lv : List (Nat × Value)} (hlv : lv_args 0 As = lv)
    (body : ∀ p e s m below meth c, p.tables.exec = Jvm.exec → c.code = bytes → c.maxLocals = maxL → s.vm.findClass y.cls = some m.cls → (∀ w ∈ lw_all, w.before As.toArray s = true) → meth.sig.returnType = ret → meth.locks = false → ∀ ls, lv_has ls maxL lv → W p l e rm s m As.toArray below meth c s.heap [] 0 0 (MQ below Qc As.toArray s 0 0 free) (F0 m 0 ls [])) :
    Met l y (ws_ y bytes maxL ret) rm (fun v _ => v = As.toArray) Qc 0 0 free := by
  refine Met.ofW (cc := bytes) (maxL := maxL) (ret := ret) hy rfl ?_
  intro p e s m args below meth c s₁ B hml hv
  subst hv
  have hts := atoms_spec (ws := ws_ y bytes maxL ret) B.pre
  have hts : ∀ w ∈ lw_all, w.before _ s = true := fun w h => hts w (List.mem_cons_of_mem _ h)
  have hl := lv_entry As (n := maxL) hsl
  rw [lg_entry_eq]
  generalize (lg_sl As ++ List.replicate (maxL - (lg_sl As).length) Slot.unset).toArray = ls at hl ⊢
  rw [hlv] at hl
  exact body p e s m below meth c B.exec B.bytes hml (findClass_of_methodNamed B.named) hts B.returns B.notSynchronized ls hl
/-- ends -/
theorem rv_ri {post : Int32 → Prop} {v : Int32} {cells slots : Nat} (hx : p.tables.exec = Jvm.exec) (hb : c.code = cc) (hr : meth.sig.returnType = some .int) (hlk : meth.locks = false) (hdg : decode cc pc = .ok (.ireturn, 1)) (hp : post v) : W p l e R s m args below meth c s.heap [] cells slots (MQ below (vp_Si post) args s cells slots (fun _ => False)) (F0 m pc ls [.int v]) :=
  W.iret hx hb hr (fun t ht _ => ⟨v, rfl, hp, ht⟩) (fun q h => by cases h) hdg hlk
theorem rv_rz {post : Int32 → Prop} {v : Int32} {cells slots : Nat} (hx : p.tables.exec = Jvm.exec) (hb : c.code = cc) (hr : meth.sig.returnType = some .boolean) (hlk : meth.locks = false) (hn : narrow .boolean (.int v) = .int v) (hdg : decode cc pc = .ok (.ireturn, 1)) (hp : post v) : W p l e R s m args below meth c s.heap [] cells slots (MQ below (vp_Si post) args s cells slots (fun _ => False)) (F0 m pc ls [.int v]) :=
  W.zret hx hb hr hn (fun t ht _ => ⟨v, rfl, hp, ht⟩) (fun q h => by cases h) hdg hlk
theorem rv_rl {post : Int64 → Prop} {v : Int64} {cells slots : Nat} (hx : p.tables.exec = Jvm.exec) (hb : c.code = cc) (hr : meth.sig.returnType = some .long) (hlk : meth.locks = false) (hdg : decode cc pc = .ok (.lreturn, 1)) (hp : post v) : W p l e R s m args below meth c s.heap [] cells slots (MQ below (vp_Sl post) args s cells slots (fun _ => False)) (F0 m pc ls [.long v]) :=
  W.lret hx hb hr (fun t ht _ => ⟨v, rfl, hp, ht⟩) (fun q h => by cases h) hdg hlk
theorem md_ri {post : Int32 → mdT → Prop} {v : Int32} {cells slots : Nat} (C : mdC dC dI dA p s m c args cc nL) (hr : meth.sig.returnType = some .int) (hlk : meth.locks = false) (hP : mdP dC dI dA n σ ab be H) (hS : va_S (mdA n) s.heap H locs) (hdg : decode cc pc = .ok (.ireturn, 1)) (hp : post v σ) : W p l e R s m args below meth c H locs cells slots (MQ below (va_Qi post (mdB dC dI dA n ab be) (mdA n)) args s cells slots (mdA n)) (F0 m pc ls [.int v]) :=
  W.iret C.1 C.2.1 hr (fun t ht hW => ⟨⟨v, σ, rfl, hp, by rw [ht]; exact hP, rvK.moved hW.alike C.2.2.2.2.2⟩, hS.F ht⟩) hS.2.2 hdg hlk
theorem md_rz {post : Int32 → mdT → Prop} {v : Int32} {cells slots : Nat} (C : mdC dC dI dA p s m c args cc nL) (hr : meth.sig.returnType = some .boolean) (hlk : meth.locks = false) (hn : narrow .boolean (.int v) = .int v) (hP : mdP dC dI dA n σ ab be H) (hS : va_S (mdA n) s.heap H locs) (hdg : decode cc pc = .ok (.ireturn, 1)) (hp : post v σ) : W p l e R s m args below meth c H locs cells slots (MQ below (va_Qi post (mdB dC dI dA n ab be) (mdA n)) args s cells slots (mdA n)) (F0 m pc ls [.int v]) :=
  W.zret C.1 C.2.1 hr hn (fun t ht hW => ⟨⟨v, σ, rfl, hp, by rw [ht]; exact hP, rvK.moved hW.alike C.2.2.2.2.2⟩, hS.F ht⟩) hS.2.2 hdg hlk
theorem md_rv {post : mdT → Prop} {cells slots : Nat} (C : mdC dC dI dA p s m c args cc nL) (hr : meth.sig.returnType = none) (hlk : meth.locks = false) (hP : mdP dC dI dA n σ ab be H) (hS : va_S (mdA n) s.heap H locs) (hdg : decode cc pc = .ok (.return_, 1)) (hp : post σ) : W p l e R s m args below meth c H locs cells slots (MQ below (va_Qv post (mdB dC dI dA n ab be) (mdA n)) args s cells slots (mdA n)) (F0 m pc ls []) :=
  W.vret C.1 C.2.1 hr (fun t ht hW => ⟨⟨σ, rfl, hp, by rw [ht]; exact hP, rvK.moved hW.alike C.2.2.2.2.2⟩, hS.F ht⟩) hS.2.2 hdg hlk
theorem md_rLv {post : mdT × Int64 × Int64 → Prop} {cells slots : Nat} (C : mdC dC dI dA p s m c args cc nL) (hr : meth.sig.returnType = none) (hlk : meth.locks = false) (hP : mdP dC dI dA n σ ab be H) (hS : va_S (mdA n) s.heap H locs) (hdg : decode cc pc = .ok (.return_, 1)) (hp : post (σ, ab, be)) : W p l e R s m args below meth c H locs cells slots (MQ below (va_Qv post (mdBL dC dI dA n) (mdA n)) args s cells slots (mdA n)) (F0 m pc ls []) :=
  W.vret C.1 C.2.1 hr (fun t ht hW => ⟨⟨(σ, ab, be), rfl, hp, by rw [ht]; exact hP, rvK.moved hW.alike C.2.2.2.2.2⟩, hS.F ht⟩) hS.2.2 hdg hlk
theorem md_rLi {post : Int32 → mdT × Int64 × Int64 → Prop} {v : Int32} {cells slots : Nat} (C : mdC dC dI dA p s m c args cc nL) (hr : meth.sig.returnType = some .int) (hlk : meth.locks = false) (hP : mdP dC dI dA n σ ab be H) (hS : va_S (mdA n) s.heap H locs) (hdg : decode cc pc = .ok (.ireturn, 1)) (hp : post v (σ, ab, be)) : W p l e R s m args below meth c H locs cells slots (MQ below (va_Qi post (mdBL dC dI dA n) (mdA n)) args s cells slots (mdA n)) (F0 m pc ls [.int v]) :=
  W.iret C.1 C.2.1 hr (fun t ht hW => ⟨⟨v, (σ, ab, be), rfl, hp, by rw [ht]; exact hP, rvK.moved hW.alike C.2.2.2.2.2⟩, hS.F ht⟩) hS.2.2 hdg hlk
end MDC
section MDE
variable {p : Program} {l : Launch} {e : Env} {R : Room} {s : State} {m : MethodId} {args : Array Value} {below : List Frame} {meth : Method} {c : Code} {H : Heap} {locs : List Loc} {Q : State → Prop}
variable {cc : ByteArray} {pc nL : Nat} {ls : Array Slot} {rest st0 : List Value} {dC : Nat → ClassId} {dI : Nat → Nat → Nat} {dA : Nat → ClassId} {n : Nat} {σ : mdT} {ab be : Int64} {H0 : Heap}
variable {y : MethodName} {bytes : ByteArray} {maxL idx k fr lo : Nat} {ret : Option FieldType} {As : List Value}
/-- calls whose answer, and whose change, are said exactly -/
theorem md_cSe {v : Int32} (C : mdC dC dI dA p s m c args cc nL) (hP : mdP dC dI dA n σ ab be H) (hM : Met l y (ws_ y bytes maxL ret) { frames := fr, cells := 0, slots := 0, locals := lo } (mdPc dC dI dA n σ ab be (.ref n :: As)) (vp_Si (fun r => r = v)) 0 0 (fun _ => False)) (K : mdCard y bytes maxL ret idx k) (hn : As.length = k) (hst : st0 = As.reverse ++ .ref n :: rest) (hR : fr + 1 ≤ R.frames ∧ 8 + (maxL + 11) + lo ≤ R.locals) (hsz : ls.size = nL) (hw : (rest.map fun v => v.category).sum ≤ 8) (hdg : decode cc pc = .ok (.invokevirtual idx, 3))
    (kk : W p l e R s m args below meth c H locs 0 0 Q (F0 m (pc + 3) ls (.int v :: rest))) : W p l e R s m args below meth c H locs 0 0 Q (F0 m pc ls st0) :=
  md_cSi C hP hM K hn hst hR hsz hw hdg (fun r er => by rw [er]; exact kk)
theorem md_cSle {v : Int64} (C : mdC dC dI dA p s m c args cc nL) (hP : mdP dC dI dA n σ ab be H) (hM : Met l y (ws_ y bytes maxL ret) { frames := fr, cells := 0, slots := 0, locals := lo } (mdPc dC dI dA n σ ab be (.ref n :: As)) (vp_Sl (fun r => r = v)) 0 0 (fun _ => False)) (K : mdCard y bytes maxL ret idx k) (hn : As.length = k) (hst : st0 = As.reverse ++ .ref n :: rest) (hR : fr + 1 ≤ R.frames ∧ 8 + (maxL + 11) + lo ≤ R.locals) (hsz : ls.size = nL) (hw : (rest.map fun v => v.category).sum ≤ 8) (hdg : decode cc pc = .ok (.invokevirtual idx, 3))
    (kk : W p l e R s m args below meth c H locs 0 0 Q (F0 m (pc + 3) ls (.long v :: rest))) : W p l e R s m args below meth c H locs 0 0 Q (F0 m pc ls st0) :=
  md_cSl C hP hM K hn hst hR hsz hw hdg (fun r er => by rw [er]; exact kk)
theorem md_sSe {v : Int32} (C : mdC dC dI dA p s m c args cc nL) (hM : Met l y (ws_ y bytes maxL ret) { frames := fr, cells := 0, slots := 0, locals := lo } (fun v _ => v = As.toArray) (vp_Si (fun r => r = v)) 0 0 (fun _ => False)) (K : mdCardS y bytes maxL ret idx k) (hn : As.length = k) (hst : st0 = As.reverse ++ rest) (hR : fr + 1 ≤ R.frames ∧ 8 + (maxL + 11) + lo ≤ R.locals) (hsz : ls.size = nL) (hw : (rest.map fun v => v.category).sum ≤ 8) (hdg : decode cc pc = .ok (.invokestatic idx, 3))
    (kk : W p l e R s m args below meth c H locs 0 0 Q (F0 m (pc + 3) ls (.int v :: rest))) : W p l e R s m args below meth c H locs 0 0 Q (F0 m pc ls st0) :=
  md_sSi C hM K hn hst hR hsz hw hdg (fun r er => by rw [er]; exact kk)
theorem md_cWe {v : Int32} {τ : mdT} (C : mdC dC dI dA p s m c args cc nL) (hP : mdP dC dI dA n σ ab be H) (hS : va_S (mdA n) H0 H locs) (hM : Met l y (ws_ y bytes maxL ret) { frames := fr, cells := 0, slots := 0, locals := lo } (mdPc dC dI dA n σ ab be (.ref n :: As)) (va_Qi (fun r u => r = v ∧ u = τ) (mdB dC dI dA n ab be) (mdA n)) 0 0 (mdA n)) (K : mdCard y bytes maxL ret idx k) (hn : As.length = k) (hst : st0 = As.reverse ++ .ref n :: rest) (hR : fr + 1 ≤ R.frames ∧ 8 + (maxL + 11) + lo ≤ R.locals) (hsz : ls.size = nL) (hw : (rest.map fun v => v.category).sum ≤ 8) (hdg : decode cc pc = .ok (.invokevirtual idx, 3))
    (kk : ∀ (H1 : Heap) (locs1 : List Loc), mdP dC dI dA n τ ab be H1 → va_S (mdA n) H0 H1 locs1 → W p l e R s m args below meth c H1 locs1 0 0 Q (F0 m (pc + 3) ls (.int v :: rest))) : W p l e R s m args below meth c H locs 0 0 Q (F0 m pc ls st0) :=
  md_cWi C hP hS hM K hn hst hR hsz hw hdg (fun r σ1 H1 locs1 hp hP1 hS1 => by rw [hp.1]; rw [hp.2] at hP1; exact kk H1 locs1 hP1 hS1)
theorem md_cWve {τ : mdT} (C : mdC dC dI dA p s m c args cc nL) (hP : mdP dC dI dA n σ ab be H) (hS : va_S (mdA n) H0 H locs) (hM : Met l y (ws_ y bytes maxL ret) { frames := fr, cells := 0, slots := 0, locals := lo } (mdPc dC dI dA n σ ab be (.ref n :: As)) (va_Qv (fun u => u = τ) (mdB dC dI dA n ab be) (mdA n)) 0 0 (mdA n)) (K : mdCard y bytes maxL ret idx k) (hn : As.length = k) (hst : st0 = As.reverse ++ .ref n :: rest) (hR : fr + 1 ≤ R.frames ∧ 8 + (maxL + 11) + lo ≤ R.locals) (hsz : ls.size = nL) (hw : (rest.map fun v => v.category).sum ≤ 8) (hdg : decode cc pc = .ok (.invokevirtual idx, 3))
    (kk : ∀ (H1 : Heap) (locs1 : List Loc), mdP dC dI dA n τ ab be H1 → va_S (mdA n) H0 H1 locs1 → W p l e R s m args below meth c H1 locs1 0 0 Q (F0 m (pc + 3) ls rest)) : W p l e R s m args below meth c H locs 0 0 Q (F0 m pc ls st0) :=
  md_cWv C hP hS hM K hn hst hR hsz hw hdg (fun σ1 H1 locs1 hp hP1 hS1 => by rw [hp] at hP1; exact kk H1 locs1 hP1 hS1)
theorem md_sWve {τ : mdT} (C : mdC dC dI dA p s m c args cc nL) (hP : mdP dC dI dA n σ ab be H) (hS : va_S (mdA n) H0 H locs) (hM : Met l y (ws_ y bytes maxL ret) { frames := fr, cells := 0, slots := 0, locals := lo } (mdPc dC dI dA n σ ab be As) (va_Qv (fun u => u = τ) (mdB dC dI dA n ab be) (mdA n)) 0 0 (mdA n)) (K : mdCardS y bytes maxL ret idx k) (hn : As.length = k) (hst : st0 = As.reverse ++ rest) (hR : fr + 1 ≤ R.frames ∧ 8 + (maxL + 11) + lo ≤ R.locals) (hsz : ls.size = nL) (hw : (rest.map fun v => v.category).sum ≤ 8) (hdg : decode cc pc = .ok (.invokestatic idx, 3))
    (kk : ∀ (H1 : Heap) (locs1 : List Loc), mdP dC dI dA n τ ab be H1 → va_S (mdA n) H0 H1 locs1 → W p l e R s m args below meth c H1 locs1 0 0 Q (F0 m (pc + 3) ls rest)) : W p l e R s m args below meth c H locs 0 0 Q (F0 m pc ls st0) :=
  md_sWv C hP hS hM K hn hst hR hsz hw hdg (fun σ1 H1 locs1 hp hP1 hS1 => by rw [hp] at hP1; exact kk H1 locs1 hP1 hS1)
end MDE
/-- whether a number lies between two -/
def rv_in (x : Int32) (a b : Int) : Bool := decide (a ≤ x.toInt) && decide (x.toInt ≤ b)
def rv_inL (v lo hi : Int64) : Bool := decide (lo.toInt ≤ v.toInt) && decide (v.toInt ≤ hi.toInt)
theorem rv_inL_i (x : Int32) (lo hi : Int64) : rv_inL x.toInt64 lo hi = rv_in x lo.toInt hi.toInt := by
  unfold rv_inL rv_in
  rw [Int32.toInt_toInt64]
theorem rv_inL_ii (x y : Int32) (lo : Int64) : rv_inL x.toInt64 lo y.toInt64 = rv_in x lo.toInt y.toInt := by
  unfold rv_inL rv_in
  rw [Int32.toInt_toInt64, Int32.toInt_toInt64]
/-- a number below n, as the checks 'isView', 'isRenter' have it -/
theorem rv_in_lt {x : Int32} {n : Nat} (h : rv_in x 0 ((n : Int) - 1) = true) (hn : n < 2 ^ 31) : ∃ j : Nat, j < n ∧ x = nI j := by
  unfold rv_in at h
  rw [Bool.and_eq_true, decide_eq_true_eq, decide_eq_true_eq] at h
  exact vp_in_of (vp_in_iff.mpr ⟨h.1, by omega⟩) hn
theorem rb_is0 {b : Bool} (h : b = false) : nI 0 = rb_i b := by rw [h]; rfl
theorem rb_is1 {b : Bool} (h : b = true) : nI 1 = rb_i b := by rw [h]; rfl
