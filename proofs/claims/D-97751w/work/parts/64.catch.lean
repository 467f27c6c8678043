/-! the catch, whose class may not be resolved yet -/
set_option maxRecDepth 100000
theorem xFH_cold {E : CtlPost} {e : Env} {d : Bool} {acts : List Action} {s : State} {f : JFrame} {a : Addr} {Q : Handler → Pre} {x : ExceptionTableEntry} {t : List ExceptionTableEntry} {cT : ClassId} {cell : Cell} {vm' : Vm} (hx : covers x f.pc = true) (h0 : x.catchType ≠ 0)
    (hg : (Jvm.resolveClass f.method.cls x.catchType).Gives e.toSetting s.vm (.ok cT) vm') (hsz : vm'.classes.size ≤ s.vm.classes.size) (hcell : s.heap[a]? = some cell) (hobj : ∀ k, cell.vm ≠ .statics k)
    (hk : ∃ k, vm'.classes[cell.cls]? = some k) (hc : ∃ k, vm'.classes[cT]? = some k) (hfit : vm'.assignable cell.cls cT = true) (hQ : ∀ d, Q (.found x.handlerPc) d acts (s.setVm vm')) :
    wp (findHandler.go f a (x :: t)) Q E e d acts s := by
  simp only [covers] at hx
  obtain ⟨ha, ht⟩ := hg.op (op := VmOp.resolveClass f.method.cls x.catchType) rfl
  simp [findHandler.go, hx, h0, ha, ht, hsz, hcell, hobj, hk, hc, hfit, VmOp.acts, hQ]
theorem xStep_catch {e : Env} {s s' : State} {a : Addr} {f : JFrame} {r : List Frame} {pc : Nat} (hfind : wp (findHandler f a) (fun h _ as s'' => h = .found pc ∧ s'' = s' ∧ as = []) (fun _ _ _ => False) e false [] s) :
    (stepThrowing e s a (.java f :: r)).1 = s'.setFrames (.java { f with pc := pc, stack := [.ref a] } :: r) := by
  simp only [stepThrowing, searchFrame, vmDo]
  generalize hr : Sem.go _ e false [] s = res
  obtain ⟨as, rfl, ha⟩ := Sem.eq_ok_of hr (a := Handler.found pc) (s' := s') (acts' := []) (by
    rw [show unmarked [] = ([] : List Action) from rfl]
    simp only [wp_bind']
    exact wp_mono _ e (fun h d as s'' q => by obtain ⟨rfl, rfl, rfl⟩ := q; simp) (fun _ _ _ h => h) _ _ _ hfind)
  rfl
section XCA
variable {p : Program} {l : Launch} {e : Env} {R : Room} {s : State} {m : MethodId} {args : Array Value} {below : List Frame} {meth : Method} {c : Code} {H : Heap} {locs : List Loc} {cells slots mc ms : Nat} {Q : State → Prop}
variable {cc : ByteArray} {pc nL : Nat} {ls : Array Slot} {rest st0 : List Value} {dC : Nat → ClassId} {dI : Nat → Nat → Nat} {dA : Nat → ClassId} {H0 : Heap} {own nm : String} {free A A0 A1 : Addr → Prop} {Er : Nat → Heap → Prop} {idx a0 b0 hp : Nat}
theorem x_catch (X : xC dC dI dA p s m c args cc nL own) (hr : xRunT p l e R s m args below meth c H locs cells slots mc ms (F0 m pc ls st0) rest (xEr Er A1) free) (hlink : Cond.classLink own idx nm ∈ lw_all) (htab : c.exceptionTable.toList.map (fun h => (h.startPc, h.endPc, h.handlerPc, h.catchType)) = [(a0, b0, hp, idx)]) (hcov : a0 ≤ pc ∧ pc < b0) (h0 : idx ≠ 0)
    (hS : va_S A0 H0 H locs) (hA : ∀ q, A1 q → A0 q) (hf : ∀ q, free q → A0 q) (hRc : ∀ x H1, Er x H1 → xRecv s H1 nm x)
    (kk : ∀ (x : Nat) (H1 : Heap) (locs1 : List Loc), Er x H1 → H.size ≤ H1.size → (∀ q : Nat, q < H.size → ¬ A1 q → H1[q]? = H[q]?) → va_S A0 H0 H1 locs1 → W p l e R s m args below meth c H1 locs1 (cells + mc) (slots + ms) Q (F0 m hp ls [.ref x])) : W p l e R s m args below meth c H locs cells slots Q (F0 m pc ls st0) := by
  intro T hT Y
  obtain ⟨x, st₀, t, T', L, g0, X', hL, e1, e2, ⟨⟨x', hx, hEr⟩, hz, hk⟩, st⟩ := hr T hT Y
  cases hx
  rw [g0] at hz hk
  rw [← e1] at hEr hz hk
  obtain ⟨cell, hcell, hobj, hcT⟩ := hRc x _ hEr
  have hpl : e.platform.magicAccessors = ({} : Platform).magicAccessors := by rw [X'.admits.platform]
  obtain ⟨c', hc', hcl⟩ := Cond.classLink_spec X.2.2.2.1 (X.2.2.2.2.1 _ hlink) e.platform hpl
  cases hcT.symm.trans hc'
  obtain ⟨dk, _, _, kt, hd, _, _, _, _, hkt, _, hopen⟩ := hcl.here
  have hcl₀ := X'.warmed.classLinks hcl
  have hW' : s.WarmedH (T'.vm.noted m.cls idx (.cls cell.cls)) := X'.warmed.noted hd hopen (State.rightAt_cls hcl)
  obtain ⟨kt', hkt', -⟩ := hW'.alike.2.2 _ _ hkt
  have X2 := X'.noted hW'
  obtain ⟨t2, a1, b1⟩ := kk x T'.heap (locs ++ L) hEr hz hk
    ⟨Nat.le_trans hS.1 hz, fun q h1 h2 => by rw [hk q (Nat.lt_of_lt_of_le h1 hS.1) (fun z => h2 (hA q z))]; exact hS.2.1 q h1 h2, fun q hq => by
      rcases List.mem_append.mp hq with h | h
      · exact hS.2.2 q h
      · exact hf _ (hL q h)⟩ (T'.setVm (T'.vm.noted m.cls idx (.cls cell.cls))) rfl X2
  refine ⟨t2, st t2 ?_, b1⟩
  have h : At T' (F0 m pc ls rest).method c below := X'.here
  obtain ⟨hgo, hw⟩ := h.throwing x
  refine Steps.head hgo hw ?_
  obtain ⟨en, hen⟩ : ∃ en, c.exceptionTable.toList = [en] := by
    cases hl : c.exceptionTable.toList with
    | nil => rw [hl] at htab; cases htab
    | cons en tl =>
      cases tl with
      | nil => exact ⟨en, rfl⟩
      | cons _ _ => rw [hl] at htab; cases htab
  rw [hen] at htab
  simp only [List.map_cons, List.map_nil, List.cons.injEq, Prod.mk.injEq, and_true] at htab
  obtain ⟨f1, f2, f3, f4⟩ := htab
  have hm' : ((T'.setTop (F0 m pc ls rest)).pushFrame (.throwing x)).vm.method? m = some meth := by rw [Stand.throwing_vm]; exact X'.method'
  have hfind : wp (findHandler (F0 m pc ls rest) x) (fun h _ as s'' => h = .found hp ∧ s'' = ((T'.setTop (F0 m pc ls rest)).pushFrame (.throwing x)).setVm (T'.vm.noted m.cls idx (.cls cell.cls)) ∧ as = []) (fun _ _ _ => False) e false [] ((T'.setTop (F0 m pc ls rest)).pushFrame (.throwing x)) := by
    rw [W.findHandler_eq hm' X'.code, hen]
    refine xFH_cold (cT := cell.cls) (cell := cell) (vm' := T'.vm.noted m.cls idx (.cls cell.cls)) (by simp only [covers, f1, f2]; simp [hcov]) (by rw [f4]; exact h0) ?_ ?_ (by rw [Stand.throwing_heap]; exact hcell) (VmData.noStatics_of hobj) ⟨kt', hkt'⟩ ⟨kt', hkt'⟩ (va_asg _ _) (fun d => ⟨by rw [f3], rfl, rfl⟩)
    · rw [f4, Stand.throwing_vm]; exact resolveClass_links e.toSetting hcl₀
    · rw [Stand.throwing_vm]; no_record
  rw [stepThread_throwing (frames_entered h.top _), xStep_catch hfind]
  obtain ⟨g₀, hg⟩ := Option.isSome_iff_exists.mp h.top
  obtain ⟨r, hr'⟩ := State.topJava?_eq_some.mp hg
  have e4 : (((T'.setTop (F0 m pc ls rest)).pushFrame (.throwing x)).setVm (T'.vm.noted m.cls idx (.cls cell.cls))).setFrames (.java { F0 m pc ls rest with pc := hp, stack := [.ref x] } :: T'.frames.tail) = (T'.setVm (T'.vm.noted m.cls idx (.cls cell.cls))).setTop (F0 m hp ls [.ref x]) := by
    have hr2 : (T'.setVm (T'.vm.noted m.cls idx (.cls cell.cls))).frames = .java g₀ :: r := hr'
    rw [State.setTop_of_frames _ hr2, State.pushFrame, State.setTop_of_frames _ hr', hr']
    generalize (T'.setFrames (Frame.java (F0 m pc ls rest) :: r)).frames = F1
    have e5 : ∀ (F2 F3 : List Frame) (v : Vm), (((T'.setFrames F2).setFrames F1).setVm v).setFrames F3 = (T'.setVm v).setFrames F3 := fun F2 F3 v => by
      have e6 : ((T'.setFrames F2).setFrames F1).setVm v = ((T'.setVm v).setFrames F2).setFrames F1 := rfl
      rw [e6, State.setFrames_setFrames, State.setFrames_setFrames]
    first | rw [State.setFrames_setFrames]; skip | skip
    have e7 : ∀ (F2 F3 : List Frame) (v : Vm), ((T'.setFrames F2).setVm v).setFrames F3 = (T'.setVm v).setFrames F3 := fun F2 F3 v => by
      have e6 : (T'.setFrames F2).setVm v = (T'.setVm v).setFrames F2 := rfl
      rw [e6, State.setFrames_setFrames]
    rw [e7]
    rfl
  rw [e4]
  exact a1
end XCA
