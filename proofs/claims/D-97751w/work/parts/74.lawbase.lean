/-! the law: what its loop stands on -/
set_option maxRecDepth 100000
theorem RX.q {dC : Nat → ClassId} {dI : Nat → Nat → Nat} {dA : Nat → ClassId} {c n : Nat} {σ u : mdT} {ab be : Int64} {H : Heap} (h : RX dC dI dA c n σ ab be H) (q : mdQ σ u) : RX dC dI dA c n u ab be H := by
  obtain ⟨T, ξ, V, V2, im, many, rent, rd, un, hs, ev, ty, hP, hR, ho, hO⟩ := h
  obtain ⟨q0, q1, q2, q3, q12, q15⟩ := q
  refine ⟨T, ξ, V, V2, im, many, rent, rd, un, hs, ev, ty, hP, by rw [q0]; exact hR, ⟨ho.1, by rw [q15]; exact ho.2.1, ho.2.2.1, by rw [q12]; exact ho.2.2.2.1, by rw [q3]; exact ho.2.2.2.2⟩, ?_⟩
  unfold xO
  rw [q0, q1, q2]
  exact hO
section LWB
variable {p : Program} {l : Launch} {e : Env} {R : Room} {s : State} {m : MethodId} {args : Array Value} {below : List Frame} {meth : Method} {c : Code} {H : Heap} {locs : List Loc} {cells slots mc ms : Nat} {Q : State → Prop}
variable {cc : ByteArray} {pc nL : Nat} {ls : Array Slot} {rest st0 : List Value} {dC : Nat → ClassId} {dI : Nat → Nat → Nat} {dA : Nat → ClassId} {H0 : Heap} {own : String} {n idx k fr lo maxL : Nat} {σ : mdT} {ab be : Int64} {y : MethodName} {bytes : ByteArray} {ret : Option FieldType} {As : List Value} {free : Addr → Prop} {Qc : Array Value → State → Outcome → State → Prop}
/-- what is written on new cells need not be told -/
theorem W.fgt {g : JFrame} (hS : va_S (fun q => s.heap.size ≤ q) s.heap H locs) (kk : W p l e R s m args below meth c H [] cells slots Q g) : W p l e R s m args below meth c H locs cells slots Q g :=
  W.forget (locs := []) (L := locs) hS.2.2 kk
theorem va_S.fg {A : Nat → Prop} (hS : va_S A H0 H locs) : va_S A H0 H [] := ⟨hS.1, hS.2.1, fun _ h => by cases h⟩
/-- the Model's methods, called from elsewhere -/
theorem md_runL (X : xC dC dI dA p s m c args cc nL own) (hP : mdP dC dI dA n σ ab be H) (hM : Met l y (ws_ y bytes maxL ret) { frames := fr, cells := mc, slots := ms, locals := lo } (mdPc dC dI dA n σ ab be (.ref n :: As)) Qc mc ms free) (K : xKV own y bytes maxL ret idx k) (hC : y.cls = RX5) (hn : As.length = k) (hst : st0 = As.reverse ++ .ref n :: rest) (hR : fr + 1 ≤ R.frames ∧ 8 + (maxL + 11) + lo ≤ R.locals) (hsz : ls.size = nL) (hw : (rest.map fun v => v.category).sum ≤ 8) (hdg : decode cc pc = .ok (.invokevirtual idx, 3)) (hf : cells + mc ≤ R.cells ∧ slots + ms ≤ R.slots) :
    va_Run p l e R s m args below meth c H locs cells slots mc ms (F0 m pc ls st0) rest (Qc (Value.ref n :: As).toArray) free :=
  va_runV (As := As) (rest := rest) (nL := nL) (cc := cc) (x_fix X) hM (cwV k X.2.2.2.2.1 (lw_V K.1 K.2.1 K.2.2.1 K.2.2.2.1 K.2.2.2.2.1) rfl rfl rfl ⟨rfl, K.2.2.2.2.2⟩ hR)
    ⟨fun a U g mk q => ⟨q.1, q.2.1, rvK.moved (u := U) (U := U.calling g mk a) (Vm.Alike.refl U.vm) q.2.2⟩, by rw [hC]; exact va_recv (q0 := 0) X.2.2.2.2.2 hP (ci := 5) rfl rfl, fun U hU hW => ⟨rfl, by rw [hU]; exact hP, rvK.moved hW.alike X.2.2.2.2.2⟩⟩ rfl hn hsz hst (lv_room hw) hdg hf
end LWB
theorem mdP.keep {dC : Nat → ClassId} {dI : Nat → Nat → Nat} {dA : Nat → ClassId} {n : Nat} {σ : mdT} {ab be : Int64} {H H1 : Heap} (h : mdP dC dI dA n σ ab be H) (hk : ∀ q, mdA n q → H1[q]? = H[q]?) : mdP dC dI dA n σ ab be H1 := fun i q hq => by
  have hm : mdA n q.1 := (md_D dA n σ ab be).2 i q hq
  exact (h i q hq).kept (hk _ hm)
