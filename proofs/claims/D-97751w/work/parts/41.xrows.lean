/-! rows of the component's second walker -/
set_option maxRecDepth 100000
theorem upR (A : mdT) (a : Nat) (g : Nat → Int32) : mdR A a g a = g := va_up_self A a g
theorem upRn (A : mdT) {a i : Nat} (g : Nat → Int32) (h : i ≠ a) : mdR A a g i = A i := va_up_ne A g h
theorem stE_R (dA : Nat → ClassId) (a : Nat) (τ : mdT) (j : Nat) (g : Nat → Int32) (i : Nat) : va_up (stE dA a τ) j (stF dA a j g) i = stE dA a (mdR τ j g) i := by
  by_cases h : i = j
  · subst h; rw [va_up_self]; unfold stE; rw [upR]
  · rw [va_up_ne _ _ h]; unfold stE; rw [upRn _ _ h]
theorem sbE_R (dA : Nat → ClassId) (b : Nat) (S : mdT) (V : Nat → Option Nat) (j : Nat) (g : Nat → Int32) (i : Nat) : va_up (sbE dA b S V) j (sbF dA b V j g) i = sbE dA b (mdR S j g) V i := by
  by_cases h : i = j
  · subst h; rw [va_up_self]; unfold sbE; rw [upR]
  · rw [va_up_ne _ _ h]; unfold sbE; rw [upRn _ _ h]
theorem xE_R (dA : Nat → ClassId) (n : Nat) (ξ : mdT) (V V2 im : Nat → Option Nat) (ab be : Int64) (j : Nat) (g : Nat → Int32) (i : Nat) : va_up (xE dA n ξ V V2 im ab be) j (xF dA n V V2 im ab be j g) i = xE dA n (mdR ξ j g) V V2 im ab be i := by
  by_cases h : i = j
  · subst h; rw [va_up_self]; unfold xE; rw [upR]
  · rw [va_up_ne _ _ h]; unfold xE; rw [upRn _ _ h]
theorem xE_ab {dA : Nat → ClassId} {n : Nat} {ξ : mdT} {V V2 im : Nat → Option Nat} {ab be v : Int64} {i : Nat} : va_up (xE dA n ξ V V2 im ab be) 0 (xF dA n V V2 im v be 0 (ξ 0)) i = xE dA n ξ V V2 im v be i := by
  by_cases h : i = 0
  · subst h; rw [va_up_self]; rfl
  · rw [va_up_ne _ _ h]; unfold xE xF; rw [if_neg h, if_neg h]
theorem xE_be {dA : Nat → ClassId} {n : Nat} {ξ : mdT} {V V2 im : Nat → Option Nat} {ab be v : Int64} {i : Nat} : va_up (xE dA n ξ V V2 im ab be) 0 (xF dA n V V2 im ab v 0 (ξ 0)) i = xE dA n ξ V V2 im ab v i := by
  by_cases h : i = 0
  · subst h; rw [va_up_self]; rfl
  · rw [va_up_ne _ _ h]; unfold xE xF; rw [if_neg h, if_neg h]
theorem bk_sz {dC : Nat → ClassId} {dI : Nat → Nat → Nat} {b N : Nat} {E : Nat → va_E} {H : Heap} (h : bkP dC dI b N E H) {q : Nat} (hq : bkA b N q) : q < H.size := by
  have h1 := hq.1
  have h2 := hq.2
  have := (h (q - b) (by omega)).lt
  have h3 : b + (q - b) < H.size := this
  omega
theorem vwK_of {kd : Nat} (h : kd < 6) : ∃ (C : String) (T : u_T), vwK kd C T :=
  match kd, h with
  | 0, _ => ⟨_, _, vwK0⟩
  | 1, _ => ⟨_, _, vwK1⟩
  | 2, _ => ⟨_, _, vwK2⟩
  | 3, _ => ⟨_, _, vwK3⟩
  | 4, _ => ⟨_, _, vwK4⟩
  | 5, _ => ⟨_, _, vwK5⟩
  | (_ + 6), h => absurd h (by omega)
section XR
variable {dC : Nat → ClassId} {dI : Nat → Nat → Nat} {dA : Nat → ClassId} {T : Nat → Prop} {c n many rent rd un hs ev : Nat} {f : Nat → Int32} {V V2 im : Nat → Option Nat} {H H0 : Heap} {A σ ξ : mdT} {locs : List Loc}
theorem vw_at {a kd : Nat} {sz pr we : Int32} {A : Nat → Prop} (h : vwP dC dI a kd sz pr we H0) (hS : va_S A H0 H locs) (hT : a < H0.size ∧ ¬ A a) : vwP dC dI a kd sz pr we H := h.kept0 (hS.2.1 a hT.1 hT.2)
theorem tb_sub {b N : Nat} (hT : ∀ a, T a → a < H0.size ∧ ¬ bkA b N a) (hS : va_S (bkA b N) H0 H locs) : ∀ a, T a → a < H.size ∧ ¬ bkA b N a := fun a h => ⟨Nat.lt_of_lt_of_le (hT a h).1 hS.1, (hT a h).2⟩
theorem tb_sub2 {b N o M : Nat} {B : Nat → Prop} (hT : ∀ a, T a → a < H0.size ∧ ¬ bkA b N a) (hS : va_S B H0 H locs) (_ : 0 < M) (h2 : o + M ≤ N) : ∀ a, T a → a < H.size ∧ ¬ bkA (b + o) M a := fun a h => ⟨Nat.lt_of_lt_of_le (hT a h).1 hS.1, fun z => (hT a h).2 ⟨by have := z.1; omega, by have := z.2; omega⟩⟩
theorem xR_S {j k : Nat} {v : Int32} (h : shR c many rent rd un hs ev f (fun i => ξ (1 + i))) (hj : j = 0 ∨ 44 ≤ j) : shR c many rent rd un hs ev f (fun i => mdS ξ j k v (1 + i)) :=
  h.cg (fun i hi => mdS_row _ _ _ (by omega)) (fun _ _ => rfl)
theorem xR_I {S : mdT} (h : shR c many rent rd un hs ev f S) : shR c many rent rd un hs ev f (fun i => mdI ξ 1 43 S (1 + i)) :=
  h.cg (fun i hi => mdI_in _ _ hi) (fun _ _ => rfl)
theorem RX.mk {ab be : Int64} {ty many' : Nat} {ξ' σ' : mdT} (hP : bkP dC dI n 96 (xE dA n ξ' V V2 im ab be) H) (hR : shR c many' rent rd un hs ev (σ' 0) (fun i => ξ' (1 + i))) (ho : oR ty ξ' σ') (hk : xO dC dI dA c T n many V V2 im (fun i => ξ (44 + i)) σ H) (hA : ∀ i, i < 43 → ξ' (44 + i) = ξ (44 + i)) (hm : many' ≤ many) (h0 : ∀ v, v < many' → ∀ j, j < 4 → σ' 0 (7 + 6 * v + j) = σ 0 (7 + 6 * v + j)) (h1 : σ' 1 = σ 1) (h2 : σ' 2 = σ 2) : RX dC dI dA c n σ' ab be H := by
  refine ⟨T, ξ', V, V2, im, many', rent, rd, un, hs, ev, ty, hP, hR, ho, ⟨hk.1.1, fun v hv => ?_⟩, hk.2.1.cg hA, by rw [h1, h2]; exact hk.2.2.1, hk.2.2.2⟩
  obtain ⟨a, kd, g1, g2, g3, g4, g5⟩ := hk.1.2 v (by omega)
  have e0 := h0 v hv 0 (by omega)
  rw [Nat.add_zero] at e0
  exact ⟨a, kd, g1, g2, g3, by rw [e0]; exact g4, by rw [h0 v hv 1 (by omega), h0 v hv 2 (by omega), h0 v hv 3 (by omega)]; exact g5⟩
theorem RX.o {ab be : Int64} {ty : Nat} {ξ' σ' : mdT} (hP : bkP dC dI n 96 (xE dA n ξ' V V2 im ab be) H) (hR : shR c many rent rd un hs ev (σ 0) (fun i => ξ' (1 + i))) (ho : oR ty ξ' σ') (hk : xO dC dI dA c T n many V V2 im (fun i => ξ (44 + i)) σ H) (hA : ∀ i, i < 43 → ξ' (44 + i) = ξ (44 + i)) (h0 : σ' 0 = σ 0) (h1 : σ' 1 = σ 1) (h2 : σ' 2 = σ 2) : RX dC dI dA c n σ' ab be H :=
  RX.mk hP (by rw [h0]; exact hR) ho hk hA (Nat.le_refl _) (fun _ _ _ _ => by rw [h0]) h1 h2
theorem RX.kept {ab be : Int64} (h : RX dC dI dA c n σ ab be H0) (hz : H0.size ≤ H.size) (hk : ∀ q, q < H0.size → ¬ mdA (n + 96) q → H[q]? = H0[q]?) : RX dC dI dA c n σ ab be H := by
  obtain ⟨T, ξ, V, V2, im, many, rent, rd, un, hs, ev, ty, hP, hR, ho, hO⟩ := h
  refine ⟨T, ξ, V, V2, im, many, rent, rd, un, hs, ev, ty, hP.kept (fun q hq => hk q (bk_sz hP hq) (fun z => ?_)), hR, ho, hO.kept hz (fun q h1 h2 => hk q h1 (fun z => h2 ⟨?_, ?_⟩))⟩
  · have := hq.2; have := z.1; omega
  · have := z.1; omega
  · have := z.2; omega
theorem RX.up {ab be : Int64} {c' : Nat} (h : RX dC dI dA c n σ ab be H) (hc : c ≤ c') : RX dC dI dA c' n σ ab be H := by
  obtain ⟨T, ξ, V, V2, im, many, rent, rd, un, hs, ev, ty, hP, hR, ho, hO⟩ := h
  exact ⟨T, ξ, V, V2, im, many, rent, rd, un, hs, ev, ty, hP, hR.up hc, ho, hO.up hc⟩
theorem oR.b {ty k : Nat} (h : oR ty ξ σ) (hk : k < 3) : oR ty (mdS ξ 89 k (ξ 89 k + nI 1)) (mdS σ 3 k (σ 3 k + nI 1)) := by
  obtain ⟨h1, h2, h3, h4, h5⟩ := h
  refine ⟨h1, h2, h3, fun i hi => h4 i hi, fun i hi => ?_⟩
  rw [mdS_at, mdS_at]
  by_cases e : i = k
  · subst e; rw [if_pos ⟨rfl, rfl⟩, if_pos ⟨rfl, rfl⟩, h5 i hk]
  · rw [if_neg (fun z => e z.2), if_neg (fun z => e z.2)]; exact h5 i hi
end XR
theorem xR_T {c many rent rd un hs ev j k : Nat} {f : Nat → Int32} {ξ : mdT} {v : Int32} (h : shR c many rent rd un hs ev f (mdS (fun i => ξ (1 + i)) j k v)) : shR c many rent rd un hs ev f (fun i => mdS ξ (1 + j) k v (1 + i)) :=
  h.cg (fun i _ => by
    funext q
    rw [mdS_at, mdS_at]
    by_cases e : i = j ∧ q = k
    · rw [if_pos ⟨by omega, e.2⟩, if_pos e]
    · rw [if_neg (fun z => e ⟨by omega, z.2⟩), if_neg e]) (fun _ _ => rfl)
theorem oR.cg {ty : Nat} {ξ ξ' σ σ' : mdT} (h : oR ty ξ σ) (h1 : ξ' 0 0 = ξ 0 0) (h2 : ξ' 88 = ξ 88) (h3 : ξ' 89 = ξ 89) (h4 : σ' 15 5 = σ 15 5) (h5 : σ' 12 = σ 12) (h6 : σ' 3 = σ 3) : oR ty ξ' σ' := by
  unfold oR
  rw [h1, h2, h3, h4, h5, h6]
  exact h
section XP
variable {p : Program} {l : Launch} {e : Env} {R : Room} {s : State} {m : MethodId} {args : Array Value} {below : List Frame} {meth : Method} {c_ : Code} {H : Heap} {locs : List Loc} {cells slots mc ms : Nat} {Q : State → Prop}
variable {cc : ByteArray} {pc nL : Nat} {ls : Array Slot} {rest st0 : List Value} {dC : Nat → ClassId} {dI : Nat → Nat → Nat} {dA : Nat → ClassId} {own : String} {A : Nat → Prop}
variable {y : MethodName} {bytes : ByteArray} {maxL idx k fr lo : Nat} {ret : Option FieldType} {As : List Value}
theorem x_vq {o : Option Nat} {a : Nat} (h : o = some a) (kk : W p l e R s m args below meth c_ H locs cells slots Q (F0 m pc ls (.ref a :: rest))) : W p l e R s m args below meth c_ H locs cells slots Q (F0 m pc ls (va_rf o :: rest)) := by
  rw [h]; exact kk
theorem x_pi {q : Int32 × mdT} {v : Int32} {σ' : mdT} {c n : Nat} {ab be : Int64} (hq : q = (v, σ')) (X : xC dC dI dA p s m c_ args cc nL own) (hr : meth.sig.returnType = some .int) (hlk : meth.locks = false) (hS : va_S A s.heap H locs) (hdg : decode cc pc = .ok (.ireturn, 1)) (hP : RX dC dI dA c n σ' ab be H) : W p l e R s m args below meth c_ H locs cells slots (MQ below (xQi (S := Unit) (fun r _ => r = q.1) (fun _ => RX dC dI dA c n q.2 ab be) A) args s cells slots A) (F0 m pc ls [.int v]) := by
  subst hq
  exact x_ri () X hr hlk hS hdg rfl hP
theorem x_pl {q : Int64 × mdT} {v : Int64} {σ' : mdT} {c n : Nat} {ab be : Int64} (hq : q = (v, σ')) (X : xC dC dI dA p s m c_ args cc nL own) (hr : meth.sig.returnType = some .long) (hlk : meth.locks = false) (hS : va_S A s.heap H locs) (hdg : decode cc pc = .ok (.lreturn, 1)) (hP : RX dC dI dA c n σ' ab be H) : W p l e R s m args below meth c_ H locs cells slots (MQ below (xQl (S := Unit) (fun r _ => r = q.1) (fun _ => RX dC dI dA c n q.2 ab be) A) args s cells slots A) (F0 m pc ls [.long v]) := by
  subst hq
  exact x_rl () X hr hlk hS hdg rfl hP
theorem rv_sSx {v : Int32} (S : CallFix p m c_ cc nL s args lw_all own) (hM : Met l y (ws_ y bytes maxL ret) { frames := fr, cells := 0, slots := 0, locals := lo } (fun v _ => v = As.toArray) (vp_Si (fun r => r = v)) 0 0 (fun _ => False)) (K : xKS own y bytes maxL ret idx k) (hn : As.length = k) (hst : st0 = As.reverse ++ rest) (hR : fr + 1 ≤ R.frames ∧ 8 + (maxL + 11) + lo ≤ R.locals) (hsz : ls.size = nL) (hw : (rest.map fun v => v.category).sum ≤ 8) (hdg : decode cc pc = .ok (.invokestatic idx, 3))
    (kk : W p l e R s m args below meth c_ H locs 0 0 Q (F0 m (pc + 3) ls (.int v :: rest))) : W p l e R s m args below meth c_ H locs 0 0 Q (F0 m pc ls st0) :=
  vp_callSi (W.runS (As := As) (rest := rest) (nL := nL) (cc := cc) S hM (va_cwS k S.2.2.2.2 (lw_S K.1 K.2.1 K.2.2.1 K.2.2.2.1) rfl rfl rfl K.2.2.2.2 hR) preEq rfl hn hsz hst (lv_room hw) hdg md_0) (fun r er => by rw [er]; exact kk)
end XP
