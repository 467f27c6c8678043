/-! the component's methods: calls that change, ends -/
set_option maxRecDepth 100000
section XE
variable {p : Program} {l : Launch} {e : Env} {R : Room} {s : State} {m : MethodId} {args : Array Value} {below : List Frame} {meth : Method} {c : Code} {H : Heap} {locs : List Loc} {cells slots mc ms : Nat} {Q : State → Prop}
variable {cc : ByteArray} {pc nL : Nat} {ls : Array Slot} {rest st0 : List Value} {dC : Nat → ClassId} {dI : Nat → Nat → Nat} {dA : Nat → ClassId} {H0 : Heap} {own : String} {A A0 A1 free : Nat → Prop}
variable {S : Type}
abbrev xQi (post : Int32 → S → Prop) (P1 : S → Heap → Prop) (A : Nat → Prop) : Array Value → State → Outcome → State → Prop := va_Qi post (fun u t => P1 u t.heap) A
abbrev xQl (post : Int64 → S → Prop) (P1 : S → Heap → Prop) (A : Nat → Prop) : Array Value → State → Outcome → State → Prop := va_Ql post (fun u t => P1 u t.heap) A
abbrev xQv (post : S → Prop) (P1 : S → Heap → Prop) (A : Nat → Prop) : Array Value → State → Outcome → State → Prop := va_Qv post (fun u t => P1 u t.heap) A
abbrev xQr (post : S → Prop) (P1 : S → Nat → Heap → Prop) (A : Nat → Prop) : Array Value → State → Outcome → State → Prop := va_Qr post (fun u r t => P1 u r t.heap) A
/-- one way to end, said exactly -/
abbrev xEi (v : Int32) (P1 : Heap → Prop) (A : Nat → Prop) := xQi (S := Unit) (fun r _ => r = v) (fun _ => P1) A
abbrev xEv (P1 : Heap → Prop) (A : Nat → Prop) := xQv (S := Unit) (fun _ => True) (fun _ => P1) A
theorem x_ri {post : Int32 → S → Prop} {P1 : S → Heap → Prop} {v : Int32} (u : S) (X : xC dC dI dA p s m c args cc nL own) (hr : meth.sig.returnType = some .int) (hlk : meth.locks = false) (hS : va_S A s.heap H locs) (hdg : decode cc pc = .ok (.ireturn, 1)) (hp : post v u) (hP : P1 u H) : W p l e R s m args below meth c H locs cells slots (MQ below (xQi post P1 A) args s cells slots A) (F0 m pc ls [.int v]) :=
  W.iret X.1 X.2.1 hr (fun t ht _ => ⟨⟨v, u, rfl, hp, (show P1 u t.heap by rw [ht]; exact hP)⟩, hS.F ht⟩) hS.2.2 hdg hlk
theorem x_rz {post : Int32 → S → Prop} {P1 : S → Heap → Prop} {v : Int32} (u : S) (X : xC dC dI dA p s m c args cc nL own) (hr : meth.sig.returnType = some .boolean) (hlk : meth.locks = false) (hn : narrow .boolean (.int v) = .int v) (hS : va_S A s.heap H locs) (hdg : decode cc pc = .ok (.ireturn, 1)) (hp : post v u) (hP : P1 u H) : W p l e R s m args below meth c H locs cells slots (MQ below (xQi post P1 A) args s cells slots A) (F0 m pc ls [.int v]) :=
  W.zret X.1 X.2.1 hr hn (fun t ht _ => ⟨⟨v, u, rfl, hp, (show P1 u t.heap by rw [ht]; exact hP)⟩, hS.F ht⟩) hS.2.2 hdg hlk
theorem x_rl {post : Int64 → S → Prop} {P1 : S → Heap → Prop} {v : Int64} (u : S) (X : xC dC dI dA p s m c args cc nL own) (hr : meth.sig.returnType = some .long) (hlk : meth.locks = false) (hS : va_S A s.heap H locs) (hdg : decode cc pc = .ok (.lreturn, 1)) (hp : post v u) (hP : P1 u H) : W p l e R s m args below meth c H locs cells slots (MQ below (xQl post P1 A) args s cells slots A) (F0 m pc ls [.long v]) :=
  W.lret X.1 X.2.1 hr (fun t ht _ => ⟨⟨v, u, rfl, hp, (show P1 u t.heap by rw [ht]; exact hP)⟩, hS.F ht⟩) hS.2.2 hdg hlk
theorem x_rv {post : S → Prop} {P1 : S → Heap → Prop} (u : S) (X : xC dC dI dA p s m c args cc nL own) (hr : meth.sig.returnType = none) (hlk : meth.locks = false) (hS : va_S A s.heap H locs) (hdg : decode cc pc = .ok (.return_, 1)) (hp : post u) (hP : P1 u H) : W p l e R s m args below meth c H locs cells slots (MQ below (xQv post P1 A) args s cells slots A) (F0 m pc ls []) :=
  W.vret X.1 X.2.1 hr (fun t ht _ => ⟨⟨u, rfl, hp, (show P1 u t.heap by rw [ht]; exact hP)⟩, hS.F ht⟩) hS.2.2 hdg hlk
/-- behind a call -/
theorem x_cWi {post : Int32 → S → Prop} {P1 : S → Heap → Prop} {a : Array Value} (hr : va_Run p l e R s m args below meth c H locs cells slots mc ms (F0 m pc ls st0) rest (xQi post P1 A1 a) free) (hS : va_S A0 H0 H locs) (hA : ∀ q, A1 q → A0 q) (hf : ∀ q, free q → A0 q)
    (kk : ∀ (r : Int32) (u : S) (H1 : Heap) (locs1 : List Loc), post r u → P1 u H1 → H.size ≤ H1.size → (∀ q : Nat, q < H.size → ¬ A1 q → H1[q]? = H[q]?) → va_S A0 H0 H1 locs1 → W p l e R s m args below meth c H1 locs1 (cells + mc) (slots + ms) Q (F0 m (pc + 3) ls (.int r :: rest))) : W p l e R s m args below meth c H locs cells slots Q (F0 m pc ls st0) :=
  va_calli hr hS (fun q _ h => hA q h) hf (fun r u t H1 locs1 ht _ hp hB hz hk hS1 => kk r u H1 locs1 hp (by rw [← ht]; exact hB) hz hk hS1)
theorem x_cWv {post : S → Prop} {P1 : S → Heap → Prop} {a : Array Value} (hr : va_Run p l e R s m args below meth c H locs cells slots mc ms (F0 m pc ls st0) rest (xQv post P1 A1 a) free) (hS : va_S A0 H0 H locs) (hA : ∀ q, A1 q → A0 q) (hf : ∀ q, free q → A0 q)
    (kk : ∀ (u : S) (H1 : Heap) (locs1 : List Loc), post u → P1 u H1 → H.size ≤ H1.size → (∀ q : Nat, q < H.size → ¬ A1 q → H1[q]? = H[q]?) → va_S A0 H0 H1 locs1 → W p l e R s m args below meth c H1 locs1 (cells + mc) (slots + ms) Q (F0 m (pc + 3) ls rest)) : W p l e R s m args below meth c H locs cells slots Q (F0 m pc ls st0) :=
  va_callv hr hS (fun q _ h => hA q h) hf (fun u t H1 locs1 ht _ hp hB hz hk hS1 => kk u H1 locs1 hp (by rw [← ht]; exact hB) hz hk hS1)
theorem x_cWr {post : S → Prop} {P1 : S → Nat → Heap → Prop} {a : Array Value} (hr : va_Run p l e R s m args below meth c H locs cells slots mc ms (F0 m pc ls st0) rest (xQr post P1 A1 a) free) (hS : va_S A0 H0 H locs) (hA : ∀ q, A1 q → A0 q) (hf : ∀ q, free q → A0 q)
    (kk : ∀ (u : S) (ra : Nat) (H1 : Heap) (locs1 : List Loc), post u → P1 u ra H1 → H.size ≤ H1.size → (∀ q : Nat, q < H.size → ¬ A1 q → H1[q]? = H[q]?) → va_S A0 H0 H1 locs1 → W p l e R s m args below meth c H1 locs1 (cells + mc) (slots + ms) Q (F0 m (pc + 3) ls (.ref ra :: rest))) : W p l e R s m args below meth c H locs cells slots Q (F0 m pc ls st0) :=
  va_callr hr hS (fun q _ h => hA q h) hf (fun u ra t H1 locs1 ht _ hp hB hz hk hS1 => kk u ra H1 locs1 hp (by rw [← ht]; exact hB) hz hk hS1)
end XE
section XL
variable (dA : Nat → ClassId) (n b a : Nat) (ξ S τ : mdT) (V V2 im : Nat → Option Nat) (ab be : Int64)
theorem xe_t0 : stE dA a τ 0 = .inr (2, [.ref (a + 1), .ref (a + 2), .int (τ 0 0), .int (τ 0 1), .ref (a + 3), .int (τ 0 2)]) := rfl
theorem xe_s0 : sbE dA b S V 0 = .inr (1, [.ref (b + 1), .ref (b + 2), .int (S 0 0), .ref (b + 3), .ref (b + 4), .int (S 0 1), .ref (b + 5), .int (S 0 2), .ref (b + 6), .ref (b + 10), .int (S 0 3)]) := rfl
theorem xe_s6 : sbE dA b S V 6 = .inr (2, [.ref (b + 7), .ref (b + 8), .int (S 6 0), .int (S 6 1), .ref (b + 9), .int (S 6 2)]) := rfl
theorem xe_x0 : xE dA n ξ V V2 im ab be 0 = .inr (0, [.ref (n + 1), .ref (n + 44), .ref (n + 87), .ref (n + 88), .int (ξ 0 0), .ref (n + 89), .long ab, .long be, .ref (n + 90), .ref (n + 91), .int (ξ 0 1), .int (ξ 0 2), .ref (n + 94), .ref (n + 95)]) := rfl
theorem xe_x1 : xE dA n ξ V V2 im ab be 1 = .inr (1, [.ref (n + 2), .ref (n + 3), .int (ξ 1 0), .ref (n + 4), .ref (n + 5), .int (ξ 1 1), .ref (n + 6), .int (ξ 1 2), .ref (n + 7), .ref (n + 11), .int (ξ 1 3)]) := rfl
theorem xe_x7 : xE dA n ξ V V2 im ab be 7 = .inr (2, [.ref (n + 8), .ref (n + 9), .int (ξ 7 0), .int (ξ 7 1), .ref (n + 10), .int (ξ 7 2)]) := rfl
theorem xe_x44 : xE dA n ξ V V2 im ab be 44 = .inr (1, [.ref (n + 45), .ref (n + 46), .int (ξ 44 0), .ref (n + 47), .ref (n + 48), .int (ξ 44 1), .ref (n + 49), .int (ξ 44 2), .ref (n + 50), .ref (n + 54), .int (ξ 44 3)]) := rfl
theorem xe_x90 : xE dA n ξ V V2 im ab be 90 = .inr (3, [.int (ξ 90 0), .int (ξ 90 1), .int (ξ 90 2), .int (ξ 90 3), .int (ξ 90 4), .ref n]) := rfl
theorem xe_x91 : xE dA n ξ V V2 im ab be 91 = .inr (4, [.ref (n + 92), .ref (n + 93), .int (ξ 91 0), .int (ξ 91 1), .int (ξ 91 2), .ref n]) := rfl
end XL
