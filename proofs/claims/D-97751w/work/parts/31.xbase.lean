/-! blocks: cells that lie one behind the other, from b on, N of them, by their places -/
set_option maxRecDepth 100000
def bkW (b N : Nat) (E : Nat → va_E) : va_W := (List.range N).map (fun j => (b + j, E j))
def bkA (b N : Nat) : Nat → Prop := fun q => b ≤ q ∧ q < b + N
def bkP (dC : Nat → ClassId) (dI : Nat → Nat → Nat) (b N : Nat) (E : Nat → va_E) (H : Heap) : Prop := ∀ j, j < N → va_at (dC, dI) rvCl (b + j, E j) H
theorem bk_at (b N : Nat) (E : Nat → va_E) {j : Nat} (h : j < N) : (bkW b N E)[j]? = some (b + j, E j) := by
  unfold bkW
  rw [List.getElem?_map, List.getElem?_range h]
  rfl
theorem bk_in {b N : Nat} {E : Nat → va_E} {j : Nat} {q : Nat × va_E} (h : (bkW b N E)[j]? = some q) : j < N ∧ q = (b + j, E j) := by
  have hl : j < N := by
    have := (List.getElem?_eq_some_iff.mp h).1
    unfold bkW at this
    rw [List.length_map, List.length_range] at this
    exact this
  rw [bk_at b N E hl] at h
  exact ⟨hl, (Option.some.inj h).symm⟩
theorem bkP.P {dC : Nat → ClassId} {dI : Nat → Nat → Nat} {b N : Nat} {E : Nat → va_E} {H : Heap} (h : bkP dC dI b N E H) : va_P (dC, dI) rvCl (bkW b N E) H := fun k q hk => by
  obtain ⟨h1, h2⟩ := bk_in hk
  rw [h2]
  exact h k h1
theorem bkP.of {dC : Nat → ClassId} {dI : Nat → Nat → Nat} {b N : Nat} {E : Nat → va_E} {H : Heap} (h : va_P (dC, dI) rvCl (bkW b N E) H) : bkP dC dI b N E H := fun j hj => h j _ (bk_at b N E hj)
theorem bk_D {A : Nat → Prop} (b N : Nat) (E : Nat → va_E) (hA : ∀ q, bkA b N q → A q) : va_D A (bkW b N E) := by
  refine ⟨fun i j x y hi hj hxy => ?_, fun k q hk => ?_⟩
  · obtain ⟨h1, h2⟩ := bk_in hi
    obtain ⟨h3, h4⟩ := bk_in hj
    rw [h2, h4] at hxy
    have : b + i = b + j := hxy
    omega
  · obtain ⟨h1, h2⟩ := bk_in hk
    rw [h2]
    exact hA _ ⟨by show b ≤ b + k; omega, by show b + k < b + N; omega⟩
theorem bk_set (b N : Nat) (E : Nat → va_E) {j : Nat} (e : va_E) : (bkW b N E).set j (b + j, e) = bkW b N (va_up E j e) := by
  refine List.ext_getElem? (fun i => ?_)
  rw [List.getElem?_set]
  by_cases h : j = i
  · subst h
    rw [if_pos rfl]
    by_cases hj : j < N
    · rw [if_pos (by unfold bkW; simpa using hj), bk_at _ _ _ hj, va_up_self]
    · rw [if_neg (by unfold bkW; simpa using hj)]
      unfold bkW
      simp [hj]
  · rw [if_neg h]
    unfold bkW
    rw [List.getElem?_map, List.getElem?_map]
    by_cases hi : i < N
    · rw [List.getElem?_range hi]
      show some (b + i, E i) = some (b + i, va_up E j e i)
      rw [va_up_ne _ _ (Ne.symm h)]
    · rw [List.getElem?_eq_none (by simpa using hi)]
      rfl
theorem bkP.kept {dC : Nat → ClassId} {dI : Nat → Nat → Nat} {b N : Nat} {E : Nat → va_E} {H H1 : Heap} (h : bkP dC dI b N E H) (hq : ∀ q, bkA b N q → H1[q]? = H[q]?) : bkP dC dI b N E H1 := fun j hj => (h j hj).kept (hq _ ⟨by show b ≤ b + j; omega, by show b + j < b + N; omega⟩)
theorem bkP.e {dC : Nat → ClassId} {dI : Nat → Nat → Nat} {b N : Nat} {E F : Nat → va_E} {H : Heap} (h : bkP dC dI b N E H) (he : ∀ j, j < N → E j = F j) : bkP dC dI b N F H := fun j hj => by rw [← he j hj]; exact h j hj
theorem bkP.lt {dC : Nat → ClassId} {dI : Nat → Nat → Nat} {b N : Nat} {E : Nat → va_E} {H : Heap} (h : bkP dC dI b N E H) (hN : 0 < N) : b + N ≤ H.size := by
  have := (h (N - 1) (by omega)).lt
  have h2 : b + (N - 1) < H.size := this
  omega
theorem bkP.sub {dC : Nat → ClassId} {dI : Nat → Nat → Nat} {b N : Nat} {E : Nat → va_E} {H : Heap} (h : bkP dC dI b N E H) (o M : Nat) (hM : o + M ≤ N) : bkP dC dI (b + o) M (fun j => E (o + j)) H := fun j hj => by
  have := h (o + j) (by omega)
  rw [Nat.add_assoc]
  exact this
theorem bkP.join {dC : Nat → ClassId} {dI : Nat → Nat → Nat} {b N M : Nat} {E F : Nat → va_E} {H : Heap} (h : bkP dC dI b N E H) (g : bkP dC dI (b + N) M F H) : bkP dC dI b (N + M) (fun j => if j < N then E j else F (j - N)) H := fun j hj => by
  by_cases hl : j < N
  · show va_at (dC, dI) rvCl (b + j, if j < N then E j else F (j - N)) H
    rw [if_pos hl]; exact h j hl
  · show va_at (dC, dI) rvCl (b + j, if j < N then E j else F (j - N)) H
    rw [if_neg hl]
    have := g (j - N) (by omega)
    rw [show b + N + (j - N) = b + j by omega] at this
    exact this
/-- int arrays, arrays of references -/
abbrev xI (dA : Nat → ClassId) (n : Nat) (f : Nat → Int32) : va_E := .inl (dA 0, n, .inl f)
abbrev xZ (dA : Nat → ClassId) (n : Nat) (f : Nat → Int32) : va_E := .inl (dA 1, n, .inl f)
abbrev xY (dA : Nat → ClassId) (n : Nat) (f : Nat → Int32) : va_E := .inl (dA 2, n, .inl f)
abbrev xQ (dA : Nat → ClassId) (t n : Nat) (f : Nat → Option Nat) : va_E := .inl (dA t, n, .inr (.inr (.inr (.inr f))))
/-- what a walk stands on -/
def xC (dC : Nat → ClassId) (dI : Nat → Nat → Nat) (dA : Nat → ClassId) (p : Program) (s : State) (m : MethodId) (c : Code) (args : Array Value) (cc : ByteArray) (nL : Nat) (own : String) : Prop :=
  p.tables.exec = Jvm.exec ∧ c.code = cc ∧ c.maxLocals = nL ∧ s.vm.findClass own = some m.cls ∧ (∀ w ∈ lw_all, w.before args s = true) ∧ rvK dC dI dA s
section XB
variable {p : Program} {l : Launch} {e : Env} {R : Room} {s : State} {m : MethodId} {args : Array Value} {below : List Frame} {meth : Method} {c : Code} {H : Heap} {locs : List Loc} {cells slots : Nat} {Q : State → Prop}
variable {cc : ByteArray} {pc nL : Nat} {ls : Array Slot} {rest : List Value} {dC : Nat → ClassId} {dI : Nat → Nat → Nat} {dA : Nat → ClassId} {b N j : Nat} {E E' : Nat → va_E} {H0 : Heap} {A : Nat → Prop} {own : String}
theorem xb_get {C : String} {T : u_T} {NN ci index : Nat} (X : xC dC dI dA p s m c args cc nL own) (hin : ∀ w ∈ u_ws C T NN, w ∈ lw_all) (hc : rvCl[ci]? = some (C, T, NN)) (hP : bkP dC dI b N E H) (hj : j < N) {fs : List Value} (he : E j = .inr (ci, fs)) (k : Nat) (hk : k < NN) (hl : Cond.fieldLink own index C (T k).2.1 (T k).2.2.1 ∈ lw_all) (hT : (T k).1 = C) {v : Value} (hv : fs[k]? = some v) (hdg : decode cc pc = .ok (.getfield index, 3))
    (kk : W p l e R s m args below meth c H locs cells slots Q (F0 m (pc + 3) ls (v :: rest))) : W p l e R s m args below meth c H locs cells slots Q (F0 m pc ls (.ref (b + j) :: rest)) :=
  va_get (ref := C) X.1 X.2.1 X.2.2.2.2.1 hin X.2.2.2.1 X.2.2.2.2.2 hP.P j (by rw [bk_at b N E hj, he]) hc k hk (X.2.2.2.2.1 _ hl) (fun x h => by rw [hT] at h; exact h) hv hdg kk
theorem xb_getN {C host : String} {T : u_T} {NN ci index : Nat} (X : xC dC dI dA p s m c args cc nL own) (hin : ∀ w ∈ u_ws C T NN, w ∈ lw_all) (hc : rvCl[ci]? = some (C, T, NN)) (hP : bkP dC dI b N E H) (hj : j < N) {fs : List Value} (he : E j = .inr (ci, fs)) (k : Nat) (hk : k < NN) (hl : va_Nw (Cond.fieldLinkNest own index C (T k).2.1 (T k).2.2.1 host) s) (hT : (T k).1 = C) {v : Value} (hv : fs[k]? = some v) (hdg : decode cc pc = .ok (.getfield index, 3))
    (kk : W p l e R s m args below meth c H locs cells slots Q (F0 m (pc + 3) ls (v :: rest))) : W p l e R s m args below meth c H locs cells slots Q (F0 m pc ls (.ref (b + j) :: rest)) :=
  va_getN (ref := C) (host := host) X.1 X.2.1 X.2.2.2.2.1 hin X.2.2.2.1 X.2.2.2.2.2 hP.P j (by rw [bk_at b N E hj, he]) hc k hk (va_Nw.use rfl hl) (fun x h => by rw [hT] at h; exact h) hv hdg kk
theorem xb_put {C : String} {T : u_T} {NN ci index : Nat} (X : xC dC dI dA p s m c args cc nL own) (hin : ∀ w ∈ u_ws C T NN, w ∈ lw_all) (ty0 : Nat → FieldType) (hty : ∀ k, k < NN → parseFieldDescriptor (T k).2.2.1 = some (ty0 k)) (hnm : ∀ a, a < NN → ∀ b, b < NN → a ≠ b → (T a).2.1 ≠ (T b).2.1) (hc : rvCl[ci]? = some (C, T, NN)) (hP : bkP dC dI b N E H) (hA : ∀ q, bkA b N q → A q) (hS : va_S A H0 H locs) (hj : j < N) {fs : List Value} (he : E j = .inr (ci, fs)) (k : Nat) (hk : k < NN) (hl : Cond.fieldLink own index C (T k).2.1 (T k).2.2.1 ∈ lw_all) (hT : (T k).1 = C) (hF : (T k).2.2.2 = false) {ty : FieldType} {v : Value} (hd : parseFieldDescriptor (T k).2.2.1 = some ty) (hn : narrow ty v = v) (hfit : fits ty v = true) (hlen : k < fs.length) (hE : ∀ i, i < N → va_up E j (.inr (ci, fs.set k v)) i = E' i) (hdg : decode cc pc = .ok (.putfield index, 3))
    (kk : ∀ (H1 : Heap) (locs1 : List Loc), bkP dC dI b N E' H1 → va_S A H0 H1 locs1 → W p l e R s m args below meth c H1 locs1 cells slots Q (F0 m (pc + 3) ls rest)) : W p l e R s m args below meth c H locs cells slots Q (F0 m pc ls (v :: .ref (b + j) :: rest)) :=
  va_put (ref := C) X.1 X.2.1 X.2.2.2.2.1 hin ty0 hty hnm X.2.2.2.1 X.2.2.2.2.2 hP.P (bk_D b N E hA) hS j (by rw [bk_at b N E hj, he]) hc k hk (X.2.2.2.2.1 _ hl) (fun x h => by rw [hT] at h; exact h) hF hd hn hfit hlen hdg (fun H1 locs1 h1 _ h3 => kk H1 locs1 (by rw [bk_set] at h1; exact (bkP.of h1).e hE) h3)
theorem xb_putN {C host : String} {T : u_T} {NN ci index : Nat} (X : xC dC dI dA p s m c args cc nL own) (hin : ∀ w ∈ u_ws C T NN, w ∈ lw_all) (ty0 : Nat → FieldType) (hty : ∀ k, k < NN → parseFieldDescriptor (T k).2.2.1 = some (ty0 k)) (hnm : ∀ a, a < NN → ∀ b, b < NN → a ≠ b → (T a).2.1 ≠ (T b).2.1) (hc : rvCl[ci]? = some (C, T, NN)) (hP : bkP dC dI b N E H) (hA : ∀ q, bkA b N q → A q) (hS : va_S A H0 H locs) (hj : j < N) {fs : List Value} (he : E j = .inr (ci, fs)) (k : Nat) (hk : k < NN) (hl : va_Nw (Cond.fieldLinkNest own index C (T k).2.1 (T k).2.2.1 host) s) (hT : (T k).1 = C) (hF : (T k).2.2.2 = false) {ty : FieldType} {v : Value} (hd : parseFieldDescriptor (T k).2.2.1 = some ty) (hn : narrow ty v = v) (hfit : fits ty v = true) (hlen : k < fs.length) (hE : ∀ i, i < N → va_up E j (.inr (ci, fs.set k v)) i = E' i) (hdg : decode cc pc = .ok (.putfield index, 3))
    (kk : ∀ (H1 : Heap) (locs1 : List Loc), bkP dC dI b N E' H1 → va_S A H0 H1 locs1 → W p l e R s m args below meth c H1 locs1 cells slots Q (F0 m (pc + 3) ls rest)) : W p l e R s m args below meth c H locs cells slots Q (F0 m pc ls (v :: .ref (b + j) :: rest)) :=
  va_putN (ref := C) (host := host) X.1 X.2.1 X.2.2.2.2.1 hin ty0 hty hnm X.2.2.2.1 X.2.2.2.2.2 hP.P (bk_D b N E hA) hS j (by rw [bk_at b N E hj, he]) hc k hk (va_Nw.use rfl hl) (fun x h => by rw [hT] at h; exact h) hF hd hn hfit hlen hdg (fun H1 locs1 h1 _ h3 => kk H1 locs1 (by rw [bk_set] at h1; exact (bkP.of h1).e hE) h3)
theorem xb_putF {C : String} {T : u_T} {NN ci index : Nat} (X : xC dC dI dA p s m c args cc nL own) (hin : ∀ w ∈ u_ws C T NN, w ∈ lw_all) (ty0 : Nat → FieldType) (hty : ∀ k, k < NN → parseFieldDescriptor (T k).2.2.1 = some (ty0 k)) (hnm : ∀ a, a < NN → ∀ b, b < NN → a ≠ b → (T a).2.1 ≠ (T b).2.1) (hc : rvCl[ci]? = some (C, T, NN)) (hP : bkP dC dI b N E H) (hA : ∀ q, bkA b N q → A q) (hS : va_S A H0 H locs) (hj : j < N) {fs : List Value} (he : E j = .inr (ci, fs)) (k : Nat) (hk : k < NN) (hl : Cond.fieldLink own index C (T k).2.1 (T k).2.2.1 ∈ lw_all) (hT : (T k).1 = C) (hF : (T k).2.2.2 = true) (hin2 : meth.name = "<init>") (hdecl : (T k).1 = own) {ty : FieldType} {v : Value} (hd : parseFieldDescriptor (T k).2.2.1 = some ty) (hn : narrow ty v = v) (hfit : fits ty v = true) (hlen : k < fs.length) (hE : ∀ i, i < N → va_up E j (.inr (ci, fs.set k v)) i = E' i) (hdg : decode cc pc = .ok (.putfield index, 3))
    (kk : ∀ (H1 : Heap) (locs1 : List Loc), bkP dC dI b N E' H1 → va_S A H0 H1 locs1 → W p l e R s m args below meth c H1 locs1 cells slots Q (F0 m (pc + 3) ls rest)) : W p l e R s m args below meth c H locs cells slots Q (F0 m pc ls (v :: .ref (b + j) :: rest)) :=
  va_putF (ref := C) X.1 X.2.1 X.2.2.2.2.1 hin ty0 hty hnm X.2.2.2.1 X.2.2.2.2.2 hP.P (bk_D b N E hA) hS j (by rw [bk_at b N E hj, he]) hc k hk (X.2.2.2.2.1 _ hl) (fun x h => by rw [hT] at h; exact h) hF hin2 hdecl hd hn hfit hlen hdg (fun H1 locs1 h1 _ h3 => kk H1 locs1 (by rw [bk_set] at h1; exact (bkP.of h1).e hE) h3)
theorem xb_iald (X : xC dC dI dA p s m c args cc nL own) (hP : bkP dC dI b N E H) (hj : j < N) {n : Nat} {f : Nat → Int32} (he : E j = xI dA n f) {k : Nat} (hk : k < n) (hn : n < 2 ^ 31) (hdg : decode cc pc = .ok (.iaload, 1))
    (kk : W p l e R s m args below meth c H locs cells slots Q (F0 m (pc + 1) ls (.int (f k) :: rest))) : W p l e R s m args below meth c H locs cells slots Q (F0 m pc ls (.int (nI k) :: .ref (b + j) :: rest)) :=
  va_iald X.1 X.2.1 X.2.2.2.2.2 hP.P j 0 (by rw [bk_at b N E hj, he]) rfl (vp_in_nI hk hn) hdg (by rw [nI_clamp (by omega)]; exact kk)
theorem xb_zald (X : xC dC dI dA p s m c args cc nL own) (hP : bkP dC dI b N E H) (hj : j < N) {n : Nat} {f : Nat → Int32} (he : E j = xZ dA n f) {k : Nat} (hk : k < n) (hn : n < 2 ^ 31) (hdg : decode cc pc = .ok (.baload, 1))
    (kk : W p l e R s m args below meth c H locs cells slots Q (F0 m (pc + 1) ls (.int (f k) :: rest))) : W p l e R s m args below meth c H locs cells slots Q (F0 m pc ls (.int (nI k) :: .ref (b + j) :: rest)) :=
  va_zald X.1 X.2.1 X.2.2.2.2.2 hP.P j 1 (by rw [bk_at b N E hj, he]) rfl (vp_in_nI hk hn) hdg (by rw [nI_clamp (by omega)]; exact kk)
theorem xb_bald (X : xC dC dI dA p s m c args cc nL own) (hP : bkP dC dI b N E H) (hj : j < N) {n : Nat} {f : Nat → Int32} (he : E j = xY dA n f) {k : Nat} (hk : k < n) (hn : n < 2 ^ 31) (hdg : decode cc pc = .ok (.baload, 1))
    (kk : W p l e R s m args below meth c H locs cells slots Q (F0 m (pc + 1) ls (.int (f k) :: rest))) : W p l e R s m args below meth c H locs cells slots Q (F0 m pc ls (.int (nI k) :: .ref (b + j) :: rest)) :=
  va_bald X.1 X.2.1 X.2.2.2.2.2 hP.P j 2 (by rw [bk_at b N E hj, he]) rfl (vp_in_nI hk hn) hdg (by rw [nI_clamp (by omega)]; exact kk)
theorem xb_aald (X : xC dC dI dA p s m c args cc nL own) (hP : bkP dC dI b N E H) (hj : j < N) {t n : Nat} {C : String} {f : Nat → Option Nat} (he : E j = xQ dA t n f) (ht : (rvTy dA)[t]? = some (dA t, .object C)) {k : Nat} (hk : k < n) (hn : n < 2 ^ 31) (hdg : decode cc pc = .ok (.aaload, 1))
    (kk : W p l e R s m args below meth c H locs cells slots Q (F0 m (pc + 1) ls (va_rf (f k) :: rest))) : W p l e R s m args below meth c H locs cells slots Q (F0 m pc ls (.int (nI k) :: .ref (b + j) :: rest)) :=
  va_aldq X.1 X.2.1 X.2.2.2.2.2 hP.P j t (by rw [bk_at b N E hj, he]) ht (vp_in_nI hk hn) hdg (by rw [nI_clamp (by omega)]; exact kk)
theorem xb_alen (X : xC dC dI dA p s m c args cc nL own) (hP : bkP dC dI b N E H) (hj : j < N) {t n : Nat} {x : (Nat → Int32) ⊕ ((Nat → Int64) ⊕ ((Nat → UInt32) ⊕ ((Nat → UInt64) ⊕ (Nat → Option Nat))))} (he : E j = .inl (dA t, n, x)) {ty : FieldType} (ht : (rvTy dA)[t]? = some (dA t, ty)) (hdg : decode cc pc = .ok (.arraylength, 1))
    (kk : W p l e R s m args below meth c H locs cells slots Q (F0 m (pc + 1) ls (.int (nI n) :: rest))) : W p l e R s m args below meth c H locs cells slots Q (F0 m pc ls (.ref (b + j) :: rest)) :=
  va_alen (x := (n, x)) X.1 X.2.1 X.2.2.2.2.2 hP.P j t (by rw [bk_at b N E hj, he]) ht rfl hdg kk
theorem xb_iast (X : xC dC dI dA p s m c args cc nL own) (hP : bkP dC dI b N E H) (hA : ∀ q, bkA b N q → A q) (hS : va_S A H0 H locs) (hj : j < N) {n : Nat} {f : Nat → Int32} (he : E j = xI dA n f) {k : Nat} {v : Int32} (hk : k < n) (hn : n < 2 ^ 31) (hE : ∀ i, i < N → va_up E j (xI dA n (upd f k v)) i = E' i) (hdg : decode cc pc = .ok (.iastore, 1))
    (kk : ∀ (H1 : Heap) (locs1 : List Loc), bkP dC dI b N E' H1 → va_S A H0 H1 locs1 → W p l e R s m args below meth c H1 locs1 cells slots Q (F0 m (pc + 1) ls rest)) : W p l e R s m args below meth c H locs cells slots Q (F0 m pc ls (.int v :: .int (nI k) :: .ref (b + j) :: rest)) :=
  va_iast X.1 X.2.1 X.2.2.2.2.2 hP.P (bk_D b N E hA) hS j 0 (by rw [bk_at b N E hj, he]) rfl (vp_in_nI hk hn) hdg (fun H1 locs1 h1 _ h3 => kk H1 locs1 (by rw [bk_set, nI_clamp (by omega)] at h1; exact (bkP.of h1).e hE) h3)
end XB
