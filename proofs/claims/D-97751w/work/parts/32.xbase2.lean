/-! blocks: stores, copies, new cells -/
set_option maxRecDepth 100000
/-- a block that grows -/
theorem bkP.push {dC : Nat → ClassId} {dI : Nat → Nat → Nat} {b N : Nat} {E : Nat → va_E} {H H1 : Heap} {x : va_E} (h : bkP dC dI b N E H) (hsz : H.size = b + N) (ho : ∀ q, q < H.size → H1[q]? = H[q]?) (hx : va_at (dC, dI) rvCl (b + N, x) H1) : bkP dC dI b (N + 1) (va_up E N x) H1 := fun j hj => by
  by_cases e : j = N
  · subst e; rw [va_up_self]; exact hx
  · rw [va_up_ne _ _ e]
    have hl : b + j < H.size := (h j (by omega)).lt
    exact (h j (by omega)).kept (ho _ hl)
theorem va_S.grow {A : Nat → Prop} {H0 H H1 : Heap} {locs : List Loc} (h : va_S A H0 H locs) (hz : H.size ≤ H1.size) (ho : ∀ q, q < H.size → H1[q]? = H[q]?) : va_S A H0 H1 locs :=
  ⟨Nat.le_trans h.1 hz, fun q h1 h2 => (ho q (Nat.lt_of_lt_of_le h1 h.1)).trans (h.2.1 q h1 h2), h.2.2⟩
theorem bk_none {dC : Nat → ClassId} {dI : Nat → Nat → Nat} {b : Nat} {E : Nat → va_E} {H : Heap} : bkP dC dI b 0 E H := fun j hj => absurd hj (Nat.not_lt_zero j)
section XB2
variable {p : Program} {l : Launch} {e : Env} {R : Room} {s : State} {m : MethodId} {args : Array Value} {below : List Frame} {meth : Method} {c : Code} {H : Heap} {locs : List Loc} {cells slots : Nat} {Q : State → Prop}
variable {cc : ByteArray} {pc nL : Nat} {ls : Array Slot} {rest : List Value} {dC : Nat → ClassId} {dI : Nat → Nat → Nat} {dA : Nat → ClassId} {b N j b2 N2 j2 : Nat} {E E' E2 : Nat → va_E} {H0 : Heap} {A : Nat → Prop} {own : String}
theorem xb_zast (X : xC dC dI dA p s m c args cc nL own) (hP : bkP dC dI b N E H) (hA : ∀ q, bkA b N q → A q) (hS : va_S A H0 H locs) (hj : j < N) {n : Nat} {f : Nat → Int32} (he : E j = xZ dA n f) {k : Nat} {v : Int32} (hk : k < n) (hn : n < 2 ^ 31) (hE : ∀ i, i < N → va_up E j (xZ dA n (upd f k (vp_nar .boolean v))) i = E' i) (hdg : decode cc pc = .ok (.bastore, 1))
    (kk : ∀ (H1 : Heap) (locs1 : List Loc), bkP dC dI b N E' H1 → va_S A H0 H1 locs1 → W p l e R s m args below meth c H1 locs1 cells slots Q (F0 m (pc + 1) ls rest)) : W p l e R s m args below meth c H locs cells slots Q (F0 m pc ls (.int v :: .int (nI k) :: .ref (b + j) :: rest)) :=
  va_zast X.1 X.2.1 X.2.2.2.2.2 hP.P (bk_D b N E hA) hS j 1 (by rw [bk_at b N E hj, he]) rfl (vp_in_nI hk hn) hdg (fun H1 locs1 h1 _ h3 => kk H1 locs1 (by rw [bk_set, nI_clamp (by omega)] at h1; exact (bkP.of h1).e hE) h3)
theorem xb_bast (X : xC dC dI dA p s m c args cc nL own) (hP : bkP dC dI b N E H) (hA : ∀ q, bkA b N q → A q) (hS : va_S A H0 H locs) (hj : j < N) {n : Nat} {f : Nat → Int32} (he : E j = xY dA n f) {k : Nat} {v : Int32} (hk : k < n) (hn : n < 2 ^ 31) (hE : ∀ i, i < N → va_up E j (xY dA n (upd f k (vp_nar .byte v))) i = E' i) (hdg : decode cc pc = .ok (.bastore, 1))
    (kk : ∀ (H1 : Heap) (locs1 : List Loc), bkP dC dI b N E' H1 → va_S A H0 H1 locs1 → W p l e R s m args below meth c H1 locs1 cells slots Q (F0 m (pc + 1) ls rest)) : W p l e R s m args below meth c H locs cells slots Q (F0 m pc ls (.int v :: .int (nI k) :: .ref (b + j) :: rest)) :=
  va_bast X.1 X.2.1 X.2.2.2.2.2 hP.P (bk_D b N E hA) hS j 2 (by rw [bk_at b N E hj, he]) rfl (vp_in_nI hk hn) hdg (fun H1 locs1 h1 _ h3 => kk H1 locs1 (by rw [bk_set, nI_clamp (by omega)] at h1; exact (bkP.of h1).e hE) h3)
theorem xb_aast (X : xC dC dI dA p s m c args cc nL own) (hP : bkP dC dI b N E H) (hA : ∀ q, bkA b N q → A q) (hS : va_S A H0 H locs) (hj : j < N) {t n v : Nat} {C : String} {f : Nat → Option Nat} (he : E j = xQ dA t n f) (ht : (rvTy dA)[t]? = some (dA t, .object C)) (hv : va_Any C s H v) {k : Nat} (hk : k < n) (hn : n < 2 ^ 31) (hE : ∀ i, i < N → va_up E j (xQ dA t n (va_up f k (some v))) i = E' i) (hdg : decode cc pc = .ok (.aastore, 1))
    (kk : ∀ (H1 : Heap) (locs1 : List Loc), bkP dC dI b N E' H1 → va_S A H0 H1 locs1 → W p l e R s m args below meth c H1 locs1 cells slots Q (F0 m (pc + 1) ls rest)) : W p l e R s m args below meth c H locs cells slots Q (F0 m pc ls (.ref v :: .int (nI k) :: .ref (b + j) :: rest)) :=
  va_astqM X.1 X.2.1 X.2.2.2.2.2 hP.P (bk_D b N E hA) hS j t (by rw [bk_at b N E hj, he]) ht hv (vp_in_nI hk hn) hdg (fun H1 locs1 h1 _ h3 => kk H1 locs1 (by rw [bk_set, nI_clamp (by omega)] at h1; exact (bkP.of h1).e hE) h3)
/-- two blocks apart, side by side -/
theorem bk_D2 (hA : ∀ q, bkA b N q → A q) (hA2 : ∀ q, bkA b2 N2 q → A q) (hd : b + N ≤ b2 ∨ b2 + N2 ≤ b) : va_D A (bkW b N E ++ bkW b2 N2 E2) := by
  refine va_D.app (bk_D b N E hA) (bk_D b2 N2 E2 hA2) (fun i k x y hx hy hxy => ?_)
  obtain ⟨h1, h2⟩ := bk_in hx
  obtain ⟨h3, h4⟩ := bk_in hy
  rw [h2, h4] at hxy
  have : b + i = b2 + k := hxy
  omega
theorem bk_l : (bkW b N E).length = N := by unfold bkW; rw [List.length_map, List.length_range]
theorem bk_2 {x0 : va_E} (hP2 : va_P (dC, dI) rvCl ((bkW b N E ++ bkW b2 N2 E2).set j (b + j, x0)) H) (hj : j < N) : bkP dC dI b N (va_up E j x0) H ∧ bkP dC dI b2 N2 E2 H := by
  rw [List.set_append_left _ _ (by rw [bk_l]; exact hj), bk_set] at hP2
  refine ⟨bkP.of (fun k q hk => hP2 k q ?_), bkP.of (fun k q hk => hP2 (N + k) q ?_)⟩
  · rw [List.getElem?_append_left (by rw [bk_l]; exact (bk_in hk).1)]; exact hk
  · rw [List.getElem?_append_right (by rw [bk_l]; omega), bk_l, show N + k - N = k by omega]; exact hk
theorem xb_copyi (X : xC dC dI dA p s m c args cc nL own) (hnL : ls.size = nL) {index : Nat} (hl : Cond.methodLink own index arraycopyName ∈ lw_all) (hP : bkP dC dI b N E H) (hP2 : bkP dC dI b2 N2 E2 H) (hA : ∀ q, bkA b N q → A q) (hA2 : ∀ q, bkA b2 N2 q → A q) (hd : b + N ≤ b2 ∨ b2 + N2 ≤ b) (hS : va_S A H0 H locs) (hj : j < N) (hj2 : j2 < N2) {n n2 : Nat} {f g : Nat → Int32} (he : E j = xI dA n g) (he2 : E2 j2 = xI dA n2 f) {sp dp k : Nat} (h4 : sp + k ≤ n2) (h5 : dp + k ≤ n) (hn : n < 2 ^ 30) (hn2 : n2 < 2 ^ 30) (hfr : 1 ≤ R.frames) (hlo : (rest.map fun v => v.category).sum + (nativeFrameWords "java/lang/System" "arraycopy" 5 + 11) ≤ R.locals) (hE : ∀ i, i < N → va_up E j (xI dA n (va_cpy f g sp dp k)) i = E' i) (hdg : decode cc pc = .ok (.invokestatic index, 3))
    (kk : ∀ (H1 : Heap) (locs1 : List Loc), bkP dC dI b N E' H1 → bkP dC dI b2 N2 E2 H1 → va_S A H0 H1 locs1 → W p l e R s m args below meth c H1 locs1 cells slots Q (F0 m (pc + 3) ls rest)) : W p l e R s m args below meth c H locs cells slots Q (F0 m pc ls (.int (nI k) :: .int (nI dp) :: .ref (b + j) :: .int (nI sp) :: .ref (b2 + j2) :: rest)) := by
  refine va_copyi (ty := .int) (f := f) (g := g) (n0 := n2) (n1 := n) X.1 X.2.1 (by rw [hnL]; exact X.2.2.1) X.2.2.2.1 (X.2.2.2.2.1 _ hl) (X.2.2.2.2.1 _ q594) (X.2.2.2.2.1 _ q593) (X.2.2.2.2.1 _ q80) X.2.2.2.2.2 (hP.P.app hP2.P) (bk_D2 hA hA2 hd) hS (N + j2) j 0 0 (by rw [List.getElem?_append_right (by rw [bk_l]; omega), bk_l, show N + j2 - N = j2 by omega, bk_at _ _ _ hj2, he2]) (by rw [List.getElem?_append_left (by rw [bk_l]; exact hj), bk_at _ _ _ hj, he]) rfl rfl rfl (nI_pos (by omega)) (nI_pos (by omega)) (nI_pos (by omega)) (by rw [nI_clamp (by omega), nI_clamp (by omega)]; exact h4) (by rw [nI_clamp (by omega), nI_clamp (by omega)]; exact h5) (fun i _ => rfl) hfr hlo hdg (fun H1 locs1 h1 _ h3 => ?_)
  rw [nI_clamp (by omega), nI_clamp (by omega), nI_clamp (by omega)] at h1
  obtain ⟨g1, g2⟩ := bk_2 h1 hj
  exact kk H1 locs1 (g1.e hE) g2 h3
theorem xb_copyS (X : xC dC dI dA p s m c args cc nL own) (hnL : ls.size = nL) {index : Nat} (hl : Cond.methodLink own index arraycopyName ∈ lw_all) (hP : bkP dC dI b N E H) (hA : ∀ q, bkA b N q → A q) (hS : va_S A H0 H locs) (hj : j < N) (hj2 : j2 < N) {n n2 : Nat} {f g : Nat → Int32} (he : E j = xI dA n g) (he2 : E j2 = xI dA n2 f) {sp dp k : Nat} (h4 : sp + k ≤ n2) (h5 : dp + k ≤ n) (hn : n < 2 ^ 30) (hn2 : n2 < 2 ^ 30) (hfr : 1 ≤ R.frames) (hlo : (rest.map fun v => v.category).sum + (nativeFrameWords "java/lang/System" "arraycopy" 5 + 11) ≤ R.locals) (hE : ∀ i, i < N → va_up E j (xI dA n (va_cpy f g sp dp k)) i = E' i) (hdg : decode cc pc = .ok (.invokestatic index, 3))
    (kk : ∀ (H1 : Heap) (locs1 : List Loc), bkP dC dI b N E' H1 → va_S A H0 H1 locs1 → W p l e R s m args below meth c H1 locs1 cells slots Q (F0 m (pc + 3) ls rest)) : W p l e R s m args below meth c H locs cells slots Q (F0 m pc ls (.int (nI k) :: .int (nI dp) :: .ref (b + j) :: .int (nI sp) :: .ref (b + j2) :: rest)) := by
  refine va_copyi (ty := .int) (f := f) (g := g) (n0 := n2) (n1 := n) X.1 X.2.1 (by rw [hnL]; exact X.2.2.1) X.2.2.2.1 (X.2.2.2.2.1 _ hl) (X.2.2.2.2.1 _ q594) (X.2.2.2.2.1 _ q593) (X.2.2.2.2.1 _ q80) X.2.2.2.2.2 hP.P (bk_D b N E hA) hS j2 j 0 0 (by rw [bk_at _ _ _ hj2, he2]) (by rw [bk_at _ _ _ hj, he]) rfl rfl rfl (nI_pos (by omega)) (nI_pos (by omega)) (nI_pos (by omega)) (by rw [nI_clamp (by omega), nI_clamp (by omega)]; exact h4) (by rw [nI_clamp (by omega), nI_clamp (by omega)]; exact h5) (fun i _ => rfl) hfr hlo hdg (fun H1 locs1 h1 _ h3 => ?_)
  rw [nI_clamp (by omega), nI_clamp (by omega), nI_clamp (by omega), bk_set] at h1
  exact kk H1 locs1 ((bkP.of h1).e hE) h3
theorem xb_copyM (X : xC dC dI dA p s m c args cc nL own) (hnL : ls.size = nL) {index : Nat} (hl : Cond.methodLink own index arraycopyName ∈ lw_all) (hP : bkP dC dI b N E H) (hP2 : bkP dC dI b2 N2 E2 H) (hA : ∀ q, bkA b N q → A q) (hA2 : ∀ q, bkA b2 N2 q → A q) (hd : b + N ≤ b2 ∨ b2 + N2 ≤ b) (hS : va_S A H0 H locs) (hj : j < N) (hj2 : j2 < N2) {t n n2 : Nat} {C : String} {f g : Nat → Option Nat} (he : E j = xQ dA t n g) (he2 : E2 j2 = xQ dA t n2 f) (ht : (rvTy dA)[t]? = some (dA t, .object C)) {sp dp k : Nat} (h4 : sp + k ≤ n2) (h5 : dp + k ≤ n) (hn : n < 2 ^ 30) (hn2 : n2 < 2 ^ 30) (hel : ∀ i : Nat, i < k → ∀ y : Nat, f (sp + i) = some y → va_Any C s H y) (hfr : 1 ≤ R.frames) (hlo : (rest.map fun v => v.category).sum + (nativeFrameWords "java/lang/System" "arraycopy" 5 + 11) ≤ R.locals) (hE : ∀ i, i < N → va_up E j (xQ dA t n (va_cpy f g sp dp k)) i = E' i) (hdg : decode cc pc = .ok (.invokestatic index, 3))
    (kk : ∀ (H1 : Heap) (locs1 : List Loc), bkP dC dI b N E' H1 → bkP dC dI b2 N2 E2 H1 → va_S A H0 H1 locs1 → W p l e R s m args below meth c H1 locs1 cells slots Q (F0 m (pc + 3) ls rest)) : W p l e R s m args below meth c H locs cells slots Q (F0 m pc ls (.int (nI k) :: .int (nI dp) :: .ref (b + j) :: .int (nI sp) :: .ref (b2 + j2) :: rest)) := by
  refine va_copyM (E0 := C) (E1 := C) (f := f) (g := g) (n0 := n2) (n1 := n) X.1 X.2.1 (by rw [hnL]; exact X.2.2.1) X.2.2.2.1 (X.2.2.2.2.1 _ hl) (X.2.2.2.2.1 _ q594) (X.2.2.2.2.1 _ q593) (X.2.2.2.2.1 _ q80) X.2.2.2.2.2 (hP.P.app hP2.P) (bk_D2 hA hA2 hd) hS (N + j2) j t t (by rw [List.getElem?_append_right (by rw [bk_l]; omega), bk_l, show N + j2 - N = j2 by omega, bk_at _ _ _ hj2, he2]) (by rw [List.getElem?_append_left (by rw [bk_l]; exact hj), bk_at _ _ _ hj, he]) ht ht (nI_pos (by omega)) (nI_pos (by omega)) (nI_pos (by omega)) (by rw [nI_clamp (by omega), nI_clamp (by omega)]; exact h4) (by rw [nI_clamp (by omega), nI_clamp (by omega)]; exact h5) (by rw [nI_clamp (by omega), nI_clamp (by omega)]; exact hel) hfr hlo hdg (fun H1 locs1 h1 _ h3 => ?_)
  rw [nI_clamp (by omega), nI_clamp (by omega), nI_clamp (by omega)] at h1
  obtain ⟨g1, g2⟩ := bk_2 h1 hj
  exact kk H1 locs1 (g1.e hE) g2 h3
/-- new cells, at the end of a block that ends at the heap's end -/
theorem xb_new {C : String} {T : u_T} {NN ci index : Nat} (X : xC dC dI dA p s m c args cc nL own) (hin : ∀ w ∈ u_ws C T NN, w ∈ lw_all) (ty : Nat → FieldType) (hty : ∀ k, k < NN → parseFieldDescriptor (T k).2.2.1 = some (ty k)) (hc : rvCl[ci]? = some (C, T, NN)) (hcl : Cond.classLink own index C ∈ lw_all) (hinst : Cond.instantiable C NN ∈ lw_all) (hini : Cond.initialized C ∈ lw_all) (hP : bkP dC dI b N E H) (hsz : H.size = b + N) (hS : va_S A H0 H locs) {fs : List Value} (hfs : ∀ j, j < NN → defaultValue (ty j) = vp_V fs j) (hcells : cells + 1 ≤ R.cells) (hslots : slots + NN ≤ R.slots) (hdg : decode cc pc = .ok (.new index, 3))
    (kk : ∀ (H1 : Heap), bkP dC dI b (N + 1) (va_up E N (.inr (ci, fs))) H1 → H1.size = b + (N + 1) → (∀ q, q < H.size → H1[q]? = H[q]?) → va_S A H0 H1 locs → W p l e R s m args below meth c H1 locs (cells + 1) (slots + NN) Q (F0 m (pc + 3) ls (.ref (b + N) :: rest))) : W p l e R s m args below meth c H locs cells slots Q (F0 m pc ls rest) := by
  have hKn := X.2.2.2.2.2.1 ci _ hc
  refine W.newcK X.1 X.2.1 X.2.2.2.1 (X.2.2.2.2.1 _ hcl) (X.2.2.2.2.1 _ hinst) (X.2.2.2.2.1 _ hini) rfl hdg hcells hslots hKn.2.1 hsz fun H1 kC hkC e1 z1 o1 => ?_
  exact kk H1 (hP.push hsz (fun q hq => o1 q (by omega)) ⟨_, hc, (u_born ty X.2.2.2.2.1 hin hKn hkC e1 hty).to hfs⟩) (by omega) (fun q hq => o1 q (by omega)) (hS.grow (by omega) (fun q hq => o1 q (by omega)))
theorem xb_newa {atype : ArrayType} {t : Nat} {fty : FieldType} (X : xC dC dI dA p s m c args cc nL own) (harr : Cond.arrayClass fty ∈ lw_all) (hat : newarray.typeOf atype = fty) (ht : (rvTy dA)[t]? = some (dA t, fty)) (hRA : ∀ U, va_RA U (dA t) fty → U.vm.findClass ("[" ++ fty.toString) = some (dA t)) (hdv : defaultValue fty = .int 0) (hP : bkP dC dI b N E H) (hsz : H.size = b + N) (hS : va_S A H0 H locs) {n : Nat} (hn : n < 2 ^ 20) (hcb : componentBytes fty ≤ 8) (hcells : cells + 1 ≤ R.cells) (hslots : slots + n ≤ R.slots) (hdg : decode cc pc = .ok (.newarray atype, 2))
    (kk : ∀ (H1 : Heap), bkP dC dI b (N + 1) (va_up E N (.inl (dA t, n, .inl (fun _ => 0)))) H1 → H1.size = b + (N + 1) → (∀ q, q < H.size → H1[q]? = H[q]?) → va_S A H0 H1 locs → W p l e R s m args below meth c H1 locs (cells + 1) (slots + n) Q (F0 m (pc + 2) ls (.ref (b + N) :: rest))) : W p l e R s m args below meth c H locs cells slots Q (F0 m pc ls (.int (nI n) :: rest)) := by
  subst hat
  refine va_newaK X.1 X.2.1 (X.2.2.2.2.1 _ harr) rfl hdg rfl (nI_pos (by omega)) (nI_clamp (by omega)) (Nat.le_trans (Nat.mul_le_mul (Nat.le_of_lt hn) hcb) (by decide)) hcells hslots hsz fun H1 cA e1 z1 o1 hAr hNm => ?_
  have hcA : cA = dA t := Option.some.inj (hNm.symm.trans (hRA s (X.2.2.2.2.2.2 t _ ht).2))
  subst hcA
  refine kk H1 (hP.push hsz (fun q hq => o1 q (by omega)) ?_) (by omega) (fun q hq => o1 q (by omega)) (hS.grow (by omega) (fun q hq => o1 q (by omega)))
  show H1[b + N]? = some (vp_cell _ _)
  rw [e1, hdv]
  rfl
theorem xb_newq {C : String} {index t : Nat} (X : xC dC dI dA p s m c args cc nL own) (hcl : Cond.classLink own index C ∈ lw_all) (hov : va_AO C s) (ht : (rvTy dA)[t]? = some (dA t, .object C)) (hP : bkP dC dI b N E H) (hsz : H.size = b + N) (hS : va_S A H0 H locs) {n : Nat} (hn : n < 2 ^ 20) (hcells : cells + 1 ≤ R.cells) (hslots : slots + n ≤ R.slots) (hdg : decode cc pc = .ok (.anewarray index, 3))
    (kk : ∀ (H1 : Heap), bkP dC dI b (N + 1) (va_up E N (xQ dA t n (fun _ => none))) H1 → H1.size = b + (N + 1) → (∀ q, q < H.size → H1[q]? = H[q]?) → va_S A H0 H1 locs → W p l e R s m args below meth c H1 locs (cells + 1) (slots + n) Q (F0 m (pc + 3) ls (.ref (b + N) :: rest))) : W p l e R s m args below meth c H locs cells slots Q (F0 m pc ls (.int (nI n) :: rest)) := by
  have hcl0 : (nI n).toNatClampNeg = n := nI_clamp (by omega)
  refine W.anew X.1 X.2.1 X.2.2.2.1 (X.2.2.2.2.1 _ hcl) (va_AO.use hov) rfl hdg rfl (nI_pos (by omega)) (by rw [hcl0]; omega) hcells (by rw [hcl0]; exact hslots) fun cA kA comp f1 f2 f3 f4 => ?_
  obtain ⟨kB, cB, r1, r2, r3, r4⟩ := (X.2.2.2.2.2.2 t _ ht).2
  have hcA : cA = dA t := Option.some.inj (f1.symm.trans r4)
  subst hcA
  rw [hcl0]
  have ho : ∀ q, q < H.size → (H.push ({ cls := dA t, slots := Array.replicate n .null, vm := .none } : Cell))[q]? = H[q]? := fun q hq => by
    rw [Array.getElem?_push, if_neg (Nat.ne_of_lt hq)]
  have e : W p l e R s m args below meth c (H.push ({ cls := dA t, slots := Array.replicate n .null, vm := .none } : Cell)) locs (cells + 1) (slots + n) Q (F0 m (pc + 3) ls (.ref (b + N) :: rest)) := by
    refine kk _ (hP.push hsz ho ?_) (by rw [Array.size_push]; omega) ho (hS.grow (by rw [Array.size_push]; omega) ho)
    show (H.push _)[b + N]? = some (vp_cell _ _)
    rw [← hsz, Array.getElem?_push, if_pos rfl, vp_cell_q]
    exact congrArg some (arrV_new (dA t) n .null)
  rw [hsz]
  exact e
end XB2
