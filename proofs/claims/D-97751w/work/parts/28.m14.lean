set_option maxRecDepth 100000
/-! the Model: tokens -/
/-- tokens of a text T of tl bytes, from p on -/
def tk_skip (T : Nat → Int32) : Nat → Nat → Nat
  | 0, p => p
  | k + 1, p => if T p = 32 then tk_skip T k (p + 1) else p
def tk_run (P : Int32 → Bool) (T : Nat → Int32) : Nat → Nat → Nat
  | 0, p => p
  | k + 1, p => if P (T p) = true then tk_run P T k (p + 1) else p
def tk_val (T : Nat → Int32) (p : Nat) : Nat → Int32
  | 0 => 0
  | k + 1 => 10 * tk_val T p k + T (p + k) - 48
abbrev tk_sm (c : Int32) : Bool := rv_in c 97 122
abbrev tk_fg (c : Int32) : Bool := rv_in c 48 57
def tk_k0 (c : Int32) : Nat := if tk_sm c = true then 1 else if tk_fg c = true then 2 else if c = 59 then 3 else 4
def tk_P (k0 : Nat) (c : Int32) : Bool := if k0 = 1 then tk_sm c else tk_fg c
def tkA (T : Nat → Int32) (tl p : Nat) : Nat := tk_skip T (tl - p) p
def tk_E (T : Nat → Int32) (tl a : Nat) : Nat := if tk_k0 (T a) < 3 then tk_run (tk_P (tk_k0 (T a))) T (tl - a) a else a + 1
def tkL (T : Nat → Int32) (tl p : Nat) : Nat := if tkA T tl p = tl then 0 else tk_E T tl (tkA T tl p) - tkA T tl p
def tkK (T : Nat → Int32) (tl p : Nat) : Nat := if tkA T tl p = tl then 0 else if tk_k0 (T (tkA T tl p)) = 2 ∧ 3 < tkL T tl p then 4 else tk_k0 (T (tkA T tl p))
def tkV (T : Nat → Int32) (tl p : Nat) : Int32 := if tkA T tl p = tl then 0 else if tk_k0 (T (tkA T tl p)) = 2 then tk_val T (tkA T tl p) (min (tkL T tl p) 3) else 0
theorem tk_skip_b {T : Nat → Int32} : ∀ (k p : Nat), p ≤ tk_skip T k p ∧ tk_skip T k p ≤ p + k
  | 0, p => ⟨Nat.le_refl _, Nat.le_refl _⟩
  | k + 1, p => by
    rw [tk_skip]
    by_cases h : T p = 32
    · rw [if_pos h]; have := tk_skip_b (T := T) k (p + 1); omega
    · rw [if_neg h]; omega
theorem tk_run_b {P : Int32 → Bool} {T : Nat → Int32} : ∀ (k p : Nat), p ≤ tk_run P T k p ∧ tk_run P T k p ≤ p + k
  | 0, p => ⟨Nat.le_refl _, Nat.le_refl _⟩
  | k + 1, p => by
    rw [tk_run]
    by_cases h : P (T p) = true
    · rw [if_pos h]; have := tk_run_b (P := P) (T := T) k (p + 1); omega
    · rw [if_neg h]; omega
theorem tkA_b {T : Nat → Int32} {tl p : Nat} (h : p ≤ tl) : p ≤ tkA T tl p ∧ tkA T tl p ≤ tl := by
  have := tk_skip_b (T := T) (tl - p) p
  unfold tkA
  omega
theorem tk_k0P {c : Int32} (h : tk_k0 c < 3) : tk_P (tk_k0 c) c = true := by
  unfold tk_k0 at h ⊢
  by_cases h1 : tk_sm c = true
  · rw [if_pos h1]; exact h1
  · rw [if_neg h1] at h ⊢
    by_cases h2 : tk_fg c = true
    · rw [if_pos h2]; exact h2
    · rw [if_neg h2] at h
      by_cases h3 : c = 59
      · rw [if_pos h3] at h; omega
      · rw [if_neg h3] at h; omega
theorem tk_E_b {T : Nat → Int32} {tl a : Nat} (h : a < tl) : a + 1 ≤ tk_E T tl a ∧ tk_E T tl a ≤ tl := by
  unfold tk_E
  by_cases h1 : tk_k0 (T a) < 3
  · rw [if_pos h1, show tl - a = (tl - (a + 1)) + 1 by omega, tk_run, if_pos (tk_k0P h1)]
    have := tk_run_b (P := tk_P (tk_k0 (T a))) (T := T) (tl - (a + 1)) (a + 1)
    omega
  · rw [if_neg h1]; omega
theorem tkL_b {T : Nat → Int32} {tl p : Nat} (h : p ≤ tl) : tkA T tl p + tkL T tl p ≤ tl ∧ (tkA T tl p < tl → 1 ≤ tkL T tl p) := by
  have h1 := (tkA_b (T := T) h).2
  unfold tkL
  by_cases h2 : tkA T tl p = tl
  · rw [if_pos h2]; omega
  · have := tk_E_b (T := T) (a := tkA T tl p) (tl := tl) (by omega)
    rw [if_neg h2]; omega
/-- only the token's four numbers change -/
def mdTk (σ σ1 : mdT) : Prop := (∀ a, a ≠ 15 → σ1 a = σ a) ∧ ∀ j, j ≠ 6 → j ≠ 7 → j ≠ 8 → j ≠ 9 → σ1 15 j = σ 15 j
theorem mdTk.rf (σ : mdT) : mdTk σ σ := ⟨fun _ _ => rfl, fun _ _ _ _ _ => rfl⟩
theorem mdTk.S {σ σ1 : mdT} (h : mdTk σ σ1) {k : Nat} (v : Int32) (hk : k = 6 ∨ k = 7 ∨ k = 8 ∨ k = 9) : mdTk σ (mdS σ1 15 k v) :=
  ⟨fun a ha => by rw [mdS_row _ _ _ ha]; exact h.1 a ha, fun j h6 h7 h8 h9 => by rw [mdS_ne (by omega)]; exact h.2 j h6 h7 h8 h9⟩
theorem mdTk.tr {a b c : mdT} (h : mdTk a b) (g : mdTk b c) : mdTk a c := ⟨fun q hq => (g.1 q hq).trans (h.1 q hq), fun j h6 h7 h8 h9 => (g.2 j h6 h7 h8 h9).trans (h.2 j h6 h7 h8 h9)⟩
/-- the token from p on lies in the numbers -/
def mdAt (T : Nat → Int32) (tl p : Nat) (u : mdT) : Prop := u 15 6 = nI (tkA T tl p) ∧ u 15 7 = nI (tkL T tl p) ∧ u 15 8 = nI (tkK T tl p) ∧ u 15 9 = tkV T tl p
theorem tk_Pe {T T' : Nat → Int32} {k0 j : Nat} {b : Bool} (e : T' = T) (hk : k0 = 1) (h : tk_sm (T' j) = b) : tk_P k0 (T j) = b := by
  subst e; rw [tk_P, if_pos hk]; exact h
theorem tk_Pe2 {T T' : Nat → Int32} {k0 j : Nat} {b : Bool} (e : T' = T) (hk : k0 ≠ 1) (h : tk_fg (T' j) = b) : tk_P k0 (T j) = b := by
  subst e; rw [tk_P, if_neg hk]; exact h
theorem met_isSmall (l : Launch) (v : Int32) : Met l yX5_isSmall (ws_ yX5_isSmall cX5_isSmall 1 (some .boolean)) { frames := 2, cells := 0, slots := 0, locals := 120 } (fun v_ _ => v_ = [.int v].toArray) (vp_Si (fun r_ => r_ = (rb_i (rv_in v 97 122)))) 0 0 (fun _ => False) := by
  refine rv_inS (by decide) (Nat.le_of_ble_eq_true rfl) (lv := [(0, .int v)]) rfl ?_
  intro p e s m below meth c hx hb hml hown hts hr hlk ls hl
  refine lv_iload_n hx hb dX5_isSmall_0 rfl (lv_at hl 0 rfl) ?_
  refine lv_i2l hx hb dX5_isSmall_1 rfl ?_
  refine lv_ldc2 (v := 97) hx hb hown (hts _ q1259) dX5_isSmall_2 ?_
  refine lv_ldc2 (v := 122) hx hb hown (hts _ q1260) dX5_isSmall_5 ?_
  refine rv_sSe (As := [.long (Int32.toInt64 v), .long 97, .long 122]) (rest := []) ⟨hx, hb, hml, hown, hts⟩ (met_in l (Int32.toInt64 v) 97 122) card_in rfl rfl ⟨Nat.le_of_ble_eq_true rfl, Nat.le_of_ble_eq_true rfl⟩ hl.1 (Nat.le_of_ble_eq_true rfl) dX5_isSmall_8 ?_
  exact rv_rz hx hb hr hlk (rv_nar _) dX5_isSmall_11 (by rw [rv_inL_i]; rfl)
theorem met_isFigure (l : Launch) (v : Int32) : Met l yX5_isFigure (ws_ yX5_isFigure cX5_isFigure 1 (some .boolean)) { frames := 2, cells := 0, slots := 0, locals := 120 } (fun v_ _ => v_ = [.int v].toArray) (vp_Si (fun r_ => r_ = (rb_i (rv_in v 48 57)))) 0 0 (fun _ => False) := by
  refine rv_inS (by decide) (Nat.le_of_ble_eq_true rfl) (lv := [(0, .int v)]) rfl ?_
  intro p e s m below meth c hx hb hml hown hts hr hlk ls hl
  refine lv_iload_n hx hb dX5_isFigure_0 rfl (lv_at hl 0 rfl) ?_
  refine lv_i2l hx hb dX5_isFigure_1 rfl ?_
  refine lv_ldc2 (v := 48) hx hb hown (hts _ q1264) dX5_isFigure_2 ?_
  refine lv_ldc2 (v := 57) hx hb hown (hts _ q1265) dX5_isFigure_5 ?_
  refine rv_sSe (As := [.long (Int32.toInt64 v), .long 48, .long 57]) (rest := []) ⟨hx, hb, hml, hown, hts⟩ (met_in l (Int32.toInt64 v) 48 57) card_in rfl rfl ⟨Nat.le_of_ble_eq_true rfl, Nat.le_of_ble_eq_true rfl⟩ hl.1 (Nat.le_of_ble_eq_true rfl) dX5_isFigure_8 ?_
  exact rv_rz hx hb hr hlk (rv_nar _) dX5_isFigure_11 (by rw [rv_inL_i]; rfl)
set_option maxHeartbeats 4000000 in
theorem met_lookAt (l : Launch) (dC : Nat → ClassId) (dI : Nat → Nat → Nat) (dA : Nat → ClassId) (n : Nat) (σ : mdT) (ab be : Int64) (p_ : Nat) (ty : Nat) (ht : σ 15 5 = nI ty) (ht6 : ty ≤ 150) (hp : p_ ≤ ty) : Met l yX5_lookAt (ws_ yX5_lookAt cX5_lookAt 5 none) { frames := 3, cells := 0, slots := 0, locals := 180 } (mdPc dC dI dA n σ ab be [.ref n, .int (nI p_)]) (va_Qv (fun u => mdTk σ u ∧ mdAt (σ 12) ty p_ u) (mdB dC dI dA n ab be) (mdA n)) 0 0 (mdA n) := by
  refine md_in (by decide) rfl (Nat.le_of_ble_eq_true rfl) (lv := [(0, .ref n), (1, .int (nI p_))]) rfl ?_
  intro p e s m below meth c C hr hlk hP ls hl
  have hx := C.1
  have hb := C.2.1
  have hown := C.2.2.2.1
  have hts := C.2.2.2.2.1
  have hS : va_S (mdA n) s.heap s.heap [] := va_S.rf
  have K274 : ∀ (A_ : Nat) (k0 : Nat) (L_ : Nat) (σ4 : mdT) (H : Heap) (locs : List Loc), (mdTk σ σ4) → (σ4 15 6 = nI A_) → (A_ = tkA (σ 12) ty p_) → (A_ < ty) → (σ4 15 8 = nI k0) → (k0 = tk_k0 ((σ 12) A_)) → (σ4 15 7 = nI L_) → (L_ = tkL (σ 12) ty p_) → (L_ ≤ 150) → (σ4 15 9 = tkV (σ 12) ty p_) → mdP dC dI dA n σ4 ab be H → va_S (mdA n) s.heap H locs → ∀ ls, lv_has ls 5 [(0, .ref n), (1, .int (nI p_))] → W p l e { frames := 3, cells := 0, slots := 0, locals := 180 } s m [.ref n, .int (nI p_)].toArray below meth c H locs 0 0 (MQ below (va_Qv (fun u => mdTk σ u ∧ mdAt (σ 12) ty p_ u) (mdB dC dI dA n ab be) (mdA n)) [.ref n, .int (nI p_)].toArray s 0 0 (mdA n)) (F0 m 274 ls []) := by
    intro A_ k0 L_ σ4 H locs hF hA eA hAl hk hk0 hln hL hL2 hv hP hS ls hl
    have hk8 : k0 < 5 := by rw [hk0]; unfold tk_k0; split; omega; split; omega; split <;> omega
    refine lv_aload_n hx hb dX5_lookAt_274 rfl (lv_at hl 0 rfl) ?_
    refine lv_aload_n hx hb dX5_lookAt_275 rfl (lv_at hl 0 rfl) ?_
    refine md_g23 C hP dX5_lookAt_276 ?_
    refine rn_co (y := nI k0) hk ?_
    refine lv_iconst (v := nI 2) hx hb dX5_lookAt_279 rfl ?_
    refine rn_icmp_ne (tgt := 295) hx hb (by omega) (by omega) dX5_lookAt_280 (by decide) (fun c_280 => ?_) (fun c_280 => ?_)
    · refine lv_aload_n hx hb dX5_lookAt_295 rfl (lv_at hl 0 rfl) ?_
      refine md_g23 C hP dX5_lookAt_296 ?_
      refine rn_co (y := nI k0) hk ?_
      refine md_p23 C hP hS dX5_lookAt_299 (fun H locs hP hS => ?_)
      exact md_rv C hr hlk hP hS dX5_lookAt_302 (by exact ⟨hF.S _ (by omega), by rw [mdS_ne (by decide), hA, eA], by rw [mdS_ne (by decide), hln, hL], by rw [mdS_eq, tkK, if_neg (by omega), ← eA, ← hL, ← hk0]; refine congrArg nI ?_; split <;> omega, by rw [mdS_ne (by decide)]; exact hv⟩)
    · refine lv_aload_n hx hb dX5_lookAt_283 rfl (lv_at hl 0 rfl) ?_
      refine md_g22 C hP dX5_lookAt_284 ?_
      refine rn_co (y := nI L_) hln ?_
      refine lv_iconst (v := nI 3) hx hb dX5_lookAt_287 rfl ?_
      refine rn_icmp_le (tgt := 295) hx hb (by omega) (by omega) dX5_lookAt_288 (by decide) (fun c_288 => ?_) (fun c_288 => ?_)
      · refine lv_aload_n hx hb dX5_lookAt_295 rfl (lv_at hl 0 rfl) ?_
        refine md_g23 C hP dX5_lookAt_296 ?_
        refine rn_co (y := nI k0) hk ?_
        refine md_p23 C hP hS dX5_lookAt_299 (fun H locs hP hS => ?_)
        exact md_rv C hr hlk hP hS dX5_lookAt_302 (by exact ⟨hF.S _ (by omega), by rw [mdS_ne (by decide), hA, eA], by rw [mdS_ne (by decide), hln, hL], by rw [mdS_eq, tkK, if_neg (by omega), ← eA, ← hL, ← hk0]; refine congrArg nI ?_; split <;> omega, by rw [mdS_ne (by decide)]; exact hv⟩)
      · refine lv_iconst (v := nI 4) hx hb dX5_lookAt_291 rfl ?_
        refine lv_goto (tgt := 299) hx hb dX5_lookAt_292 (by decide) ?_
        refine md_p23 C hP hS dX5_lookAt_299 (fun H locs hP hS => ?_)
        exact md_rv C hr hlk hP hS dX5_lookAt_302 (by exact ⟨hF.S _ (by omega), by rw [mdS_ne (by decide), hA, eA], by rw [mdS_ne (by decide), hln, hL], by rw [mdS_eq, tkK, if_neg (by omega), ← eA, ← hL, ← hk0]; refine congrArg nI ?_; split <;> omega, by rw [mdS_ne (by decide)]; exact hv⟩)
  have K218 : ∀ (k218_ : Nat) (A_ : Nat) (k0 : Nat) (L_ : Nat) (i : Nat) (σ4 : mdT) (H : Heap) (locs : List Loc), 3 - i = k218_ → (mdTk σ σ4) → (σ4 15 6 = nI A_) → (A_ = tkA (σ 12) ty p_) → (A_ < ty) → (σ4 15 8 = nI k0) → (k0 = tk_k0 ((σ 12) A_)) → (σ4 15 7 = nI L_) → (L_ = tkL (σ 12) ty p_) → (L_ ≤ 150) → (σ4 15 9 = tk_val (σ 12) A_ i) → (i ≤ L_ ∧ i ≤ 3) → (k0 ≠ 2 → i = 0) → mdP dC dI dA n σ4 ab be H → va_S (mdA n) s.heap H locs → ∀ ls, lv_has ls 5 [(0, .ref n), (1, .int (nI p_)), (4, .int (nI i))] → W p l e { frames := 3, cells := 0, slots := 0, locals := 180 } s m [.ref n, .int (nI p_)].toArray below meth c H locs 0 0 (MQ below (va_Qv (fun u => mdTk σ u ∧ mdAt (σ 12) ty p_ u) (mdB dC dI dA n ab be) (mdA n)) [.ref n, .int (nI p_)].toArray s 0 0 (mdA n)) (F0 m 218 ls []) := by
    intro k218_
    induction k218_ using Nat.strongRecOn with
    | _ k218_ ih218 =>
      intro A_ k0 L_ i σ4 H locs hm218_ hF hA eA hAl hk hk0 hln hL hL2 hv hi h0i hP hS ls hl
      have ht_ : σ4 15 5 = nI ty := by rw [hF.2 5 (by decide) (by decide) (by decide) (by decide)]; exact ht
      have e12 : σ4 12 = σ 12 := hF.1 12 (by decide)
      have hAL : A_ + L_ ≤ ty := by rw [hL, eA]; exact (tkL_b hp).1
      have hk8 : k0 < 5 := by rw [hk0]; unfold tk_k0; split; omega; split; omega; split <;> omega
      refine lv_iload hx hb dX5_lookAt_218 (lv_at hl 2 rfl) ?_
      refine lv_aload_n hx hb dX5_lookAt_220 rfl (lv_at hl 0 rfl) ?_
      refine md_g22 C hP dX5_lookAt_221 ?_
      refine rn_co (y := nI L_) hln ?_
      refine rn_icmp_ge (tgt := 274) hx hb (by omega) (by omega) dX5_lookAt_224 (by decide) (fun c_224 => ?_) (fun c_224 => ?_)
      · exact K274 A_ k0 L_ σ4 _ _ hF hA eA hAl hk hk0 hln hL hL2 (by rw [hv, tkV, if_neg (by omega), ← eA, ← hL, ← hk0]; first | (rw [if_neg c_238, h0i c_238]; rfl) | (by_cases e2 : k0 = 2; rw [if_pos e2, show i = min L_ 3 by omega]; rw [if_neg e2, h0i e2]; rfl)) hP hS ls (lv_sub hl [0, 1] rfl)
      · refine lv_iload hx hb dX5_lookAt_227 (lv_at hl 2 rfl) ?_
        refine lv_iconst (v := nI 3) hx hb dX5_lookAt_229 rfl ?_
        refine rn_icmp_ge (tgt := 274) hx hb (by omega) (by omega) dX5_lookAt_230 (by decide) (fun c_230 => ?_) (fun c_230 => ?_)
        · exact K274 A_ k0 L_ σ4 _ _ hF hA eA hAl hk hk0 hln hL hL2 (by rw [hv, tkV, if_neg (by omega), ← eA, ← hL, ← hk0]; first | (rw [if_neg c_238, h0i c_238]; rfl) | (by_cases e2 : k0 = 2; rw [if_pos e2, show i = min L_ 3 by omega]; rw [if_neg e2, h0i e2]; rfl)) hP hS ls (lv_sub hl [0, 1] rfl)
        · refine lv_aload_n hx hb dX5_lookAt_233 rfl (lv_at hl 0 rfl) ?_
          refine md_g23 C hP dX5_lookAt_234 ?_
          refine rn_co (y := nI k0) hk ?_
          refine lv_iconst (v := nI 2) hx hb dX5_lookAt_237 rfl ?_
          refine rn_icmp_ne (tgt := 274) hx hb (by omega) (by omega) dX5_lookAt_238 (by decide) (fun c_238 => ?_) (fun c_238 => ?_)
          · exact K274 A_ k0 L_ σ4 _ _ hF hA eA hAl hk hk0 hln hL hL2 (by rw [hv, tkV, if_neg (by omega), ← eA, ← hL, ← hk0]; first | (rw [if_neg c_238, h0i c_238]; rfl) | (by_cases e2 : k0 = 2; rw [if_pos e2, show i = min L_ 3 by omega]; rw [if_neg e2, h0i e2]; rfl)) hP hS ls (lv_sub hl [0, 1] rfl)
          · refine lv_aload_n hx hb dX5_lookAt_241 rfl (lv_at hl 0 rfl) ?_
            refine lv_bipush (v := nI 10) hx hb dX5_lookAt_242 rfl ?_
            refine lv_aload_n hx hb dX5_lookAt_244 rfl (lv_at hl 0 rfl) ?_
            refine md_g24 C hP dX5_lookAt_245 ?_
            refine lv_imul hx hb dX5_lookAt_248 ?_
            refine lv_aload_n hx hb dX5_lookAt_249 rfl (lv_at hl 0 rfl) ?_
            refine md_g19 C hP dX5_lookAt_250 ?_
            refine lv_aload_n hx hb dX5_lookAt_253 rfl (lv_at hl 0 rfl) ?_
            refine md_g21 C hP dX5_lookAt_254 ?_
            refine rn_co (y := nI A_) hA ?_
            refine lv_iload hx hb dX5_lookAt_257 (lv_at hl 2 rfl) ?_
            refine rn_iadd hx hb dX5_lookAt_259 ?_
            refine md_l12 C hP (by omega) dX5_lookAt_260 ?_
            refine lv_iadd hx hb dX5_lookAt_261 ?_
            refine lv_bipush (v := nI 48) hx hb dX5_lookAt_262 rfl ?_
            refine lv_isub hx hb dX5_lookAt_264 ?_
            refine md_p24 C hP hS dX5_lookAt_265 (fun H locs hP hS => ?_)
            refine rn_iinc (lv' := [(4, .int (nI (i + 1))), (0, .ref n), (1, .int (nI p_))]) hx hb dX5_lookAt_268 hl (k := 2) rfl (by decide) rfl (fun ls hl => ?_)
            refine lv_goto (tgt := 218) hx hb dX5_lookAt_271 (by decide) ?_
            exact ih218 _ (by omega) A_ k0 L_ (i + 1) (mdS σ4 15 9 (((10 * (σ4 15 9)) + (σ4 12 (A_ + i))) - 48)) _ _ rfl (hF.S _ (by omega)) (by rw [mdS_ne (by decide)]; exact hA) eA hAl (by rw [mdS_ne (by decide)]; exact hk) hk0 (by rw [mdS_ne (by decide)]; exact hln) hL hL2 (by rw [mdS_eq, tk_val, ← hv, e12]) (by omega) (fun z => absurd c_238 z) hP hS ls (lv_sub hl [1, 2, 0] rfl)
  have K136 : ∀ (k136_ : Nat) (A_ : Nat) (k0 : Nat) (g_ : Bool) (ln : Nat) (σ3 : mdT) (H : Heap) (locs : List Loc), 2 * (ty - (A_ + ln)) + g_.toNat = k136_ → (mdTk σ σ3) → (σ3 15 6 = nI A_) → (A_ = tkA (σ 12) ty p_) → (A_ < ty) → (σ3 15 8 = nI k0) → (k0 = tk_k0 ((σ 12) A_)) → (σ3 15 7 = nI ln) → (σ3 15 9 = 0) → (1 ≤ ln ∧ A_ + ln ≤ ty) → (g_ = true → k0 < 3 ∧ tk_run (tk_P k0) (σ 12) (ty - (A_ + ln)) (A_ + ln) = tk_E (σ 12) ty A_) → (g_ = false → A_ + ln = tk_E (σ 12) ty A_) → mdP dC dI dA n σ3 ab be H → va_S (mdA n) s.heap H locs → ∀ ls, lv_has ls 5 [(0, .ref n), (1, .int (nI p_)), (3, .int (rb_i g_))] → W p l e { frames := 3, cells := 0, slots := 0, locals := 180 } s m [.ref n, .int (nI p_)].toArray below meth c H locs 0 0 (MQ below (va_Qv (fun u => mdTk σ u ∧ mdAt (σ 12) ty p_ u) (mdB dC dI dA n ab be) (mdA n)) [.ref n, .int (nI p_)].toArray s 0 0 (mdA n)) (F0 m 136 ls []) := by
    intro k136_
    induction k136_ using Nat.strongRecOn with
    | _ k136_ ih136 =>
      intro A_ k0 g_ ln σ3 H locs hm136_ hF hA eA hAl hk hk0 hln hz hl2 hg1 hg2 hP hS ls hl
      have ht_ : σ3 15 5 = nI ty := by rw [hF.2 5 (by decide) (by decide) (by decide) (by decide)]; exact ht
      have e12 : σ3 12 = σ 12 := hF.1 12 (by decide)
      have hk8 : k0 < 5 := by rw [hk0]; unfold tk_k0; split; omega; split; omega; split <;> omega
      refine lv_iload_n hx hb dX5_lookAt_136 rfl (lv_at hl 2 rfl) ?_
      refine rn_zt (tgt := 215) hx hb dX5_lookAt_137 (by decide) (fun c_137 => ?_) (fun c_137 => ?_)
      · refine lv_iconst (v := nI 0) hx hb dX5_lookAt_215 rfl ?_
        refine lv_istore (lv' := [(4, .int (nI 0)), (0, .ref n), (1, .int (nI p_)), (3, .int (rb_i g_))]) hx hb dX5_lookAt_216 hl (by decide) rfl (fun ls hl => ?_)
        exact K218 _ A_ k0 ln 0 σ3 _ _ rfl hF hA eA hAl hk hk0 hln (by rw [tkL, if_neg (by omega), ← eA]; first | (rw [← hg2 c_137]; omega) | (rw [← (hg1 c_137).2, show ty - (A_ + ln) = 0 by omega]; show ln = A_ + ln - A_; omega)) (by omega) hz (by omega) (fun _ => rfl) hP hS ls (lv_sub hl [1, 2, 0] rfl)
      · refine lv_aload_n hx hb dX5_lookAt_140 rfl (lv_at hl 0 rfl) ?_
        refine md_g21 C hP dX5_lookAt_141 ?_
        refine rn_co (y := nI A_) hA ?_
        refine lv_aload_n hx hb dX5_lookAt_144 rfl (lv_at hl 0 rfl) ?_
        refine md_g22 C hP dX5_lookAt_145 ?_
        refine rn_co (y := nI ln) hln ?_
        refine rn_iadd hx hb dX5_lookAt_148 ?_
        refine lv_aload_n hx hb dX5_lookAt_149 rfl (lv_at hl 0 rfl) ?_
        refine md_g20 C hP dX5_lookAt_150 ?_
        refine rn_co (y := nI ty) ht_ ?_
        refine rn_icmp_ge (tgt := 215) hx hb (by omega) (by omega) dX5_lookAt_153 (by decide) (fun c_153 => ?_) (fun c_153 => ?_)
        · refine lv_iconst (v := nI 0) hx hb dX5_lookAt_215 rfl ?_
          refine lv_istore (lv' := [(4, .int (nI 0)), (0, .ref n), (1, .int (nI p_)), (3, .int (rb_i g_))]) hx hb dX5_lookAt_216 hl (by decide) rfl (fun ls hl => ?_)
          exact K218 _ A_ k0 ln 0 σ3 _ _ rfl hF hA eA hAl hk hk0 hln (by rw [tkL, if_neg (by omega), ← eA]; first | (rw [← hg2 c_137]; omega) | (rw [← (hg1 c_137).2, show ty - (A_ + ln) = 0 by omega]; show ln = A_ + ln - A_; omega)) (by omega) hz (by omega) (fun _ => rfl) hP hS ls (lv_sub hl [1, 2, 0] rfl)
        · refine lv_aload_n hx hb dX5_lookAt_156 rfl (lv_at hl 0 rfl) ?_
          refine md_g19 C hP dX5_lookAt_157 ?_
          refine lv_aload_n hx hb dX5_lookAt_160 rfl (lv_at hl 0 rfl) ?_
          refine md_g21 C hP dX5_lookAt_161 ?_
          refine rn_co (y := nI A_) hA ?_
          refine lv_aload_n hx hb dX5_lookAt_164 rfl (lv_at hl 0 rfl) ?_
          refine md_g22 C hP dX5_lookAt_165 ?_
          refine rn_co (y := nI ln) hln ?_
          refine rn_iadd hx hb dX5_lookAt_168 ?_
          refine md_l12 C hP (by omega) dX5_lookAt_169 ?_
          refine lv_istore (lv' := [(4, .int (σ3 12 (A_ + ln))), (0, .ref n), (1, .int (nI p_)), (3, .int (rb_i g_))]) hx hb dX5_lookAt_170 hl (by decide) rfl (fun ls hl => ?_)
          refine lv_aload_n hx hb dX5_lookAt_172 rfl (lv_at hl 1 rfl) ?_
          refine md_g23 C hP dX5_lookAt_173 ?_
          refine rn_co (y := nI k0) hk ?_
          refine lv_iconst (v := nI 1) hx hb dX5_lookAt_176 rfl ?_
          refine rn_icmp_ne (tgt := 188) hx hb (by omega) (by omega) dX5_lookAt_177 (by decide) (fun c_177 => ?_) (fun c_177 => ?_)
          · refine lv_iload hx hb dX5_lookAt_188 (lv_at hl 0 rfl) ?_
            refine md_sSe (As := [.int (σ3 12 (A_ + ln))]) (rest := []) C (met_isFigure l (σ3 12 (A_ + ln))) card_isFigure rfl rfl ⟨Nat.le_of_ble_eq_true rfl, Nat.le_of_ble_eq_true rfl⟩ hl.1 (Nat.le_of_ble_eq_true rfl) dX5_lookAt_190 ?_
            refine lv_istore_n (lv' := [(3, .int (rb_i (rv_in (σ3 12 (A_ + ln)) 48 57))), (4, .int (σ3 12 (A_ + ln))), (0, .ref n), (1, .int (nI p_))]) hx hb dX5_lookAt_193 rfl hl (by decide) rfl (fun ls hl => ?_)
            refine lv_aload_n hx hb dX5_lookAt_194 rfl (lv_at hl 2 rfl) ?_
            refine lv_dup hx hb dX5_lookAt_195 rfl ?_
            refine md_g22 C hP dX5_lookAt_196 ?_
            refine rn_co (y := nI ln) hln ?_
            refine lv_iload_n hx hb dX5_lookAt_199 rfl (lv_at hl 0 rfl) ?_
            refine rn_zt (tgt := 207) hx hb dX5_lookAt_200 (by decide) (fun c_200 => ?_) (fun c_200 => ?_)
            · refine lv_iconst (v := nI 0) hx hb dX5_lookAt_207 rfl ?_
              refine rn_iadd hx hb dX5_lookAt_208 ?_
              refine md_p22 C hP hS dX5_lookAt_209 (fun H locs hP hS => ?_)
              refine lv_goto (tgt := 136) hx hb dX5_lookAt_212 (by decide) ?_
              exact ih136 _ (by rw [c_137] at hm136_; rw [c_200]; simp only [Bool.toNat_true, Bool.toNat_false] at hm136_ ⊢; omega) A_ k0 (rv_in (σ3 12 (A_ + ln)) 48 57) (ln + 0) (mdS σ3 15 7 (nI (ln + 0))) _ _ rfl (hF.S _ (by omega)) (by rw [mdS_ne (by decide)]; exact hA) eA hAl (by rw [mdS_ne (by decide)]; exact hk) hk0 (mdS_eq _ _ _ _) (by rw [mdS_ne (by decide)]; exact hz) (by omega) (fun z => by first | exact absurd (z.symm.trans c_200) (by decide) | (refine ⟨(hg1 c_137).1, ?_⟩; rw [← (hg1 c_137).2, show ty - (A_ + ln) = (ty - (A_ + (ln + 1))) + 1 by omega, tk_run, if_pos (by first | exact tk_Pe e12 c_177 c_200 | exact tk_Pe2 e12 c_177 c_200)]; rfl)) (fun z => by first | exact absurd (z.symm.trans c_200) (by decide) | (rw [← (hg1 c_137).2, show ty - (A_ + ln) = (ty - (A_ + (ln + 1))) + 1 by omega, tk_run, if_neg (rv_nf (by first | exact tk_Pe e12 c_177 c_200 | exact tk_Pe2 e12 c_177 c_200))]; rfl)) hP hS ls (lv_sub hl [2, 3, 0] rfl)
            · refine lv_iconst (v := nI 1) hx hb dX5_lookAt_203 rfl ?_
              refine lv_goto (tgt := 208) hx hb dX5_lookAt_204 (by decide) ?_
              refine rn_iadd hx hb dX5_lookAt_208 ?_
              refine md_p22 C hP hS dX5_lookAt_209 (fun H locs hP hS => ?_)
              refine lv_goto (tgt := 136) hx hb dX5_lookAt_212 (by decide) ?_
              exact ih136 _ (by rw [c_137] at hm136_; rw [c_200]; simp only [Bool.toNat_true, Bool.toNat_false] at hm136_ ⊢; omega) A_ k0 (rv_in (σ3 12 (A_ + ln)) 48 57) (ln + 1) (mdS σ3 15 7 (nI (ln + 1))) _ _ rfl (hF.S _ (by omega)) (by rw [mdS_ne (by decide)]; exact hA) eA hAl (by rw [mdS_ne (by decide)]; exact hk) hk0 (mdS_eq _ _ _ _) (by rw [mdS_ne (by decide)]; exact hz) (by omega) (fun z => by first | exact absurd (z.symm.trans c_200) (by decide) | (refine ⟨(hg1 c_137).1, ?_⟩; rw [← (hg1 c_137).2, show ty - (A_ + ln) = (ty - (A_ + (ln + 1))) + 1 by omega, tk_run, if_pos (by first | exact tk_Pe e12 c_177 c_200 | exact tk_Pe2 e12 c_177 c_200)]; rfl)) (fun z => by first | exact absurd (z.symm.trans c_200) (by decide) | (rw [← (hg1 c_137).2, show ty - (A_ + ln) = (ty - (A_ + (ln + 1))) + 1 by omega, tk_run, if_neg (rv_nf (by first | exact tk_Pe e12 c_177 c_200 | exact tk_Pe2 e12 c_177 c_200))]; rfl)) hP hS ls (lv_sub hl [2, 3, 0] rfl)
          · refine lv_iload hx hb dX5_lookAt_180 (lv_at hl 0 rfl) ?_
            refine md_sSe (As := [.int (σ3 12 (A_ + ln))]) (rest := []) C (met_isSmall l (σ3 12 (A_ + ln))) card_isSmall rfl rfl ⟨Nat.le_of_ble_eq_true rfl, Nat.le_of_ble_eq_true rfl⟩ hl.1 (Nat.le_of_ble_eq_true rfl) dX5_lookAt_182 ?_
            refine lv_goto (tgt := 193) hx hb dX5_lookAt_185 (by decide) ?_
            refine lv_istore_n (lv' := [(3, .int (rb_i (rv_in (σ3 12 (A_ + ln)) 97 122))), (4, .int (σ3 12 (A_ + ln))), (0, .ref n), (1, .int (nI p_))]) hx hb dX5_lookAt_193 rfl hl (by decide) rfl (fun ls hl => ?_)
            refine lv_aload_n hx hb dX5_lookAt_194 rfl (lv_at hl 2 rfl) ?_
            refine lv_dup hx hb dX5_lookAt_195 rfl ?_
            refine md_g22 C hP dX5_lookAt_196 ?_
            refine rn_co (y := nI ln) hln ?_
            refine lv_iload_n hx hb dX5_lookAt_199 rfl (lv_at hl 0 rfl) ?_
            refine rn_zt (tgt := 207) hx hb dX5_lookAt_200 (by decide) (fun c_200 => ?_) (fun c_200 => ?_)
            · refine lv_iconst (v := nI 0) hx hb dX5_lookAt_207 rfl ?_
              refine rn_iadd hx hb dX5_lookAt_208 ?_
              refine md_p22 C hP hS dX5_lookAt_209 (fun H locs hP hS => ?_)
              refine lv_goto (tgt := 136) hx hb dX5_lookAt_212 (by decide) ?_
              exact ih136 _ (by rw [c_137] at hm136_; rw [c_200]; simp only [Bool.toNat_true, Bool.toNat_false] at hm136_ ⊢; omega) A_ k0 (rv_in (σ3 12 (A_ + ln)) 97 122) (ln + 0) (mdS σ3 15 7 (nI (ln + 0))) _ _ rfl (hF.S _ (by omega)) (by rw [mdS_ne (by decide)]; exact hA) eA hAl (by rw [mdS_ne (by decide)]; exact hk) hk0 (mdS_eq _ _ _ _) (by rw [mdS_ne (by decide)]; exact hz) (by omega) (fun z => by first | exact absurd (z.symm.trans c_200) (by decide) | (refine ⟨(hg1 c_137).1, ?_⟩; rw [← (hg1 c_137).2, show ty - (A_ + ln) = (ty - (A_ + (ln + 1))) + 1 by omega, tk_run, if_pos (by first | exact tk_Pe e12 c_177 c_200 | exact tk_Pe2 e12 c_177 c_200)]; rfl)) (fun z => by first | exact absurd (z.symm.trans c_200) (by decide) | (rw [← (hg1 c_137).2, show ty - (A_ + ln) = (ty - (A_ + (ln + 1))) + 1 by omega, tk_run, if_neg (rv_nf (by first | exact tk_Pe e12 c_177 c_200 | exact tk_Pe2 e12 c_177 c_200))]; rfl)) hP hS ls (lv_sub hl [2, 3, 0] rfl)
            · refine lv_iconst (v := nI 1) hx hb dX5_lookAt_203 rfl ?_
              refine lv_goto (tgt := 208) hx hb dX5_lookAt_204 (by decide) ?_
              refine rn_iadd hx hb dX5_lookAt_208 ?_
              refine md_p22 C hP hS dX5_lookAt_209 (fun H locs hP hS => ?_)
              refine lv_goto (tgt := 136) hx hb dX5_lookAt_212 (by decide) ?_
              exact ih136 _ (by rw [c_137] at hm136_; rw [c_200]; simp only [Bool.toNat_true, Bool.toNat_false] at hm136_ ⊢; omega) A_ k0 (rv_in (σ3 12 (A_ + ln)) 97 122) (ln + 1) (mdS σ3 15 7 (nI (ln + 1))) _ _ rfl (hF.S _ (by omega)) (by rw [mdS_ne (by decide)]; exact hA) eA hAl (by rw [mdS_ne (by decide)]; exact hk) hk0 (mdS_eq _ _ _ _) (by rw [mdS_ne (by decide)]; exact hz) (by omega) (fun z => by first | exact absurd (z.symm.trans c_200) (by decide) | (refine ⟨(hg1 c_137).1, ?_⟩; rw [← (hg1 c_137).2, show ty - (A_ + ln) = (ty - (A_ + (ln + 1))) + 1 by omega, tk_run, if_pos (by first | exact tk_Pe e12 c_177 c_200 | exact tk_Pe2 e12 c_177 c_200)]; rfl)) (fun z => by first | exact absurd (z.symm.trans c_200) (by decide) | (rw [← (hg1 c_137).2, show ty - (A_ + ln) = (ty - (A_ + (ln + 1))) + 1 by omega, tk_run, if_neg (rv_nf (by first | exact tk_Pe e12 c_177 c_200 | exact tk_Pe2 e12 c_177 c_200))]; rfl)) hP hS ls (lv_sub hl [2, 3, 0] rfl)
  have K114 : ∀ (A_ : Nat) (k0 : Nat) (cc_ : Int32) (σ2 : mdT) (H : Heap) (locs : List Loc), (mdTk σ σ2) → (σ2 15 6 = nI A_) → (A_ = tkA (σ 12) ty p_) → (A_ < ty) → (k0 = tk_k0 ((σ 12) A_)) → (σ2 15 9 = 0) → mdP dC dI dA n σ2 ab be H → va_S (mdA n) s.heap H locs → ∀ ls, lv_has ls 5 [(0, .ref n), (1, .int (nI p_)), (2, .int cc_)] → W p l e { frames := 3, cells := 0, slots := 0, locals := 180 } s m [.ref n, .int (nI p_)].toArray below meth c H locs 0 0 (MQ below (va_Qv (fun u => mdTk σ u ∧ mdAt (σ 12) ty p_ u) (mdB dC dI dA n ab be) (mdA n)) [.ref n, .int (nI p_)].toArray s 0 0 (mdA n)) (F0 m 114 ls [.int (nI k0), .ref n]) := by
    intro A_ k0 cc_ σ2 H locs hF hA eA hAl hk0 hz hP hS ls hl
    have hk8 : k0 < 5 := by rw [hk0]; unfold tk_k0; split; omega; split; omega; split <;> omega
    refine md_p23 C hP hS dX5_lookAt_114 (fun H locs hP hS => ?_)
    refine lv_aload_n hx hb dX5_lookAt_117 rfl (lv_at hl 0 rfl) ?_
    refine lv_iconst (v := nI 1) hx hb dX5_lookAt_118 rfl ?_
    refine md_p22 C hP hS dX5_lookAt_119 (fun H locs hP hS => ?_)
    refine lv_aload_n hx hb dX5_lookAt_122 rfl (lv_at hl 0 rfl) ?_
    refine md_g23 C hP dX5_lookAt_123 ?_
    refine rn_co (y := nI k0) (by rw [mdS_ne (by decide), mdS_eq]) ?_
    refine lv_iconst (v := nI 3) hx hb dX5_lookAt_126 rfl ?_
    refine rn_icmp_ge (tgt := 134) hx hb (by omega) (by omega) dX5_lookAt_127 (by decide) (fun c_127 => ?_) (fun c_127 => ?_)
    · refine lv_iconst (v := nI 0) hx hb dX5_lookAt_134 rfl ?_
      refine lv_istore_n (lv' := [(3, .int (nI 0)), (0, .ref n), (1, .int (nI p_)), (2, .int cc_)]) hx hb dX5_lookAt_135 rfl hl (by decide) rfl (fun ls hl => ?_)
      exact K136 _ A_ k0 false 1 (mdS (mdS σ2 15 8 (nI k0)) 15 7 (nI 1)) _ _ rfl ((hF.S (k := 8) _ (by omega)).S (k := 7) _ (by omega)) (by rw [mdS_ne (by decide), mdS_ne (by decide)]; exact hA) eA hAl (by rw [mdS_ne (by decide), mdS_eq]) hk0 (mdS_eq _ _ _ _) (by rw [mdS_ne (by decide), mdS_ne (by decide)]; exact hz) (by omega) (fun z => by first | exact absurd z (by decide) | (refine ⟨by omega, ?_⟩; rw [tk_E, ← hk0, if_pos (by omega), show ty - A_ = (ty - (A_ + 1)) + 1 by omega, tk_run, if_pos (by rw [hk0]; exact tk_k0P (by omega))])) (fun z => by first | exact absurd z (by decide) | rw [tk_E, ← hk0, if_neg (by omega)]) hP hS ls (lv_sub hl [1, 2, 0] rfl)
    · refine lv_iconst (v := nI 1) hx hb dX5_lookAt_130 rfl ?_
      refine lv_goto (tgt := 135) hx hb dX5_lookAt_131 (by decide) ?_
      refine lv_istore_n (lv' := [(3, .int (nI 1)), (0, .ref n), (1, .int (nI p_)), (2, .int cc_)]) hx hb dX5_lookAt_135 rfl hl (by decide) rfl (fun ls hl => ?_)
      exact K136 _ A_ k0 true 1 (mdS (mdS σ2 15 8 (nI k0)) 15 7 (nI 1)) _ _ rfl ((hF.S (k := 8) _ (by omega)).S (k := 7) _ (by omega)) (by rw [mdS_ne (by decide), mdS_ne (by decide)]; exact hA) eA hAl (by rw [mdS_ne (by decide), mdS_eq]) hk0 (mdS_eq _ _ _ _) (by rw [mdS_ne (by decide), mdS_ne (by decide)]; exact hz) (by omega) (fun z => by first | exact absurd z (by decide) | (refine ⟨by omega, ?_⟩; rw [tk_E, ← hk0, if_pos (by omega), show ty - A_ = (ty - (A_ + 1)) + 1 by omega, tk_run, if_pos (by rw [hk0]; exact tk_k0P (by omega))])) (fun z => by first | exact absurd z (by decide) | rw [tk_E, ← hk0, if_neg (by omega)]) hP hS ls (lv_sub hl [1, 2, 0] rfl)
  have K43 : ∀ (A_ : Nat) (σ1 : mdT) (H : Heap) (locs : List Loc), (mdTk σ σ1) → (σ1 15 6 = nI A_) → (A_ = tkA (σ 12) ty p_) → (A_ ≤ ty) → mdP dC dI dA n σ1 ab be H → va_S (mdA n) s.heap H locs → ∀ ls, lv_has ls 5 [(0, .ref n), (1, .int (nI p_))] → W p l e { frames := 3, cells := 0, slots := 0, locals := 180 } s m [.ref n, .int (nI p_)].toArray below meth c H locs 0 0 (MQ below (va_Qv (fun u => mdTk σ u ∧ mdAt (σ 12) ty p_ u) (mdB dC dI dA n ab be) (mdA n)) [.ref n, .int (nI p_)].toArray s 0 0 (mdA n)) (F0 m 43 ls []) := by
    intro A_ σ1 H locs hF hA eA hAl hP hS ls hl
    refine lv_aload_n hx hb dX5_lookAt_43 rfl (lv_at hl 0 rfl) ?_
    refine lv_iconst (v := nI 0) hx hb dX5_lookAt_44 rfl ?_
    refine md_p22 C hP hS dX5_lookAt_45 (fun H locs hP hS => ?_)
    refine lv_aload_n hx hb dX5_lookAt_48 rfl (lv_at hl 0 rfl) ?_
    refine lv_iconst (v := nI 0) hx hb dX5_lookAt_49 rfl ?_
    refine md_p23 C hP hS dX5_lookAt_50 (fun H locs hP hS => ?_)
    refine lv_aload_n hx hb dX5_lookAt_53 rfl (lv_at hl 0 rfl) ?_
    refine lv_iconst (v := nI 0) hx hb dX5_lookAt_54 rfl ?_
    refine md_p24 C hP hS dX5_lookAt_55 (fun H locs hP hS => ?_)
    refine lv_aload_n hx hb dX5_lookAt_58 rfl (lv_at hl 0 rfl) ?_
    refine md_g21 C hP dX5_lookAt_59 ?_
    refine rn_co (y := nI A_) (by rw [mdS_ne (by decide), mdS_ne (by decide), mdS_ne (by decide)]; exact hA) ?_
    refine lv_aload_n hx hb dX5_lookAt_62 rfl (lv_at hl 0 rfl) ?_
    refine md_g20 C hP dX5_lookAt_63 ?_
    refine rn_co (y := nI ty) (by rw [mdS_ne (by decide), mdS_ne (by decide), mdS_ne (by decide), hF.2 5 (by decide) (by decide) (by decide) (by decide)]; exact ht) ?_
    refine rn_icmp_ne (tgt := 70) hx hb (by omega) (by omega) dX5_lookAt_66 (by decide) (fun c_66 => ?_) (fun c_66 => ?_)
    · refine lv_aload_n hx hb dX5_lookAt_70 rfl (lv_at hl 0 rfl) ?_
      refine md_g19 C hP dX5_lookAt_71 ?_
      refine lv_aload_n hx hb dX5_lookAt_74 rfl (lv_at hl 0 rfl) ?_
      refine md_g21 C hP dX5_lookAt_75 ?_
      refine rn_co (y := nI A_) (by rw [mdS_ne (by decide), mdS_ne (by decide), mdS_ne (by decide)]; exact hA) ?_
      refine md_l12 C hP (by omega) dX5_lookAt_78 ?_
      refine lv_topi (fun cc_ ecc_ => ?_)
      refine lv_istore_n (lv' := [(2, .int cc_), (0, .ref n), (1, .int (nI p_))]) hx hb dX5_lookAt_79 rfl hl (by decide) rfl (fun ls hl => ?_)
      have ec : cc_ = σ 12 A_ := by rw [ecc_, mdS_o _ (by decide), mdS_o _ (by decide), mdS_o _ (by decide), hF.1 12 (by decide)]
      refine lv_aload_n hx hb dX5_lookAt_80 rfl (lv_at hl 1 rfl) ?_
      refine lv_iload_n hx hb dX5_lookAt_81 rfl (lv_at hl 0 rfl) ?_
      refine md_sSe (As := [.int cc_]) (rest := [.ref n]) C (met_isSmall l cc_) card_isSmall rfl rfl ⟨Nat.le_of_ble_eq_true rfl, Nat.le_of_ble_eq_true rfl⟩ hl.1 (Nat.le_of_ble_eq_true rfl) dX5_lookAt_82 ?_
      refine rn_zt (tgt := 92) hx hb dX5_lookAt_85 (by decide) (fun c_85 => ?_) (fun c_85 => ?_)
      · refine lv_iload_n hx hb dX5_lookAt_92 rfl (lv_at hl 0 rfl) ?_
        refine md_sSe (As := [.int cc_]) (rest := [.ref n]) C (met_isFigure l cc_) card_isFigure rfl rfl ⟨Nat.le_of_ble_eq_true rfl, Nat.le_of_ble_eq_true rfl⟩ hl.1 (Nat.le_of_ble_eq_true rfl) dX5_lookAt_93 ?_
        refine rn_zt (tgt := 103) hx hb dX5_lookAt_96 (by decide) (fun c_96 => ?_) (fun c_96 => ?_)
        · refine lv_iload_n hx hb dX5_lookAt_103 rfl (lv_at hl 0 rfl) ?_
          refine lv_bipush (v := nI 59) hx hb dX5_lookAt_104 rfl ?_
          refine lv_icmp_ne (tgt := 113) hx hb dX5_lookAt_106 (by decide) (fun (c_106 : ¬ cc_ = 59) => ?_) (fun (c_106 : cc_ = 59) => ?_)
          · refine lv_iconst (v := nI 4) hx hb dX5_lookAt_113 rfl ?_
            exact K114 A_ 4 cc_ (mdS (mdS (mdS σ1 15 7 (nI 0)) 15 8 (nI 0)) 15 9 (nI 0)) _ _ (((hF.S (k := 7) _ (by omega)).S (k := 8) _ (by omega)).S (k := 9) _ (by omega)) (by rw [mdS_ne (by decide), mdS_ne (by decide), mdS_ne (by decide)]; exact hA) eA (by omega) (by rw [ec] at *; unfold tk_k0; first | rw [if_pos c_85] | rw [if_neg (rv_nf c_85), if_pos c_96] | rw [if_neg (rv_nf c_85), if_neg (rv_nf c_96), if_pos c_106] | rw [if_neg (rv_nf c_85), if_neg (rv_nf c_96), if_neg c_106]) (mdS_eq _ _ _ _) hP hS ls (lv_sub hl [1, 2, 0] rfl)
          · refine lv_iconst (v := nI 3) hx hb dX5_lookAt_109 rfl ?_
            refine lv_goto (tgt := 114) hx hb dX5_lookAt_110 (by decide) ?_
            exact K114 A_ 3 cc_ (mdS (mdS (mdS σ1 15 7 (nI 0)) 15 8 (nI 0)) 15 9 (nI 0)) _ _ (((hF.S (k := 7) _ (by omega)).S (k := 8) _ (by omega)).S (k := 9) _ (by omega)) (by rw [mdS_ne (by decide), mdS_ne (by decide), mdS_ne (by decide)]; exact hA) eA (by omega) (by rw [ec] at *; unfold tk_k0; first | rw [if_pos c_85] | rw [if_neg (rv_nf c_85), if_pos c_96] | rw [if_neg (rv_nf c_85), if_neg (rv_nf c_96), if_pos c_106] | rw [if_neg (rv_nf c_85), if_neg (rv_nf c_96), if_neg c_106]) (mdS_eq _ _ _ _) hP hS ls (lv_sub hl [1, 2, 0] rfl)
        · refine lv_iconst (v := nI 2) hx hb dX5_lookAt_99 rfl ?_
          refine lv_goto (tgt := 114) hx hb dX5_lookAt_100 (by decide) ?_
          exact K114 A_ 2 cc_ (mdS (mdS (mdS σ1 15 7 (nI 0)) 15 8 (nI 0)) 15 9 (nI 0)) _ _ (((hF.S (k := 7) _ (by omega)).S (k := 8) _ (by omega)).S (k := 9) _ (by omega)) (by rw [mdS_ne (by decide), mdS_ne (by decide), mdS_ne (by decide)]; exact hA) eA (by omega) (by rw [ec] at *; unfold tk_k0; first | rw [if_pos c_85] | rw [if_neg (rv_nf c_85), if_pos c_96] | rw [if_neg (rv_nf c_85), if_neg (rv_nf c_96), if_pos c_106] | rw [if_neg (rv_nf c_85), if_neg (rv_nf c_96), if_neg c_106]) (mdS_eq _ _ _ _) hP hS ls (lv_sub hl [1, 2, 0] rfl)
      · refine lv_iconst (v := nI 1) hx hb dX5_lookAt_88 rfl ?_
        refine lv_goto (tgt := 114) hx hb dX5_lookAt_89 (by decide) ?_
        exact K114 A_ 1 cc_ (mdS (mdS (mdS σ1 15 7 (nI 0)) 15 8 (nI 0)) 15 9 (nI 0)) _ _ (((hF.S (k := 7) _ (by omega)).S (k := 8) _ (by omega)).S (k := 9) _ (by omega)) (by rw [mdS_ne (by decide), mdS_ne (by decide), mdS_ne (by decide)]; exact hA) eA (by omega) (by rw [ec] at *; unfold tk_k0; first | rw [if_pos c_85] | rw [if_neg (rv_nf c_85), if_pos c_96] | rw [if_neg (rv_nf c_85), if_neg (rv_nf c_96), if_pos c_106] | rw [if_neg (rv_nf c_85), if_neg (rv_nf c_96), if_neg c_106]) (mdS_eq _ _ _ _) hP hS ls (lv_sub hl [1, 2, 0] rfl)
    · exact md_rv C hr hlk hP hS dX5_lookAt_69 (by have ea : A_ = ty := (by omega); exact ⟨((hF.S (k := 7) _ (by omega)).S (k := 8) _ (by omega)).S (k := 9) _ (by omega), by rw [mdS_ne (by decide), mdS_ne (by decide), mdS_ne (by decide), hA, eA], by rw [mdS_ne (by decide), mdS_ne (by decide), mdS_eq, tkL, if_pos (by omega)], by rw [mdS_ne (by decide), mdS_eq, tkK, if_pos (by omega)], by rw [mdS_eq, tkV, if_pos (by omega)]; rfl⟩)
  have K5 : ∀ (k5_ : Nat) (q : Nat) (σ1 : mdT) (H : Heap) (locs : List Loc), ty - q = k5_ → (mdTk σ σ1) → (σ1 15 6 = nI q) → (q ≤ ty) → (tk_skip (σ 12) (ty - q) q = tkA (σ 12) ty p_) → mdP dC dI dA n σ1 ab be H → va_S (mdA n) s.heap H locs → ∀ ls, lv_has ls 5 [(0, .ref n), (1, .int (nI p_))] → W p l e { frames := 3, cells := 0, slots := 0, locals := 180 } s m [.ref n, .int (nI p_)].toArray below meth c H locs 0 0 (MQ below (va_Qv (fun u => mdTk σ u ∧ mdAt (σ 12) ty p_ u) (mdB dC dI dA n ab be) (mdA n)) [.ref n, .int (nI p_)].toArray s 0 0 (mdA n)) (F0 m 5 ls []) := by
    intro k5_
    induction k5_ using Nat.strongRecOn with
    | _ k5_ ih5 =>
      intro q σ1 H locs hm5_ hF hq hql hsk hP hS ls hl
      have ht_ : σ1 15 5 = nI ty := by rw [hF.2 5 (by decide) (by decide) (by decide) (by decide)]; exact ht
      have e12 : σ1 12 = σ 12 := hF.1 12 (by decide)
      refine lv_aload_n hx hb dX5_lookAt_5 rfl (lv_at hl 0 rfl) ?_
      refine md_g21 C hP dX5_lookAt_6 ?_
      refine rn_co (y := nI q) hq ?_
      refine lv_aload_n hx hb dX5_lookAt_9 rfl (lv_at hl 0 rfl) ?_
      refine md_g20 C hP dX5_lookAt_10 ?_
      refine rn_co (y := nI ty) ht_ ?_
      refine rn_icmp_ge (tgt := 43) hx hb (by omega) (by omega) dX5_lookAt_13 (by decide) (fun c_13 => ?_) (fun c_13 => ?_)
      · exact K43 q σ1 _ _ hF hq (by rw [← hsk, show ty - q = 0 by omega]; rfl) (by omega) hP hS ls (lv_sub hl [0, 1] rfl)
      · refine lv_aload_n hx hb dX5_lookAt_16 rfl (lv_at hl 0 rfl) ?_
        refine md_g19 C hP dX5_lookAt_17 ?_
        refine lv_aload_n hx hb dX5_lookAt_20 rfl (lv_at hl 0 rfl) ?_
        refine md_g21 C hP dX5_lookAt_21 ?_
        refine rn_co (y := nI q) hq ?_
        refine md_l12 C hP (by omega) dX5_lookAt_24 ?_
        refine lv_bipush (v := nI 32) hx hb dX5_lookAt_25 rfl ?_
        refine lv_icmp_ne (tgt := 43) hx hb dX5_lookAt_27 (by decide) (fun (c_27 : ¬ σ1 12 q = 32) => ?_) (fun (c_27 : σ1 12 q = 32) => ?_)
        · exact K43 q σ1 _ _ hF hq (by rw [← hsk, show ty - q = (ty - (q + 1)) + 1 by omega, tk_skip, if_neg (by rw [← e12]; exact c_27)]) (by omega) hP hS ls (lv_sub hl [0, 1] rfl)
        · refine lv_aload_n hx hb dX5_lookAt_30 rfl (lv_at hl 0 rfl) ?_
          refine lv_dup hx hb dX5_lookAt_31 rfl ?_
          refine md_g21 C hP dX5_lookAt_32 ?_
          refine rn_co (y := nI q) hq ?_
          refine lv_iconst (v := nI 1) hx hb dX5_lookAt_35 rfl ?_
          refine rn_iadd hx hb dX5_lookAt_36 ?_
          refine md_p21 C hP hS dX5_lookAt_37 (fun H locs hP hS => ?_)
          refine lv_goto (tgt := 5) hx hb dX5_lookAt_40 (by decide) ?_
          exact ih5 _ (by omega) (q + 1) (mdS σ1 15 6 (nI (q + 1))) _ _ rfl (hF.S _ (by omega)) (mdS_eq _ _ _ _) (by omega) (by rw [← hsk, show ty - q = (ty - (q + 1)) + 1 by omega, tk_skip, if_pos (by rw [← e12]; exact c_27)]) hP hS ls (lv_sub hl [0, 1] rfl)
  refine lv_aload_n hx hb dX5_lookAt_0 rfl (lv_at hl 0 rfl) ?_
  refine lv_iload_n hx hb dX5_lookAt_1 rfl (lv_at hl 1 rfl) ?_
  refine md_p21 C hP hS dX5_lookAt_2 (fun H locs hP hS => ?_)
  exact K5 _ p_ (mdS σ 15 6 (nI p_)) _ _ rfl ((mdTk.rf σ).S _ (by omega)) (mdS_eq _ _ _ _) hp rfl hP hS ls (lv_sub hl [0, 1] rfl)
/-- where the next token is sought -/
abbrev tkN (T : Nat → Int32) (tl p : Nat) : Nat := tkA T tl p + tkL T tl p
theorem tkN_b {T : Nat → Int32} {tl p : Nat} (h : p ≤ tl) : tkN T tl p ≤ tl := (tkL_b h).1
theorem tkK_b {T : Nat → Int32} {tl p : Nat} : tkK T tl p < 5 := by
  unfold tkK
  split
  · omega
  · split
    · omega
    · unfold tk_k0; split
      · omega
      · split
        · omega
        · split <;> omega
def rv_eqw (T : Nat → Int32) (a : Nat) (w : Nat → Int32) : Nat → Bool
  | 0 => true
  | k + 1 => rv_eqw T a w k && decide (T (a + k) = w k)
/-- six letters by their places -/
def rv_w6 (a b c d e f : Int32) (k : Nat) : Int32 := if k = 0 then a else if k = 1 then b else if k = 2 then c else if k = 3 then d else if k = 4 then e else f
def tkW (T : Nat → Int32) (tl p sz : Nat) (w : Nat → Int32) : Bool := (decide (tkK T tl p = 1) && decide (tkL T tl p = sz)) && rv_eqw T (tkA T tl p) w sz
theorem met_goBehind (l : Launch) (dC : Nat → ClassId) (dI : Nat → Nat → Nat) (dA : Nat → ClassId) (n : Nat) (σ : mdT) (ab be : Int64) (ty : Nat) (ht : σ 15 5 = nI ty) (ht6 : ty ≤ 150) (p_ : Nat) (hp : p_ ≤ ty) (hat : mdAt (σ 12) ty p_ σ) : Met l yX5_goBehind (ws_ yX5_goBehind cX5_goBehind 1 none) { frames := 4, cells := 0, slots := 0, locals := 240 } (mdPc dC dI dA n σ ab be [.ref n]) (va_Qv (fun u => mdTk σ u ∧ mdAt (σ 12) ty (tkN (σ 12) ty p_) u) (mdB dC dI dA n ab be) (mdA n)) 0 0 (mdA n) := by
  refine md_in (by decide) rfl (Nat.le_of_ble_eq_true rfl) (lv := [(0, .ref n)]) rfl ?_
  intro p e s m below meth c C hr hlk hP ls hl
  have hx := C.1
  have hb := C.2.1
  have hown := C.2.2.2.1
  have hts := C.2.2.2.2.1
  have hS : va_S (mdA n) s.heap s.heap [] := va_S.rf
  have hb1 := (tkL_b (T := σ 12) hp).1
  have hb2 := tkA_b (T := σ 12) hp
  refine lv_aload_n hx hb dX5_goBehind_0 rfl (lv_at hl 0 rfl) ?_
  refine lv_aload_n hx hb dX5_goBehind_1 rfl (lv_at hl 0 rfl) ?_
  refine md_g21 C hP dX5_goBehind_2 ?_
  refine rn_co (y := nI (tkA (σ 12) ty p_)) hat.1 ?_
  refine lv_aload_n hx hb dX5_goBehind_5 rfl (lv_at hl 0 rfl) ?_
  refine md_g22 C hP dX5_goBehind_6 ?_
  refine rn_co (y := nI (tkL (σ 12) ty p_)) hat.2.1 ?_
  refine rn_iadd hx hb dX5_goBehind_9 ?_
  refine md_cWv (As := [.int (nI ((tkA (σ 12) ty p_) + (tkL (σ 12) ty p_)))]) (rest := []) C hP hS (met_lookAt l dC dI dA n σ ab be ((tkA (σ 12) ty p_) + (tkL (σ 12) ty p_)) ty ht ht6 (by omega)) card_lookAt rfl rfl ⟨Nat.le_of_ble_eq_true rfl, Nat.le_of_ble_eq_true rfl⟩ hl.1 (Nat.le_of_ble_eq_true rfl) dX5_goBehind_10 (fun s10 H locs hs10 hP hS => ?_)
  exact md_rv C hr hlk hP hS dX5_goBehind_13 hs10
theorem rv_eqw_f {T : Nat → Int32} {a : Nat} {w : Nat → Int32} {i : Nat} (h : rv_eqw T a w i = false) : ∀ n, i ≤ n → rv_eqw T a w n = false
  | 0, hn => by rw [show i = 0 by omega] at h; exact h
  | n + 1, hn => by
    rcases Nat.lt_or_ge n i with g | g
    · rw [show n + 1 = i by omega]; exact h
    · rw [rv_eqw, rv_eqw_f h n g]; rfl
theorem tkW_f {T : Nat → Int32} {a : Nat} {w : Nat → Int32} {i n : Nat} {b : Bool} (h : (b && rv_eqw T a w i) = false) (hn : i ≤ n) : (b && rv_eqw T a w n) = false := by
  cases b with
  | false => rfl
  | true => exact rv_eqw_f h n hn
set_option maxHeartbeats 1000000 in
theorem met_isCalled (l : Launch) (dC : Nat → ClassId) (dI : Nat → Nat → Nat) (dA : Nat → ClassId) (n : Nat) (σ : mdT) (ab be : Int64) (sz : Nat) (a1 : Int32) (a2 : Int32) (a3 : Int32) (a4 : Int32) (a5 : Int32) (a6 : Int32) (ty : Nat) (ht : σ 15 5 = nI ty) (ht6 : ty ≤ 150) (p_ : Nat) (hp : p_ ≤ ty) (hat : mdAt (σ 12) ty p_ σ) (hsz : sz ≤ 6) : Met l yX5_isCalled (ws_ yX5_isCalled cX5_isCalled 10 (some .boolean)) { frames := 1, cells := 0, slots := 0, locals := 60 } (mdPc dC dI dA n σ ab be [.ref n, .int (nI sz), .int a1, .int a2, .int a3, .int a4, .int a5, .int a6]) (vp_Si (fun r_ => r_ = (rb_i (tkW (σ 12) ty p_ sz (rv_w6 a1 a2 a3 a4 a5 a6))))) 0 0 (fun _ => False) := by
  refine md_in (by decide) rfl (Nat.le_of_ble_eq_true rfl) (lv := [(0, .ref n), (1, .int (nI sz)), (2, .int a1), (3, .int a2), (4, .int a3), (5, .int a4), (6, .int a5), (7, .int a6)]) rfl ?_
  intro p e s m below meth c C hr hlk hP ls hl
  have hx := C.1
  have hb := C.2.1
  have hown := C.2.2.2.1
  have hts := C.2.2.2.2.1
  have hb1 := (tkL_b (T := σ 12) hp).1
  have hb2 := tkA_b (T := σ 12) hp
  have hk5 := tkK_b (T := σ 12) (tl := ty) (p := p_)
  obtain ⟨A_, eA⟩ : ∃ x, x = tkA (σ 12) ty p_ := ⟨_, rfl⟩
  have hatA : σ 15 6 = nI A_ := by rw [eA]; exact hat.1
  have K26 : ∀ (k26_ : Nat) (b_ : Bool) (i : Nat), sz - i = k26_ → (i ≤ sz) → (b_ = true → tkL (σ 12) ty p_ = sz) → (b_ = ((decide (tkK (σ 12) ty p_ = 1) && decide (tkL (σ 12) ty p_ = sz)) && rv_eqw (σ 12) A_ (rv_w6 a1 a2 a3 a4 a5 a6) i)) → ∀ ls, lv_has ls 10 [(0, .ref n), (1, .int (nI sz)), (2, .int a1), (3, .int a2), (4, .int a3), (5, .int a4), (6, .int a5), (7, .int a6), (8, .int (rb_i b_)), (9, .int (nI i))] → W p l e { frames := 1, cells := 0, slots := 0, locals := 60 } s m [.ref n, .int (nI sz), .int a1, .int a2, .int a3, .int a4, .int a5, .int a6].toArray below meth c s.heap [] 0 0 (MQ below (vp_Si (fun r_ => r_ = (rb_i (tkW (σ 12) ty p_ sz (rv_w6 a1 a2 a3 a4 a5 a6))))) [.ref n, .int (nI sz), .int a1, .int a2, .int a3, .int a4, .int a5, .int a6].toArray s 0 0 (fun _ => False)) (F0 m 26 ls []) := by
    intro k26_
    induction k26_ using Nat.strongRecOn with
    | _ k26_ ih26 =>
      intro b_ i hm26_ hi hbb hb_ ls hl
      refine lv_iload hx hb dX5_isCalled_26 (lv_at hl 9 rfl) ?_
      refine lv_iload_n hx hb dX5_isCalled_28 rfl (lv_at hl 1 rfl) ?_
      refine rn_icmp_ge (tgt := 119) hx hb (by omega) (by omega) dX5_isCalled_29 (by decide) (fun c_29 => ?_) (fun c_29 => ?_)
      · refine lv_iload hx hb dX5_isCalled_119 (lv_at hl 8 rfl) ?_
        exact rv_rz hx hb hr hlk (rv_nar _) dX5_isCalled_121 (by first | (rw [tkW, ← eA, hb_, show i = sz by omega]; done) | (rw [tkW, ← eA]; have hf : b_ = false := c_34; rw [hf]; rw [hf] at hb_; exact (congrArg rb_i (tkW_f hb_.symm (by omega))).symm))
      · refine lv_iload hx hb dX5_isCalled_32 (lv_at hl 8 rfl) ?_
        refine rn_zt (tgt := 119) hx hb dX5_isCalled_34 (by decide) (fun c_34 => ?_) (fun c_34 => ?_)
        · refine lv_iload hx hb dX5_isCalled_119 (lv_at hl 8 rfl) ?_
          exact rv_rz hx hb hr hlk (rv_nar _) dX5_isCalled_121 (by first | (rw [tkW, ← eA, hb_, show i = sz by omega]; done) | (rw [tkW, ← eA]; have hf : b_ = false := c_34; rw [hf]; rw [hf] at hb_; exact (congrArg rb_i (tkW_f hb_.symm (by omega))).symm))
        · refine lv_aload_n hx hb dX5_isCalled_37 rfl (lv_at hl 0 rfl) ?_
          refine md_g19 C hP dX5_isCalled_38 ?_
          refine lv_aload_n hx hb dX5_isCalled_41 rfl (lv_at hl 0 rfl) ?_
          refine md_g21 C hP dX5_isCalled_42 ?_
          refine rn_co (y := nI A_) hatA ?_
          refine lv_iload hx hb dX5_isCalled_45 (lv_at hl 9 rfl) ?_
          refine rn_iadd hx hb dX5_isCalled_47 ?_
          refine md_l12 C hP (by have := hbb c_34; omega) dX5_isCalled_48 ?_
          refine lv_iload hx hb dX5_isCalled_49 (lv_at hl 9 rfl) ?_
          refine rn_if_ne (tgt := 58) hx hb (by omega) dX5_isCalled_51 (by decide) (fun c_51 => ?_) (fun c_51 => ?_)
          · refine lv_iload hx hb dX5_isCalled_58 (lv_at hl 9 rfl) ?_
            refine lv_iconst (v := nI 1) hx hb dX5_isCalled_60 rfl ?_
            refine rn_icmp_ne (tgt := 68) hx hb (by omega) (by omega) dX5_isCalled_61 (by decide) (fun c_61 => ?_) (fun c_61 => ?_)
            · refine lv_iload hx hb dX5_isCalled_68 (lv_at hl 9 rfl) ?_
              refine lv_iconst (v := nI 2) hx hb dX5_isCalled_70 rfl ?_
              refine rn_icmp_ne (tgt := 79) hx hb (by omega) (by omega) dX5_isCalled_71 (by decide) (fun c_71 => ?_) (fun c_71 => ?_)
              · refine lv_iload hx hb dX5_isCalled_79 (lv_at hl 9 rfl) ?_
                refine lv_iconst (v := nI 3) hx hb dX5_isCalled_81 rfl ?_
                refine rn_icmp_ne (tgt := 90) hx hb (by omega) (by omega) dX5_isCalled_82 (by decide) (fun c_82 => ?_) (fun c_82 => ?_)
                · refine lv_iload hx hb dX5_isCalled_90 (lv_at hl 9 rfl) ?_
                  refine lv_iconst (v := nI 4) hx hb dX5_isCalled_92 rfl ?_
                  refine rn_icmp_ne (tgt := 101) hx hb (by omega) (by omega) dX5_isCalled_93 (by decide) (fun c_93 => ?_) (fun c_93 => ?_)
                  · refine lv_iload hx hb dX5_isCalled_101 (lv_at hl 7 rfl) ?_
                    refine lv_icmp_ne (tgt := 110) hx hb dX5_isCalled_103 (by decide) (fun (c_103 : ¬ σ 12 (A_ + i) = a6) => ?_) (fun (c_103 : σ 12 (A_ + i) = a6) => ?_)
                    · refine lv_iconst (v := nI 0) hx hb dX5_isCalled_110 rfl ?_
                      refine lv_istore (lv' := [(8, .int (nI 0)), (0, .ref n), (1, .int (nI sz)), (2, .int a1), (3, .int a2), (4, .int a3), (5, .int a4), (6, .int a5), (7, .int a6), (9, .int (nI i))]) hx hb dX5_isCalled_111 hl (by decide) rfl (fun ls hl => ?_)
                      refine rn_iinc (lv' := [(9, .int (nI (i + 1))), (8, .int (nI 0)), (0, .ref n), (1, .int (nI sz)), (2, .int a1), (3, .int a2), (4, .int a3), (5, .int a4), (6, .int a5), (7, .int a6)]) hx hb dX5_isCalled_113 hl (k := 9) rfl (by decide) rfl (fun ls hl => ?_)
                      refine lv_goto (tgt := 26) hx hb dX5_isCalled_116 (by decide) ?_
                      exact ih26 _ (by omega) false (i + 1) rfl (by omega) (fun _ => hbb c_34) (by rw [rv_eqw, ← Bool.and_assoc, ← hb_, c_34, Bool.true_and]; first | exact (decide_eq_true (by simp_all [rv_w6])).symm | exact (decide_eq_false (by simp_all [rv_w6])).symm) ls (lv_sub hl [2, 3, 4, 5, 6, 7, 8, 9, 1, 0] rfl)
                    · refine lv_iconst (v := nI 1) hx hb dX5_isCalled_106 rfl ?_
                      refine lv_goto (tgt := 111) hx hb dX5_isCalled_107 (by decide) ?_
                      refine lv_istore (lv' := [(8, .int (nI 1)), (0, .ref n), (1, .int (nI sz)), (2, .int a1), (3, .int a2), (4, .int a3), (5, .int a4), (6, .int a5), (7, .int a6), (9, .int (nI i))]) hx hb dX5_isCalled_111 hl (by decide) rfl (fun ls hl => ?_)
                      refine rn_iinc (lv' := [(9, .int (nI (i + 1))), (8, .int (nI 1)), (0, .ref n), (1, .int (nI sz)), (2, .int a1), (3, .int a2), (4, .int a3), (5, .int a4), (6, .int a5), (7, .int a6)]) hx hb dX5_isCalled_113 hl (k := 9) rfl (by decide) rfl (fun ls hl => ?_)
                      refine lv_goto (tgt := 26) hx hb dX5_isCalled_116 (by decide) ?_
                      exact ih26 _ (by omega) true (i + 1) rfl (by omega) (fun _ => hbb c_34) (by rw [rv_eqw, ← Bool.and_assoc, ← hb_, c_34, Bool.true_and]; first | exact (decide_eq_true (by simp_all [rv_w6])).symm | exact (decide_eq_false (by simp_all [rv_w6])).symm) ls (lv_sub hl [2, 3, 4, 5, 6, 7, 8, 9, 1, 0] rfl)
                  · refine lv_iload hx hb dX5_isCalled_96 (lv_at hl 6 rfl) ?_
                    refine lv_goto (tgt := 103) hx hb dX5_isCalled_98 (by decide) ?_
                    refine lv_icmp_ne (tgt := 110) hx hb dX5_isCalled_103 (by decide) (fun (c_103 : ¬ σ 12 (A_ + i) = a5) => ?_) (fun (c_103 : σ 12 (A_ + i) = a5) => ?_)
                    · refine lv_iconst (v := nI 0) hx hb dX5_isCalled_110 rfl ?_
                      refine lv_istore (lv' := [(8, .int (nI 0)), (0, .ref n), (1, .int (nI sz)), (2, .int a1), (3, .int a2), (4, .int a3), (5, .int a4), (6, .int a5), (7, .int a6), (9, .int (nI i))]) hx hb dX5_isCalled_111 hl (by decide) rfl (fun ls hl => ?_)
                      refine rn_iinc (lv' := [(9, .int (nI (i + 1))), (8, .int (nI 0)), (0, .ref n), (1, .int (nI sz)), (2, .int a1), (3, .int a2), (4, .int a3), (5, .int a4), (6, .int a5), (7, .int a6)]) hx hb dX5_isCalled_113 hl (k := 9) rfl (by decide) rfl (fun ls hl => ?_)
                      refine lv_goto (tgt := 26) hx hb dX5_isCalled_116 (by decide) ?_
                      exact ih26 _ (by omega) false (i + 1) rfl (by omega) (fun _ => hbb c_34) (by rw [rv_eqw, ← Bool.and_assoc, ← hb_, c_34, Bool.true_and]; first | exact (decide_eq_true (by simp_all [rv_w6])).symm | exact (decide_eq_false (by simp_all [rv_w6])).symm) ls (lv_sub hl [2, 3, 4, 5, 6, 7, 8, 9, 1, 0] rfl)
                    · refine lv_iconst (v := nI 1) hx hb dX5_isCalled_106 rfl ?_
                      refine lv_goto (tgt := 111) hx hb dX5_isCalled_107 (by decide) ?_
                      refine lv_istore (lv' := [(8, .int (nI 1)), (0, .ref n), (1, .int (nI sz)), (2, .int a1), (3, .int a2), (4, .int a3), (5, .int a4), (6, .int a5), (7, .int a6), (9, .int (nI i))]) hx hb dX5_isCalled_111 hl (by decide) rfl (fun ls hl => ?_)
                      refine rn_iinc (lv' := [(9, .int (nI (i + 1))), (8, .int (nI 1)), (0, .ref n), (1, .int (nI sz)), (2, .int a1), (3, .int a2), (4, .int a3), (5, .int a4), (6, .int a5), (7, .int a6)]) hx hb dX5_isCalled_113 hl (k := 9) rfl (by decide) rfl (fun ls hl => ?_)
                      refine lv_goto (tgt := 26) hx hb dX5_isCalled_116 (by decide) ?_
                      exact ih26 _ (by omega) true (i + 1) rfl (by omega) (fun _ => hbb c_34) (by rw [rv_eqw, ← Bool.and_assoc, ← hb_, c_34, Bool.true_and]; first | exact (decide_eq_true (by simp_all [rv_w6])).symm | exact (decide_eq_false (by simp_all [rv_w6])).symm) ls (lv_sub hl [2, 3, 4, 5, 6, 7, 8, 9, 1, 0] rfl)
                · refine lv_iload hx hb dX5_isCalled_85 (lv_at hl 5 rfl) ?_
                  refine lv_goto (tgt := 103) hx hb dX5_isCalled_87 (by decide) ?_
                  refine lv_icmp_ne (tgt := 110) hx hb dX5_isCalled_103 (by decide) (fun (c_103 : ¬ σ 12 (A_ + i) = a4) => ?_) (fun (c_103 : σ 12 (A_ + i) = a4) => ?_)
                  · refine lv_iconst (v := nI 0) hx hb dX5_isCalled_110 rfl ?_
                    refine lv_istore (lv' := [(8, .int (nI 0)), (0, .ref n), (1, .int (nI sz)), (2, .int a1), (3, .int a2), (4, .int a3), (5, .int a4), (6, .int a5), (7, .int a6), (9, .int (nI i))]) hx hb dX5_isCalled_111 hl (by decide) rfl (fun ls hl => ?_)
                    refine rn_iinc (lv' := [(9, .int (nI (i + 1))), (8, .int (nI 0)), (0, .ref n), (1, .int (nI sz)), (2, .int a1), (3, .int a2), (4, .int a3), (5, .int a4), (6, .int a5), (7, .int a6)]) hx hb dX5_isCalled_113 hl (k := 9) rfl (by decide) rfl (fun ls hl => ?_)
                    refine lv_goto (tgt := 26) hx hb dX5_isCalled_116 (by decide) ?_
                    exact ih26 _ (by omega) false (i + 1) rfl (by omega) (fun _ => hbb c_34) (by rw [rv_eqw, ← Bool.and_assoc, ← hb_, c_34, Bool.true_and]; first | exact (decide_eq_true (by simp_all [rv_w6])).symm | exact (decide_eq_false (by simp_all [rv_w6])).symm) ls (lv_sub hl [2, 3, 4, 5, 6, 7, 8, 9, 1, 0] rfl)
                  · refine lv_iconst (v := nI 1) hx hb dX5_isCalled_106 rfl ?_
                    refine lv_goto (tgt := 111) hx hb dX5_isCalled_107 (by decide) ?_
                    refine lv_istore (lv' := [(8, .int (nI 1)), (0, .ref n), (1, .int (nI sz)), (2, .int a1), (3, .int a2), (4, .int a3), (5, .int a4), (6, .int a5), (7, .int a6), (9, .int (nI i))]) hx hb dX5_isCalled_111 hl (by decide) rfl (fun ls hl => ?_)
                    refine rn_iinc (lv' := [(9, .int (nI (i + 1))), (8, .int (nI 1)), (0, .ref n), (1, .int (nI sz)), (2, .int a1), (3, .int a2), (4, .int a3), (5, .int a4), (6, .int a5), (7, .int a6)]) hx hb dX5_isCalled_113 hl (k := 9) rfl (by decide) rfl (fun ls hl => ?_)
                    refine lv_goto (tgt := 26) hx hb dX5_isCalled_116 (by decide) ?_
                    exact ih26 _ (by omega) true (i + 1) rfl (by omega) (fun _ => hbb c_34) (by rw [rv_eqw, ← Bool.and_assoc, ← hb_, c_34, Bool.true_and]; first | exact (decide_eq_true (by simp_all [rv_w6])).symm | exact (decide_eq_false (by simp_all [rv_w6])).symm) ls (lv_sub hl [2, 3, 4, 5, 6, 7, 8, 9, 1, 0] rfl)
              · refine lv_iload hx hb dX5_isCalled_74 (lv_at hl 4 rfl) ?_
                refine lv_goto (tgt := 103) hx hb dX5_isCalled_76 (by decide) ?_
                refine lv_icmp_ne (tgt := 110) hx hb dX5_isCalled_103 (by decide) (fun (c_103 : ¬ σ 12 (A_ + i) = a3) => ?_) (fun (c_103 : σ 12 (A_ + i) = a3) => ?_)
                · refine lv_iconst (v := nI 0) hx hb dX5_isCalled_110 rfl ?_
                  refine lv_istore (lv' := [(8, .int (nI 0)), (0, .ref n), (1, .int (nI sz)), (2, .int a1), (3, .int a2), (4, .int a3), (5, .int a4), (6, .int a5), (7, .int a6), (9, .int (nI i))]) hx hb dX5_isCalled_111 hl (by decide) rfl (fun ls hl => ?_)
                  refine rn_iinc (lv' := [(9, .int (nI (i + 1))), (8, .int (nI 0)), (0, .ref n), (1, .int (nI sz)), (2, .int a1), (3, .int a2), (4, .int a3), (5, .int a4), (6, .int a5), (7, .int a6)]) hx hb dX5_isCalled_113 hl (k := 9) rfl (by decide) rfl (fun ls hl => ?_)
                  refine lv_goto (tgt := 26) hx hb dX5_isCalled_116 (by decide) ?_
                  exact ih26 _ (by omega) false (i + 1) rfl (by omega) (fun _ => hbb c_34) (by rw [rv_eqw, ← Bool.and_assoc, ← hb_, c_34, Bool.true_and]; first | exact (decide_eq_true (by simp_all [rv_w6])).symm | exact (decide_eq_false (by simp_all [rv_w6])).symm) ls (lv_sub hl [2, 3, 4, 5, 6, 7, 8, 9, 1, 0] rfl)
                · refine lv_iconst (v := nI 1) hx hb dX5_isCalled_106 rfl ?_
                  refine lv_goto (tgt := 111) hx hb dX5_isCalled_107 (by decide) ?_
                  refine lv_istore (lv' := [(8, .int (nI 1)), (0, .ref n), (1, .int (nI sz)), (2, .int a1), (3, .int a2), (4, .int a3), (5, .int a4), (6, .int a5), (7, .int a6), (9, .int (nI i))]) hx hb dX5_isCalled_111 hl (by decide) rfl (fun ls hl => ?_)
                  refine rn_iinc (lv' := [(9, .int (nI (i + 1))), (8, .int (nI 1)), (0, .ref n), (1, .int (nI sz)), (2, .int a1), (3, .int a2), (4, .int a3), (5, .int a4), (6, .int a5), (7, .int a6)]) hx hb dX5_isCalled_113 hl (k := 9) rfl (by decide) rfl (fun ls hl => ?_)
                  refine lv_goto (tgt := 26) hx hb dX5_isCalled_116 (by decide) ?_
                  exact ih26 _ (by omega) true (i + 1) rfl (by omega) (fun _ => hbb c_34) (by rw [rv_eqw, ← Bool.and_assoc, ← hb_, c_34, Bool.true_and]; first | exact (decide_eq_true (by simp_all [rv_w6])).symm | exact (decide_eq_false (by simp_all [rv_w6])).symm) ls (lv_sub hl [2, 3, 4, 5, 6, 7, 8, 9, 1, 0] rfl)
            · refine lv_iload_n hx hb dX5_isCalled_64 rfl (lv_at hl 3 rfl) ?_
              refine lv_goto (tgt := 103) hx hb dX5_isCalled_65 (by decide) ?_
              refine lv_icmp_ne (tgt := 110) hx hb dX5_isCalled_103 (by decide) (fun (c_103 : ¬ σ 12 (A_ + i) = a2) => ?_) (fun (c_103 : σ 12 (A_ + i) = a2) => ?_)
              · refine lv_iconst (v := nI 0) hx hb dX5_isCalled_110 rfl ?_
                refine lv_istore (lv' := [(8, .int (nI 0)), (0, .ref n), (1, .int (nI sz)), (2, .int a1), (3, .int a2), (4, .int a3), (5, .int a4), (6, .int a5), (7, .int a6), (9, .int (nI i))]) hx hb dX5_isCalled_111 hl (by decide) rfl (fun ls hl => ?_)
                refine rn_iinc (lv' := [(9, .int (nI (i + 1))), (8, .int (nI 0)), (0, .ref n), (1, .int (nI sz)), (2, .int a1), (3, .int a2), (4, .int a3), (5, .int a4), (6, .int a5), (7, .int a6)]) hx hb dX5_isCalled_113 hl (k := 9) rfl (by decide) rfl (fun ls hl => ?_)
                refine lv_goto (tgt := 26) hx hb dX5_isCalled_116 (by decide) ?_
                exact ih26 _ (by omega) false (i + 1) rfl (by omega) (fun _ => hbb c_34) (by rw [rv_eqw, ← Bool.and_assoc, ← hb_, c_34, Bool.true_and]; first | exact (decide_eq_true (by simp_all [rv_w6])).symm | exact (decide_eq_false (by simp_all [rv_w6])).symm) ls (lv_sub hl [2, 3, 4, 5, 6, 7, 8, 9, 1, 0] rfl)
              · refine lv_iconst (v := nI 1) hx hb dX5_isCalled_106 rfl ?_
                refine lv_goto (tgt := 111) hx hb dX5_isCalled_107 (by decide) ?_
                refine lv_istore (lv' := [(8, .int (nI 1)), (0, .ref n), (1, .int (nI sz)), (2, .int a1), (3, .int a2), (4, .int a3), (5, .int a4), (6, .int a5), (7, .int a6), (9, .int (nI i))]) hx hb dX5_isCalled_111 hl (by decide) rfl (fun ls hl => ?_)
                refine rn_iinc (lv' := [(9, .int (nI (i + 1))), (8, .int (nI 1)), (0, .ref n), (1, .int (nI sz)), (2, .int a1), (3, .int a2), (4, .int a3), (5, .int a4), (6, .int a5), (7, .int a6)]) hx hb dX5_isCalled_113 hl (k := 9) rfl (by decide) rfl (fun ls hl => ?_)
                refine lv_goto (tgt := 26) hx hb dX5_isCalled_116 (by decide) ?_
                exact ih26 _ (by omega) true (i + 1) rfl (by omega) (fun _ => hbb c_34) (by rw [rv_eqw, ← Bool.and_assoc, ← hb_, c_34, Bool.true_and]; first | exact (decide_eq_true (by simp_all [rv_w6])).symm | exact (decide_eq_false (by simp_all [rv_w6])).symm) ls (lv_sub hl [2, 3, 4, 5, 6, 7, 8, 9, 1, 0] rfl)
          · refine lv_iload_n hx hb dX5_isCalled_54 rfl (lv_at hl 2 rfl) ?_
            refine lv_goto (tgt := 103) hx hb dX5_isCalled_55 (by decide) ?_
            refine lv_icmp_ne (tgt := 110) hx hb dX5_isCalled_103 (by decide) (fun (c_103 : ¬ σ 12 (A_ + i) = a1) => ?_) (fun (c_103 : σ 12 (A_ + i) = a1) => ?_)
            · refine lv_iconst (v := nI 0) hx hb dX5_isCalled_110 rfl ?_
              refine lv_istore (lv' := [(8, .int (nI 0)), (0, .ref n), (1, .int (nI sz)), (2, .int a1), (3, .int a2), (4, .int a3), (5, .int a4), (6, .int a5), (7, .int a6), (9, .int (nI i))]) hx hb dX5_isCalled_111 hl (by decide) rfl (fun ls hl => ?_)
              refine rn_iinc (lv' := [(9, .int (nI (i + 1))), (8, .int (nI 0)), (0, .ref n), (1, .int (nI sz)), (2, .int a1), (3, .int a2), (4, .int a3), (5, .int a4), (6, .int a5), (7, .int a6)]) hx hb dX5_isCalled_113 hl (k := 9) rfl (by decide) rfl (fun ls hl => ?_)
              refine lv_goto (tgt := 26) hx hb dX5_isCalled_116 (by decide) ?_
              exact ih26 _ (by omega) false (i + 1) rfl (by omega) (fun _ => hbb c_34) (by rw [rv_eqw, ← Bool.and_assoc, ← hb_, c_34, Bool.true_and]; first | exact (decide_eq_true (by simp_all [rv_w6])).symm | exact (decide_eq_false (by simp_all [rv_w6])).symm) ls (lv_sub hl [2, 3, 4, 5, 6, 7, 8, 9, 1, 0] rfl)
            · refine lv_iconst (v := nI 1) hx hb dX5_isCalled_106 rfl ?_
              refine lv_goto (tgt := 111) hx hb dX5_isCalled_107 (by decide) ?_
              refine lv_istore (lv' := [(8, .int (nI 1)), (0, .ref n), (1, .int (nI sz)), (2, .int a1), (3, .int a2), (4, .int a3), (5, .int a4), (6, .int a5), (7, .int a6), (9, .int (nI i))]) hx hb dX5_isCalled_111 hl (by decide) rfl (fun ls hl => ?_)
              refine rn_iinc (lv' := [(9, .int (nI (i + 1))), (8, .int (nI 1)), (0, .ref n), (1, .int (nI sz)), (2, .int a1), (3, .int a2), (4, .int a3), (5, .int a4), (6, .int a5), (7, .int a6)]) hx hb dX5_isCalled_113 hl (k := 9) rfl (by decide) rfl (fun ls hl => ?_)
              refine lv_goto (tgt := 26) hx hb dX5_isCalled_116 (by decide) ?_
              exact ih26 _ (by omega) true (i + 1) rfl (by omega) (fun _ => hbb c_34) (by rw [rv_eqw, ← Bool.and_assoc, ← hb_, c_34, Bool.true_and]; first | exact (decide_eq_true (by simp_all [rv_w6])).symm | exact (decide_eq_false (by simp_all [rv_w6])).symm) ls (lv_sub hl [2, 3, 4, 5, 6, 7, 8, 9, 1, 0] rfl)
  refine lv_aload_n hx hb dX5_isCalled_0 rfl (lv_at hl 0 rfl) ?_
  refine md_g23 C hP dX5_isCalled_1 ?_
  refine rn_co (y := nI (tkK (σ 12) ty p_)) hat.2.2.1 ?_
  refine lv_iconst (v := nI 1) hx hb dX5_isCalled_4 rfl ?_
  refine rn_icmp_ne (tgt := 20) hx hb (by omega) (by omega) dX5_isCalled_5 (by decide) (fun c_5 => ?_) (fun c_5 => ?_)
  · refine lv_iconst (v := nI 0) hx hb dX5_isCalled_20 rfl ?_
    refine lv_istore (lv' := [(8, .int (nI 0)), (0, .ref n), (1, .int (nI sz)), (2, .int a1), (3, .int a2), (4, .int a3), (5, .int a4), (6, .int a5), (7, .int a6)]) hx hb dX5_isCalled_21 hl (by decide) rfl (fun ls hl => ?_)
    refine lv_iconst (v := nI 0) hx hb dX5_isCalled_23 rfl ?_
    refine lv_istore (lv' := [(9, .int (nI 0)), (8, .int (nI 0)), (0, .ref n), (1, .int (nI sz)), (2, .int a1), (3, .int a2), (4, .int a3), (5, .int a4), (6, .int a5), (7, .int a6)]) hx hb dX5_isCalled_24 hl (by decide) rfl (fun ls hl => ?_)
    exact K26 _ false 0 rfl (by omega) (fun z => by first | exact c_13 | exact absurd z (by decide)) (by first | (rw [decide_eq_true c_5, decide_eq_true c_13]; rfl) | (rw [decide_eq_true c_5, decide_eq_false c_13]; rfl) | (rw [decide_eq_false c_5]; rfl)) ls (lv_sub hl [2, 3, 4, 5, 6, 7, 8, 9, 1, 0] rfl)
  · refine lv_aload_n hx hb dX5_isCalled_8 rfl (lv_at hl 0 rfl) ?_
    refine md_g22 C hP dX5_isCalled_9 ?_
    refine rn_co (y := nI (tkL (σ 12) ty p_)) hat.2.1 ?_
    refine lv_iload_n hx hb dX5_isCalled_12 rfl (lv_at hl 1 rfl) ?_
    refine rn_icmp_ne (tgt := 20) hx hb (by omega) (by omega) dX5_isCalled_13 (by decide) (fun c_13 => ?_) (fun c_13 => ?_)
    · refine lv_iconst (v := nI 0) hx hb dX5_isCalled_20 rfl ?_
      refine lv_istore (lv' := [(8, .int (nI 0)), (0, .ref n), (1, .int (nI sz)), (2, .int a1), (3, .int a2), (4, .int a3), (5, .int a4), (6, .int a5), (7, .int a6)]) hx hb dX5_isCalled_21 hl (by decide) rfl (fun ls hl => ?_)
      refine lv_iconst (v := nI 0) hx hb dX5_isCalled_23 rfl ?_
      refine lv_istore (lv' := [(9, .int (nI 0)), (8, .int (nI 0)), (0, .ref n), (1, .int (nI sz)), (2, .int a1), (3, .int a2), (4, .int a3), (5, .int a4), (6, .int a5), (7, .int a6)]) hx hb dX5_isCalled_24 hl (by decide) rfl (fun ls hl => ?_)
      exact K26 _ false 0 rfl (by omega) (fun z => by first | exact c_13 | exact absurd z (by decide)) (by first | (rw [decide_eq_true c_5, decide_eq_true c_13]; rfl) | (rw [decide_eq_true c_5, decide_eq_false c_13]; rfl) | (rw [decide_eq_false c_5]; rfl)) ls (lv_sub hl [2, 3, 4, 5, 6, 7, 8, 9, 1, 0] rfl)
    · refine lv_iconst (v := nI 1) hx hb dX5_isCalled_16 rfl ?_
      refine lv_goto (tgt := 21) hx hb dX5_isCalled_17 (by decide) ?_
      refine lv_istore (lv' := [(8, .int (nI 1)), (0, .ref n), (1, .int (nI sz)), (2, .int a1), (3, .int a2), (4, .int a3), (5, .int a4), (6, .int a5), (7, .int a6)]) hx hb dX5_isCalled_21 hl (by decide) rfl (fun ls hl => ?_)
      refine lv_iconst (v := nI 0) hx hb dX5_isCalled_23 rfl ?_
      refine lv_istore (lv' := [(9, .int (nI 0)), (8, .int (nI 1)), (0, .ref n), (1, .int (nI sz)), (2, .int a1), (3, .int a2), (4, .int a3), (5, .int a4), (6, .int a5), (7, .int a6)]) hx hb dX5_isCalled_24 hl (by decide) rfl (fun ls hl => ?_)
      exact K26 _ true 0 rfl (by omega) (fun z => by first | exact c_13 | exact absurd z (by decide)) (by first | (rw [decide_eq_true c_5, decide_eq_true c_13]; rfl) | (rw [decide_eq_true c_5, decide_eq_false c_13]; rfl) | (rw [decide_eq_false c_5]; rfl)) ls (lv_sub hl [2, 3, 4, 5, 6, 7, 8, 9, 1, 0] rfl)
