set_option maxRecDepth 100000
/-! the Model: items -/
/-- whether the token from p on is a number between two -/
def tkT (T : Nat → Int32) (tl p : Nat) (lo hi : Int32) : Bool := decide (tkK T tl p = 2) && rv_inL (tkV T tl p).toInt64 lo.toInt64 hi.toInt64
def mdTook (σ : mdT) (ty p k : Nat) (u : mdT) : Prop := (∀ a, a ≠ 14 → a ≠ 15 → u a = σ a) ∧ (∀ j, j ≠ 6 → j ≠ 7 → j ≠ 8 → j ≠ 9 → u 15 j = σ 15 j) ∧ u 14 = upd (σ 14) k (tkV (σ 12) ty p) ∧ mdAt (σ 12) ty (tkN (σ 12) ty p) u
def rv_lvf (A : Nat → Int32) (m : Nat) (kd sz pr we : Int32) : Nat → Int32 := upd (upd (upd (upd (upd (upd (upd A (7 + 6 * m) kd) (7 + 6 * m + 1) sz) (7 + 6 * m + 2) pr) (7 + 6 * m + 3) we) (7 + 6 * m + 4) (-1)) (7 + 6 * m + 5) 0) 0 (nI (m + 1))
def rv_lrf (A : Nat → Int32) (m : Nat) (wl pu wa : Int32) : Nat → Int32 := upd (upd (upd (upd A (43 + 3 * m) wl) (43 + 3 * m + 1) pu) (43 + 3 * m + 2) wa) 1 (nI (m + 1))
theorem md_layV_R (σ : mdT) (a m : Nat) (kd sz pr we : Int32) : md_layV σ a m kd sz pr we = mdR σ a (rv_lvf (σ a) m kd sz pr we) := by
  have h : ∀ τ : mdT, τ = mdR τ a (τ a) := fun τ => (mdR_self τ a).symm
  unfold md_layV rv_lvf
  rw [h σ, mdR_S, mdR_S, mdR_S, mdR_S, mdR_S, mdR_S, mdR_S, ← h σ]
theorem md_layR_R (σ : mdT) (a m : Nat) (wl pu wa : Int32) : md_layR σ a m wl pu wa = mdR σ a (rv_lrf (σ a) m wl pu wa) := by
  have h : ∀ τ : mdT, τ = mdR τ a (τ a) := fun τ => (mdR_self τ a).symm
  unfold md_layR rv_lrf
  rw [h σ, mdR_S, mdR_S, mdR_S, mdR_S, ← h σ]
def rv_tv (T : Nat → Int32) (tl p : Nat) (A : Nat → Int32) : Bool × Nat × (Nat → Int32) :=
  if A 0 = 6 then (false, p, A) else if tkT T tl (tkN T tl p) 0 5 = true then (if tkT T tl (tkN T tl (tkN T tl p)) 1 9 = true then (if tkT T tl (tkN T tl (tkN T tl (tkN T tl p))) 0 99 = true then (if tkT T tl (tkN T tl (tkN T tl (tkN T tl (tkN T tl p)))) 0 5 = true then
    (true, tkN T tl (tkN T tl (tkN T tl (tkN T tl (tkN T tl p)))), rv_lvf A (rv_cl (A 0)) (tkV T tl (tkN T tl p)) (tkV T tl (tkN T tl (tkN T tl p))) (tkV T tl (tkN T tl (tkN T tl (tkN T tl p)))) (tkV T tl (tkN T tl (tkN T tl (tkN T tl (tkN T tl p))))))
    else (false, tkN T tl (tkN T tl (tkN T tl (tkN T tl p))), A)) else (false, tkN T tl (tkN T tl (tkN T tl p)), A)) else (false, tkN T tl (tkN T tl p), A)) else (false, tkN T tl p, A)
def rv_tr (T : Nat → Int32) (tl p : Nat) (A : Nat → Int32) : Bool × Nat × (Nat → Int32) :=
  if A 1 = 6 then (false, p, A) else if tkT T tl (tkN T tl p) 1 9 = true then (if tkT T tl (tkN T tl (tkN T tl p)) 0 999 = true then (if tkT T tl (tkN T tl (tkN T tl (tkN T tl p))) 0 6 = true then
    (true, tkN T tl (tkN T tl (tkN T tl (tkN T tl p))), rv_lrf A (rv_cl (A 1)) (tkV T tl (tkN T tl p)) (tkV T tl (tkN T tl (tkN T tl p))) (tkV T tl (tkN T tl (tkN T tl (tkN T tl p)))))
    else (false, tkN T tl (tkN T tl (tkN T tl p)), A)) else (false, tkN T tl (tkN T tl p), A)) else (false, tkN T tl p, A)
def rv_tt (T : Nat → Int32) (tl p : Nat) (A : Nat → Int32) : Bool × Nat × (Nat → Int32) :=
  if tkT T tl (tkN T tl p) 0 (A 0 - 1) = true then (if tkT T tl (tkN T tl (tkN T tl p)) 0 7 = true then
    (true, tkN T tl (tkN T tl (tkN T tl p)), upd A (7 + 6 * rv_cl (tkV T tl (tkN T tl p)) + 5) (A (7 + 6 * rv_cl (tkV T tl (tkN T tl p)) + 5) ||| ((1 : Int32) <<< (tkV T tl (tkN T tl (tkN T tl p)) &&& 31))))
    else (false, tkN T tl (tkN T tl p), A)) else (false, tkN T tl p, A)
/-- how reading an item leaves the numbers -/
def mdPz (σ : mdT) (ty : Nat) (R : Bool × Nat × (Nat → Int32)) (u : mdT) : Prop := (∀ a, a ≠ 13 → a ≠ 14 → a ≠ 15 → u a = σ a) ∧ (∀ j, j ≠ 6 → j ≠ 7 → j ≠ 8 → j ≠ 9 → u 15 j = σ 15 j) ∧ (∀ k, k < 115 → u 13 k = R.2.2 k) ∧ mdAt (σ 12) ty R.2.1 u
theorem mdTook.tk {σ u : mdT} {ty p k : Nat} (h : mdTook σ ty p k u) : u 12 = σ 12 ∧ u 13 = σ 13 := ⟨h.1 12 (by decide) (by decide), h.1 13 (by decide) (by decide)⟩
theorem met_takes (l : Launch) (dC : Nat → ClassId) (dI : Nat → Nat → Nat) (dA : Nat → ClassId) (n : Nat) (σ : mdT) (ab be : Int64) (k : Nat) (lo : Int32) (hi : Int32) (ty : Nat) (ht : σ 15 5 = nI ty) (ht6 : ty ≤ 150) (p_ : Nat) (hp : p_ ≤ ty) (hat : mdAt (σ 12) ty p_ σ) (hk4 : k < 4) : Met l yX5_takes (ws_ yX5_takes cX5_takes 4 (some .boolean)) { frames := 5, cells := 0, slots := 0, locals := 300 } (mdPc dC dI dA n σ ab be [.ref n, .int (nI k), .int lo, .int hi]) (va_Qi (fun r_ u => r_ = rb_i (tkT (σ 12) ty p_ lo hi) ∧ (tkT (σ 12) ty p_ lo hi = false → u = σ) ∧ (tkT (σ 12) ty p_ lo hi = true → mdTook σ ty p_ k u)) (mdB dC dI dA n ab be) (mdA n)) 0 0 (mdA n) := by
  refine md_in (by decide) rfl (Nat.le_of_ble_eq_true rfl) (lv := [(0, .ref n), (1, .int (nI k)), (2, .int lo), (3, .int hi)]) rfl ?_
  intro p e s m below meth c C hr hlk hP ls hl
  have hx := C.1
  have hb := C.2.1
  have hown := C.2.2.2.1
  have hts := C.2.2.2.2.1
  have hS : va_S (mdA n) s.heap s.heap [] := va_S.rf
  have hk5 := tkK_b (T := σ 12) (tl := ty) (p := p_)
  refine lv_aload_n hx hb dX5_takes_0 rfl (lv_at hl 0 rfl) ?_
  refine md_g23 C hP dX5_takes_1 ?_
  refine rn_co (y := nI (tkK (σ 12) ty p_)) hat.2.2.1 ?_
  refine lv_iconst (v := nI 2) hx hb dX5_takes_4 rfl ?_
  refine rn_icmp_ne (tgt := 23) hx hb (by omega) (by omega) dX5_takes_5 (by decide) (fun c_5 => ?_) (fun c_5 => ?_)
  · have hB : tkT (σ 12) ty p_ lo hi = false := by unfold tkT; first | (rw [decide_eq_false c_5]; rfl) | (rw [decide_eq_true c_5, ← e9, c_20]; rfl)
    refine lv_iconst (v := nI 0) hx hb dX5_takes_23 rfl ?_
    exact md_rz C hr hlk rfl hP hS dX5_takes_24 (by exact ⟨rb_is0 hB, fun _ => rfl, fun z => absurd (z.symm.trans hB) (by decide)⟩)
  · have e9 := hat.2.2.2
    refine lv_aload_n hx hb dX5_takes_8 rfl (lv_at hl 0 rfl) ?_
    refine md_g24 C hP dX5_takes_9 ?_
    refine lv_i2l hx hb dX5_takes_12 rfl ?_
    refine lv_iload_n hx hb dX5_takes_13 rfl (lv_at hl 2 rfl) ?_
    refine lv_i2l hx hb dX5_takes_14 rfl ?_
    refine lv_iload_n hx hb dX5_takes_15 rfl (lv_at hl 3 rfl) ?_
    refine lv_i2l hx hb dX5_takes_16 rfl ?_
    refine md_sSe (As := [.long (Int32.toInt64 (σ 15 9)), .long (Int32.toInt64 lo), .long (Int32.toInt64 hi)]) (rest := []) C (met_in l (Int32.toInt64 (σ 15 9)) (Int32.toInt64 lo) (Int32.toInt64 hi)) card_in rfl rfl ⟨Nat.le_of_ble_eq_true rfl, Nat.le_of_ble_eq_true rfl⟩ hl.1 (Nat.le_of_ble_eq_true rfl) dX5_takes_17 ?_
    refine rn_zf (tgt := 25) hx hb dX5_takes_20 (by decide) (fun c_20 => ?_) (fun c_20 => ?_)
    · refine lv_aload_n hx hb dX5_takes_25 rfl (lv_at hl 0 rfl) ?_
      refine md_g26 C hP dX5_takes_26 ?_
      refine lv_iload_n hx hb dX5_takes_29 rfl (lv_at hl 1 rfl) ?_
      refine lv_aload_n hx hb dX5_takes_30 rfl (lv_at hl 0 rfl) ?_
      refine md_g24 C hP dX5_takes_31 ?_
      refine md_s14 C hP hS (by omega) dX5_takes_34 (fun H locs hP hS => ?_)
      refine lv_aload_n hx hb dX5_takes_35 rfl (lv_at hl 0 rfl) ?_
      refine md_cWv (As := []) (rest := []) C hP hS (met_goBehind l dC dI dA n (mdS σ 14 k (σ 15 9)) ab be ty (by rw [mdS_o _ (by decide)]; exact ht) ht6 p_ hp (⟨by rw [mdS_o _ (by decide), mdS_row _ _ _ (by decide)]; exact hat.1, by rw [mdS_o _ (by decide), mdS_row _ _ _ (by decide)]; exact hat.2.1, by rw [mdS_o _ (by decide), mdS_row _ _ _ (by decide)]; exact hat.2.2.1, by rw [mdS_o _ (by decide), mdS_row _ _ _ (by decide)]; exact hat.2.2.2⟩)) card_goBehind rfl rfl ⟨Nat.le_of_ble_eq_true rfl, Nat.le_of_ble_eq_true rfl⟩ hl.1 (Nat.le_of_ble_eq_true rfl) dX5_takes_36 (fun s36 H locs hs36 hP hS => ?_)
      have hB : tkT (σ 12) ty p_ lo hi = true := by unfold tkT; rw [decide_eq_true c_5, ← e9, c_20]; rfl
      obtain ⟨g1, g2⟩ := hs36
      rw [mdS_row _ _ _ (show (12 : Nat) ≠ 14 by decide)] at g2
      refine lv_iconst (v := nI 1) hx hb dX5_takes_39 rfl ?_
      exact md_rz C hr hlk rfl hP hS dX5_takes_40 (by exact ⟨rb_is1 hB, fun z => absurd (z.symm.trans hB) (by decide), fun _ => ⟨fun a a14 a15 => by rw [g1.1 a a15, mdS_row _ _ _ a14], fun j h6 h7 h8 h9 => by rw [g1.2 j h6 h7 h8 h9, mdS_o _ (by decide)], by rw [g1.1 14 (by decide), ← e9]; funext q; rw [mdS_at]; simp [upd], g2⟩⟩)
    · have hB : tkT (σ 12) ty p_ lo hi = false := by unfold tkT; first | (rw [decide_eq_false c_5]; rfl) | (rw [decide_eq_true c_5, ← e9, c_20]; rfl)
      refine lv_iconst (v := nI 0) hx hb dX5_takes_23 rfl ?_
      exact md_rz C hr hlk rfl hP hS dX5_takes_24 (by exact ⟨rb_is0 hB, fun _ => rfl, fun z => absurd (z.symm.trans hB) (by decide)⟩)
/-- how far the reading of an item has come -/
def mdZ (σ : mdT) (ty p : Nat) (u : mdT) : Prop := (∀ a, a ≠ 14 → a ≠ 15 → u a = σ a) ∧ (∀ j, j ≠ 6 → j ≠ 7 → j ≠ 8 → j ≠ 9 → u 15 j = σ 15 j) ∧ mdAt (σ 12) ty p u
theorem mdZ.e12 {σ u : mdT} {ty p : Nat} (h : mdZ σ ty p u) : u 12 = σ 12 := h.1 12 (by decide) (by decide)
theorem mdZ.e13 {σ u : mdT} {ty p : Nat} (h : mdZ σ ty p u) : u 13 = σ 13 := h.1 13 (by decide) (by decide)
theorem mdZ.t {σ u : mdT} {ty p : Nat} (h : mdZ σ ty p u) (g : σ 15 5 = nI ty) : u 15 5 = nI ty := (h.2.1 5 (by decide) (by decide) (by decide) (by decide)).trans g
theorem mdZ.at {σ u : mdT} {ty p : Nat} (h : mdZ σ ty p u) : mdAt (u 12) ty p u := by rw [h.e12]; exact h.2.2
theorem mdZ.go0 {σ v : mdT} {ty p : Nat} (g : mdTk σ v ∧ mdAt (σ 12) ty p v) : mdZ σ ty p v := ⟨fun a _ h => g.1.1 a h, g.1.2, g.2⟩
theorem mdZ.took {σ u v : mdT} {ty p k : Nat} (h : mdZ σ ty p u) (g : mdTook u ty p k v) : mdZ σ ty (tkN (σ 12) ty p) v := by
  obtain ⟨g1, g2, g3, g4⟩ := g
  rw [h.e12] at g4
  exact ⟨fun a a14 a15 => (g1 a a14 a15).trans (h.1 a a14 a15), fun j h6 h7 h8 h9 => (g2 j h6 h7 h8 h9).trans (h.2.1 j h6 h7 h8 h9), g4⟩
theorem mdZ.pz {σ u : mdT} {ty p : Nat} {A : Nat → Int32} (h : mdZ σ ty p u) (hA : ∀ k, k < 115 → σ 13 k = A k) (b : Bool) : mdPz σ ty (b, p, A) u := ⟨fun a _ a14 a15 => h.1 a a14 a15, h.2.1, fun k hk => by rw [h.e13]; exact hA k hk, h.2.2⟩
theorem mdZ.pzR {σ u : mdT} {ty p : Nat} {A' f : Nat → Int32} (h : mdZ σ ty p u) (hA : ∀ k, k < 115 → f k = A' k) (b : Bool) : mdPz σ ty (b, p, A') (mdR u 13 f) :=
  ⟨fun a a13 a14 a15 => by rw [mdR_ne _ _ a13]; exact h.1 a a14 a15, fun j h6 h7 h8 h9 => by rw [mdR_ne _ _ (by decide)]; exact h.2.1 j h6 h7 h8 h9, fun k hk => by rw [mdR_at]; exact hA k hk, by
    obtain ⟨q1, q2, q3, q4⟩ := h.2.2
    refine ⟨?_, ?_, ?_, ?_⟩ <;> rw [mdR_ne _ _ (by decide)] <;> assumption⟩
set_option maxHeartbeats 1000000 in
theorem met_takesView (l : Launch) (dC : Nat → ClassId) (dI : Nat → Nat → Nat) (dA : Nat → ClassId) (n : Nat) (σ : mdT) (ab be : Int64) (ty : Nat) (ht : σ 15 5 = nI ty) (ht6 : ty ≤ 150) (p_ : Nat) (hp : p_ ≤ ty) (hat : mdAt (σ 12) ty p_ σ) (A : Nat → Int32) (hA : ∀ k, k < 115 → σ 13 k = A k) (mz : Nat) (hz0 : σ 13 0 = nI mz) (hz6 : mz ≤ 6) : Met l yX5_takesView (ws_ yX5_takesView cX5_takesView 1 (some .boolean)) { frames := 6, cells := 0, slots := 0, locals := 360 } (mdPc dC dI dA n σ ab be [.ref n]) (va_Qi (fun r_ u => r_ = rb_i (rv_tv (σ 12) ty p_ A).1 ∧ mdPz σ ty (rv_tv (σ 12) ty p_ A) u) (mdB dC dI dA n ab be) (mdA n)) 0 0 (mdA n) := by
  refine md_in (by decide) rfl (Nat.le_of_ble_eq_true rfl) (lv := [(0, .ref n)]) rfl ?_
  intro p e s m below meth c C hr hlk hP ls hl
  have hx := C.1
  have hb := C.2.1
  have hown := C.2.2.2.1
  have hts := C.2.2.2.2.1
  have hS : va_S (mdA n) s.heap s.heap [] := va_S.rf
  obtain ⟨P1, e1⟩ : ∃ x, x = tkN (σ 12) ty p_ := ⟨_, rfl⟩
  have hP1 : P1 ≤ ty := by rw [e1]; exact tkN_b hp
  obtain ⟨P2, e2⟩ : ∃ x, x = tkN (σ 12) ty P1 := ⟨_, rfl⟩
  have hP2 : P2 ≤ ty := by rw [e2]; exact tkN_b hP1
  obtain ⟨P3, e3⟩ : ∃ x, x = tkN (σ 12) ty P2 := ⟨_, rfl⟩
  have hP3 : P3 ≤ ty := by rw [e3]; exact tkN_b hP2
  obtain ⟨P4, e4⟩ : ∃ x, x = tkN (σ 12) ty P3 := ⟨_, rfl⟩
  have hP4 : P4 ≤ ty := by rw [e4]; exact tkN_b hP3
  obtain ⟨P5, e5⟩ : ∃ x, x = tkN (σ 12) ty P4 := ⟨_, rfl⟩
  have hP5 : P5 ≤ ty := by rw [e5]; exact tkN_b hP4
  have U : rv_tv (σ 12) ty p_ A = if A 0 = 6 then (false, p_, A) else if tkT (σ 12) ty P1 0 5 = true then (if tkT (σ 12) ty P2 1 9 = true then (if tkT (σ 12) ty P3 0 99 = true then (if tkT (σ 12) ty P4 0 5 = true then (true, P5, rv_lvf A (rv_cl (A 0)) (tkV (σ 12) ty P1) (tkV (σ 12) ty P2) (tkV (σ 12) ty P3) (tkV (σ 12) ty P4)) else (false, P4, A)) else (false, P3, A)) else (false, P2, A)) else (false, P1, A) := by rw [e5, e4, e3, e2, e1]; rfl
  have hA0 : A 0 = nI mz := by rw [← hA 0 (by decide)]; exact hz0
  refine lv_aload_n hx hb dX5_takesView_0 rfl (lv_at hl 0 rfl) ?_
  refine md_g25 C hP dX5_takesView_1 ?_
  refine lv_iconst (v := nI 0) hx hb dX5_takesView_4 rfl ?_
  refine md_l13 C hP (by omega) dX5_takesView_5 ?_
  refine rn_co (y := nI mz) hz0 ?_
  refine lv_bipush (v := nI 6) hx hb dX5_takesView_6 rfl ?_
  refine rn_icmp_ne (tgt := 13) hx hb (by omega) (by omega) dX5_takesView_8 (by decide) (fun c_8 => ?_) (fun c_8 => ?_)
  · refine lv_aload_n hx hb dX5_takesView_13 rfl (lv_at hl 0 rfl) ?_
    refine md_cWv (As := []) (rest := []) C hP hS (met_goBehind l dC dI dA n σ ab be ty ht ht6 p_ hp hat) card_goBehind rfl rfl ⟨Nat.le_of_ble_eq_true rfl, Nat.le_of_ble_eq_true rfl⟩ hl.1 (Nat.le_of_ble_eq_true rfl) dX5_takesView_14 (fun s14 H locs hs14 hP hS => ?_)
    have hz1 := mdZ.go0 hs14
    rw [← e1] at hz1
    refine lv_aload_n hx hb dX5_takesView_17 rfl (lv_at hl 0 rfl) ?_
    refine lv_iconst (v := nI 0) hx hb dX5_takesView_18 rfl ?_
    refine lv_iconst (v := nI 0) hx hb dX5_takesView_19 rfl ?_
    refine lv_iconst (v := nI 5) hx hb dX5_takesView_20 rfl ?_
    refine md_cWi (As := [.int (nI 0), .int (nI 0), .int (nI 5)]) (rest := []) C hP hS (met_takes l dC dI dA n s14 ab be 0 (nI 0) (nI 5) ty (hz1.t ht) ht6 P1 hP1 hz1.at (by omega)) card_takes rfl rfl ⟨Nat.le_of_ble_eq_true rfl, Nat.le_of_ble_eq_true rfl⟩ hl.1 (Nat.le_of_ble_eq_true rfl) dX5_takesView_21 (fun r21 s21 H locs hs21 hP hS => ?_)
    obtain ⟨er21, hs21⟩ := hs21
    refine rn_co er21 ?_
    refine rn_zt (tgt := 59) hx hb dX5_takesView_24 (by decide) (fun c_24 => ?_) (fun c_24 => ?_)
    · refine lv_iconst (v := nI 0) hx hb dX5_takesView_59 rfl ?_
      exact md_rz C hr hlk rfl hP hS dX5_takesView_60 (by first | (rw [U, if_neg (by rw [hA0]; exact fun z => c_8 ((nI_eq (by omega) (by omega)).mp (z.trans (show (6 : Int32) = nI 6 from rfl)))), if_neg (rv_nf (show tkT (σ 12) ty P1 0 5 = false from by rw [← hz1.e12]; exact c_24))]; rw [hs21.1 c_24]; exact ⟨rb_is0 rfl, hz1.pz hA false⟩) | (rw [U, if_neg (by rw [hA0]; exact fun z => c_8 ((nI_eq (by omega) (by omega)).mp (z.trans (show (6 : Int32) = nI 6 from rfl)))), if_pos d1, if_neg (rv_nf (show tkT (σ 12) ty P2 1 9 = false from by rw [← hz2.e12]; exact c_35))]; rw [hs32.1 c_35]; exact ⟨rb_is0 rfl, hz2.pz hA false⟩) | (rw [U, if_neg (by rw [hA0]; exact fun z => c_8 ((nI_eq (by omega) (by omega)).mp (z.trans (show (6 : Int32) = nI 6 from rfl)))), if_pos d1, if_pos d2, if_neg (rv_nf (show tkT (σ 12) ty P3 0 99 = false from by rw [← hz3.e12]; exact c_46))]; rw [hs43.1 c_46]; exact ⟨rb_is0 rfl, hz3.pz hA false⟩) | (rw [U, if_neg (by rw [hA0]; exact fun z => c_8 ((nI_eq (by omega) (by omega)).mp (z.trans (show (6 : Int32) = nI 6 from rfl)))), if_pos d1, if_pos d2, if_pos d3, if_neg (rv_nf (show tkT (σ 12) ty P4 0 5 = false from by rw [← hz4.e12]; exact c_56))]; rw [hs53.1 c_56]; exact ⟨rb_is0 rfl, hz4.pz hA false⟩))
    · have d1 : tkT (σ 12) ty P1 0 5 = true := by rw [← hz1.e12]; exact c_24
      have k1 := hs21.2 c_24
      have hz2 := hz1.took k1
      rw [← e2] at hz2
      refine lv_aload_n hx hb dX5_takesView_27 rfl (lv_at hl 0 rfl) ?_
      refine lv_iconst (v := nI 1) hx hb dX5_takesView_28 rfl ?_
      refine lv_iconst (v := nI 1) hx hb dX5_takesView_29 rfl ?_
      refine lv_bipush (v := nI 9) hx hb dX5_takesView_30 rfl ?_
      refine md_cWi (As := [.int (nI 1), .int (nI 1), .int (nI 9)]) (rest := []) C hP hS (met_takes l dC dI dA n s21 ab be 1 (nI 1) (nI 9) ty (hz2.t ht) ht6 P2 hP2 hz2.at (by omega)) card_takes rfl rfl ⟨Nat.le_of_ble_eq_true rfl, Nat.le_of_ble_eq_true rfl⟩ hl.1 (Nat.le_of_ble_eq_true rfl) dX5_takesView_32 (fun r32 s32 H locs hs32 hP hS => ?_)
      obtain ⟨er32, hs32⟩ := hs32
      refine rn_co er32 ?_
      refine rn_zt (tgt := 59) hx hb dX5_takesView_35 (by decide) (fun c_35 => ?_) (fun c_35 => ?_)
      · refine lv_iconst (v := nI 0) hx hb dX5_takesView_59 rfl ?_
        exact md_rz C hr hlk rfl hP hS dX5_takesView_60 (by first | (rw [U, if_neg (by rw [hA0]; exact fun z => c_8 ((nI_eq (by omega) (by omega)).mp (z.trans (show (6 : Int32) = nI 6 from rfl)))), if_neg (rv_nf (show tkT (σ 12) ty P1 0 5 = false from by rw [← hz1.e12]; exact c_24))]; rw [hs21.1 c_24]; exact ⟨rb_is0 rfl, hz1.pz hA false⟩) | (rw [U, if_neg (by rw [hA0]; exact fun z => c_8 ((nI_eq (by omega) (by omega)).mp (z.trans (show (6 : Int32) = nI 6 from rfl)))), if_pos d1, if_neg (rv_nf (show tkT (σ 12) ty P2 1 9 = false from by rw [← hz2.e12]; exact c_35))]; rw [hs32.1 c_35]; exact ⟨rb_is0 rfl, hz2.pz hA false⟩) | (rw [U, if_neg (by rw [hA0]; exact fun z => c_8 ((nI_eq (by omega) (by omega)).mp (z.trans (show (6 : Int32) = nI 6 from rfl)))), if_pos d1, if_pos d2, if_neg (rv_nf (show tkT (σ 12) ty P3 0 99 = false from by rw [← hz3.e12]; exact c_46))]; rw [hs43.1 c_46]; exact ⟨rb_is0 rfl, hz3.pz hA false⟩) | (rw [U, if_neg (by rw [hA0]; exact fun z => c_8 ((nI_eq (by omega) (by omega)).mp (z.trans (show (6 : Int32) = nI 6 from rfl)))), if_pos d1, if_pos d2, if_pos d3, if_neg (rv_nf (show tkT (σ 12) ty P4 0 5 = false from by rw [← hz4.e12]; exact c_56))]; rw [hs53.1 c_56]; exact ⟨rb_is0 rfl, hz4.pz hA false⟩))
      · have d2 : tkT (σ 12) ty P2 1 9 = true := by rw [← hz2.e12]; exact c_35
        have k2 := hs32.2 c_35
        have hz3 := hz2.took k2
        rw [← e3] at hz3
        refine lv_aload_n hx hb dX5_takesView_38 rfl (lv_at hl 0 rfl) ?_
        refine lv_iconst (v := nI 2) hx hb dX5_takesView_39 rfl ?_
        refine lv_iconst (v := nI 0) hx hb dX5_takesView_40 rfl ?_
        refine lv_bipush (v := nI 99) hx hb dX5_takesView_41 rfl ?_
        refine md_cWi (As := [.int (nI 2), .int (nI 0), .int (nI 99)]) (rest := []) C hP hS (met_takes l dC dI dA n s32 ab be 2 (nI 0) (nI 99) ty (hz3.t ht) ht6 P3 hP3 hz3.at (by omega)) card_takes rfl rfl ⟨Nat.le_of_ble_eq_true rfl, Nat.le_of_ble_eq_true rfl⟩ hl.1 (Nat.le_of_ble_eq_true rfl) dX5_takesView_43 (fun r43 s43 H locs hs43 hP hS => ?_)
        obtain ⟨er43, hs43⟩ := hs43
        refine rn_co er43 ?_
        refine rn_zt (tgt := 59) hx hb dX5_takesView_46 (by decide) (fun c_46 => ?_) (fun c_46 => ?_)
        · refine lv_iconst (v := nI 0) hx hb dX5_takesView_59 rfl ?_
          exact md_rz C hr hlk rfl hP hS dX5_takesView_60 (by first | (rw [U, if_neg (by rw [hA0]; exact fun z => c_8 ((nI_eq (by omega) (by omega)).mp (z.trans (show (6 : Int32) = nI 6 from rfl)))), if_neg (rv_nf (show tkT (σ 12) ty P1 0 5 = false from by rw [← hz1.e12]; exact c_24))]; rw [hs21.1 c_24]; exact ⟨rb_is0 rfl, hz1.pz hA false⟩) | (rw [U, if_neg (by rw [hA0]; exact fun z => c_8 ((nI_eq (by omega) (by omega)).mp (z.trans (show (6 : Int32) = nI 6 from rfl)))), if_pos d1, if_neg (rv_nf (show tkT (σ 12) ty P2 1 9 = false from by rw [← hz2.e12]; exact c_35))]; rw [hs32.1 c_35]; exact ⟨rb_is0 rfl, hz2.pz hA false⟩) | (rw [U, if_neg (by rw [hA0]; exact fun z => c_8 ((nI_eq (by omega) (by omega)).mp (z.trans (show (6 : Int32) = nI 6 from rfl)))), if_pos d1, if_pos d2, if_neg (rv_nf (show tkT (σ 12) ty P3 0 99 = false from by rw [← hz3.e12]; exact c_46))]; rw [hs43.1 c_46]; exact ⟨rb_is0 rfl, hz3.pz hA false⟩) | (rw [U, if_neg (by rw [hA0]; exact fun z => c_8 ((nI_eq (by omega) (by omega)).mp (z.trans (show (6 : Int32) = nI 6 from rfl)))), if_pos d1, if_pos d2, if_pos d3, if_neg (rv_nf (show tkT (σ 12) ty P4 0 5 = false from by rw [← hz4.e12]; exact c_56))]; rw [hs53.1 c_56]; exact ⟨rb_is0 rfl, hz4.pz hA false⟩))
        · have d3 : tkT (σ 12) ty P3 0 99 = true := by rw [← hz3.e12]; exact c_46
          have k3 := hs43.2 c_46
          have hz4 := hz3.took k3
          rw [← e4] at hz4
          refine lv_aload_n hx hb dX5_takesView_49 rfl (lv_at hl 0 rfl) ?_
          refine lv_iconst (v := nI 3) hx hb dX5_takesView_50 rfl ?_
          refine lv_iconst (v := nI 0) hx hb dX5_takesView_51 rfl ?_
          refine lv_iconst (v := nI 5) hx hb dX5_takesView_52 rfl ?_
          refine md_cWi (As := [.int (nI 3), .int (nI 0), .int (nI 5)]) (rest := []) C hP hS (met_takes l dC dI dA n s43 ab be 3 (nI 0) (nI 5) ty (hz4.t ht) ht6 P4 hP4 hz4.at (by omega)) card_takes rfl rfl ⟨Nat.le_of_ble_eq_true rfl, Nat.le_of_ble_eq_true rfl⟩ hl.1 (Nat.le_of_ble_eq_true rfl) dX5_takesView_53 (fun r53 s53 H locs hs53 hP hS => ?_)
          obtain ⟨er53, hs53⟩ := hs53
          refine rn_co er53 ?_
          refine rn_zf (tgt := 61) hx hb dX5_takesView_56 (by decide) (fun c_56 => ?_) (fun c_56 => ?_)
          · have d4 : tkT (σ 12) ty P4 0 5 = true := by rw [← hz4.e12]; exact c_56
            have k4 := hs53.2 c_56
            have hz5 := hz4.took k4
            rw [← e5] at hz5
            have v3 : s53 14 3 = tkV (σ 12) ty P4 := by rw [k4.2.2.1, hz4.e12]; exact if_pos rfl
            have v2 : s53 14 2 = tkV (σ 12) ty P3 := by rw [k4.2.2.1, k3.2.2.1, hz3.e12]; rfl
            have v1 : s53 14 1 = tkV (σ 12) ty P2 := by rw [k4.2.2.1, k3.2.2.1, k2.2.2.1, hz2.e12]; rfl
            have v0 : s53 14 0 = tkV (σ 12) ty P1 := by rw [k4.2.2.1, k3.2.2.1, k2.2.2.1, k1.2.2.1, hz1.e12]; rfl
            have hz0s : s53 13 0 = nI mz := by rw [hz5.e13]; exact hz0
            refine lv_aload_n hx hb dX5_takesView_61 rfl (lv_at hl 0 rfl) ?_
            refine md_g25 C hP dX5_takesView_62 ?_
            refine lv_aload_n hx hb dX5_takesView_65 rfl (lv_at hl 0 rfl) ?_
            refine md_g26 C hP dX5_takesView_66 ?_
            refine lv_iconst (v := nI 0) hx hb dX5_takesView_69 rfl ?_
            refine md_l14 C hP (by omega) dX5_takesView_70 ?_
            refine lv_aload_n hx hb dX5_takesView_71 rfl (lv_at hl 0 rfl) ?_
            refine md_g26 C hP dX5_takesView_72 ?_
            refine lv_iconst (v := nI 1) hx hb dX5_takesView_75 rfl ?_
            refine md_l14 C hP (by omega) dX5_takesView_76 ?_
            refine lv_aload_n hx hb dX5_takesView_77 rfl (lv_at hl 0 rfl) ?_
            refine md_g26 C hP dX5_takesView_78 ?_
            refine lv_iconst (v := nI 2) hx hb dX5_takesView_81 rfl ?_
            refine md_l14 C hP (by omega) dX5_takesView_82 ?_
            refine lv_aload_n hx hb dX5_takesView_83 rfl (lv_at hl 0 rfl) ?_
            refine md_g26 C hP dX5_takesView_84 ?_
            refine lv_iconst (v := nI 3) hx hb dX5_takesView_87 rfl ?_
            refine md_l14 C hP (by omega) dX5_takesView_88 ?_
            refine md_sWve (As := [.ref (n + 14), .int (s53 14 0), .int (s53 14 1), .int (s53 14 2), .int (s53 14 3)]) (rest := []) C hP hS (met_layView_13 l dC dI dA n s53 ab be (s53 14 0) (s53 14 1) (s53 14 2) (s53 14 3) mz (by omega) hz0s) card_layView rfl rfl ⟨Nat.le_of_ble_eq_true rfl, Nat.le_of_ble_eq_true rfl⟩ hl.1 (Nat.le_of_ble_eq_true rfl) dX5_takesView_89 (fun H locs hP hS => ?_)
            refine lv_iconst (v := nI 1) hx hb dX5_takesView_92 rfl ?_
            exact md_rz C hr hlk rfl hP hS dX5_takesView_93 (by rw [U, if_neg (by rw [hA0]; exact fun z => c_8 ((nI_eq (by omega) (by omega)).mp (z.trans (show (6 : Int32) = nI 6 from rfl)))), if_pos d1, if_pos d2, if_pos d3, if_pos d4, v0, v1, v2, v3, md_layV_R, hA0, rv_cln (by omega), hz5.e13]; refine ⟨rb_is1 rfl, hz5.pzR (fun k hk => ?_) true⟩; simp only [rv_lvf, upd, hA k hk])
          · refine lv_iconst (v := nI 0) hx hb dX5_takesView_59 rfl ?_
            exact md_rz C hr hlk rfl hP hS dX5_takesView_60 (by first | (rw [U, if_neg (by rw [hA0]; exact fun z => c_8 ((nI_eq (by omega) (by omega)).mp (z.trans (show (6 : Int32) = nI 6 from rfl)))), if_neg (rv_nf (show tkT (σ 12) ty P1 0 5 = false from by rw [← hz1.e12]; exact c_24))]; rw [hs21.1 c_24]; exact ⟨rb_is0 rfl, hz1.pz hA false⟩) | (rw [U, if_neg (by rw [hA0]; exact fun z => c_8 ((nI_eq (by omega) (by omega)).mp (z.trans (show (6 : Int32) = nI 6 from rfl)))), if_pos d1, if_neg (rv_nf (show tkT (σ 12) ty P2 1 9 = false from by rw [← hz2.e12]; exact c_35))]; rw [hs32.1 c_35]; exact ⟨rb_is0 rfl, hz2.pz hA false⟩) | (rw [U, if_neg (by rw [hA0]; exact fun z => c_8 ((nI_eq (by omega) (by omega)).mp (z.trans (show (6 : Int32) = nI 6 from rfl)))), if_pos d1, if_pos d2, if_neg (rv_nf (show tkT (σ 12) ty P3 0 99 = false from by rw [← hz3.e12]; exact c_46))]; rw [hs43.1 c_46]; exact ⟨rb_is0 rfl, hz3.pz hA false⟩) | (rw [U, if_neg (by rw [hA0]; exact fun z => c_8 ((nI_eq (by omega) (by omega)).mp (z.trans (show (6 : Int32) = nI 6 from rfl)))), if_pos d1, if_pos d2, if_pos d3, if_neg (rv_nf (show tkT (σ 12) ty P4 0 5 = false from by rw [← hz4.e12]; exact c_56))]; rw [hs53.1 c_56]; exact ⟨rb_is0 rfl, hz4.pz hA false⟩))
  · refine lv_iconst (v := nI 0) hx hb dX5_takesView_11 rfl ?_
    exact md_rz C hr hlk rfl hP hS dX5_takesView_12 (by rw [U, if_pos (by rw [hA0, c_8]; rfl)]; exact ⟨rb_is0 rfl, (mdZ.pz ⟨fun _ _ _ => rfl, fun _ _ _ _ _ => rfl, hat⟩ hA false)⟩)
set_option maxHeartbeats 1000000 in
theorem met_takesRenter (l : Launch) (dC : Nat → ClassId) (dI : Nat → Nat → Nat) (dA : Nat → ClassId) (n : Nat) (σ : mdT) (ab be : Int64) (ty : Nat) (ht : σ 15 5 = nI ty) (ht6 : ty ≤ 150) (p_ : Nat) (hp : p_ ≤ ty) (hat : mdAt (σ 12) ty p_ σ) (A : Nat → Int32) (hA : ∀ k, k < 115 → σ 13 k = A k) (rz : Nat) (hr0 : σ 13 1 = nI rz) (hr66 : rz ≤ 6) : Met l yX5_takesRenter (ws_ yX5_takesRenter cX5_takesRenter 1 (some .boolean)) { frames := 6, cells := 0, slots := 0, locals := 360 } (mdPc dC dI dA n σ ab be [.ref n]) (va_Qi (fun r_ u => r_ = rb_i (rv_tr (σ 12) ty p_ A).1 ∧ mdPz σ ty (rv_tr (σ 12) ty p_ A) u) (mdB dC dI dA n ab be) (mdA n)) 0 0 (mdA n) := by
  refine md_in (by decide) rfl (Nat.le_of_ble_eq_true rfl) (lv := [(0, .ref n)]) rfl ?_
  intro p e s m below meth c C hr hlk hP ls hl
  have hx := C.1
  have hb := C.2.1
  have hown := C.2.2.2.1
  have hts := C.2.2.2.2.1
  have hS : va_S (mdA n) s.heap s.heap [] := va_S.rf
  obtain ⟨P1, e1⟩ : ∃ x, x = tkN (σ 12) ty p_ := ⟨_, rfl⟩
  have hP1 : P1 ≤ ty := by rw [e1]; exact tkN_b hp
  obtain ⟨P2, e2⟩ : ∃ x, x = tkN (σ 12) ty P1 := ⟨_, rfl⟩
  have hP2 : P2 ≤ ty := by rw [e2]; exact tkN_b hP1
  obtain ⟨P3, e3⟩ : ∃ x, x = tkN (σ 12) ty P2 := ⟨_, rfl⟩
  have hP3 : P3 ≤ ty := by rw [e3]; exact tkN_b hP2
  obtain ⟨P4, e4⟩ : ∃ x, x = tkN (σ 12) ty P3 := ⟨_, rfl⟩
  have hP4 : P4 ≤ ty := by rw [e4]; exact tkN_b hP3
  have U : rv_tr (σ 12) ty p_ A = if A 1 = 6 then (false, p_, A) else if tkT (σ 12) ty P1 1 9 = true then (if tkT (σ 12) ty P2 0 999 = true then (if tkT (σ 12) ty P3 0 6 = true then (true, P4, rv_lrf A (rv_cl (A 1)) (tkV (σ 12) ty P1) (tkV (σ 12) ty P2) (tkV (σ 12) ty P3)) else (false, P3, A)) else (false, P2, A)) else (false, P1, A) := by rw [e4, e3, e2, e1]; rfl
  have hA0 : A 1 = nI rz := by rw [← hA 1 (by decide)]; exact hr0
  refine lv_aload_n hx hb dX5_takesRenter_0 rfl (lv_at hl 0 rfl) ?_
  refine md_g25 C hP dX5_takesRenter_1 ?_
  refine lv_iconst (v := nI 1) hx hb dX5_takesRenter_4 rfl ?_
  refine md_l13 C hP (by omega) dX5_takesRenter_5 ?_
  refine rn_co (y := nI rz) hr0 ?_
  refine lv_bipush (v := nI 6) hx hb dX5_takesRenter_6 rfl ?_
  refine rn_icmp_ne (tgt := 13) hx hb (by omega) (by omega) dX5_takesRenter_8 (by decide) (fun c_8 => ?_) (fun c_8 => ?_)
  · refine lv_aload_n hx hb dX5_takesRenter_13 rfl (lv_at hl 0 rfl) ?_
    refine md_cWv (As := []) (rest := []) C hP hS (met_goBehind l dC dI dA n σ ab be ty ht ht6 p_ hp hat) card_goBehind rfl rfl ⟨Nat.le_of_ble_eq_true rfl, Nat.le_of_ble_eq_true rfl⟩ hl.1 (Nat.le_of_ble_eq_true rfl) dX5_takesRenter_14 (fun s14 H locs hs14 hP hS => ?_)
    have hz1 := mdZ.go0 hs14
    rw [← e1] at hz1
    refine lv_aload_n hx hb dX5_takesRenter_17 rfl (lv_at hl 0 rfl) ?_
    refine lv_iconst (v := nI 0) hx hb dX5_takesRenter_18 rfl ?_
    refine lv_iconst (v := nI 1) hx hb dX5_takesRenter_19 rfl ?_
    refine lv_bipush (v := nI 9) hx hb dX5_takesRenter_20 rfl ?_
    refine md_cWi (As := [.int (nI 0), .int (nI 1), .int (nI 9)]) (rest := []) C hP hS (met_takes l dC dI dA n s14 ab be 0 (nI 1) (nI 9) ty (hz1.t ht) ht6 P1 hP1 hz1.at (by omega)) card_takes rfl rfl ⟨Nat.le_of_ble_eq_true rfl, Nat.le_of_ble_eq_true rfl⟩ hl.1 (Nat.le_of_ble_eq_true rfl) dX5_takesRenter_22 (fun r22 s22 H locs hs22 hP hS => ?_)
    obtain ⟨er22, hs22⟩ := hs22
    refine rn_co er22 ?_
    refine rn_zt (tgt := 51) hx hb dX5_takesRenter_25 (by decide) (fun c_25 => ?_) (fun c_25 => ?_)
    · refine lv_iconst (v := nI 0) hx hb dX5_takesRenter_51 rfl ?_
      exact md_rz C hr hlk rfl hP hS dX5_takesRenter_52 (by first | (rw [U, if_neg (by rw [hA0]; exact fun z => c_8 ((nI_eq (by omega) (by omega)).mp (z.trans (show (6 : Int32) = nI 6 from rfl)))), if_neg (rv_nf (show tkT (σ 12) ty P1 1 9 = false from by rw [← hz1.e12]; exact c_25))]; rw [hs22.1 c_25]; exact ⟨rb_is0 rfl, hz1.pz hA false⟩) | (rw [U, if_neg (by rw [hA0]; exact fun z => c_8 ((nI_eq (by omega) (by omega)).mp (z.trans (show (6 : Int32) = nI 6 from rfl)))), if_pos d1, if_neg (rv_nf (show tkT (σ 12) ty P2 0 999 = false from by rw [← hz2.e12]; exact c_37))]; rw [hs34.1 c_37]; exact ⟨rb_is0 rfl, hz2.pz hA false⟩) | (rw [U, if_neg (by rw [hA0]; exact fun z => c_8 ((nI_eq (by omega) (by omega)).mp (z.trans (show (6 : Int32) = nI 6 from rfl)))), if_pos d1, if_pos d2, if_neg (rv_nf (show tkT (σ 12) ty P3 0 6 = false from by rw [← hz3.e12]; exact c_48))]; rw [hs45.1 c_48]; exact ⟨rb_is0 rfl, hz3.pz hA false⟩))
    · have d1 : tkT (σ 12) ty P1 1 9 = true := by rw [← hz1.e12]; exact c_25
      have k1 := hs22.2 c_25
      have hz2 := hz1.took k1
      rw [← e2] at hz2
      refine lv_aload_n hx hb dX5_takesRenter_28 rfl (lv_at hl 0 rfl) ?_
      refine lv_iconst (v := nI 1) hx hb dX5_takesRenter_29 rfl ?_
      refine lv_iconst (v := nI 0) hx hb dX5_takesRenter_30 rfl ?_
      refine lv_sipush (v := nI 999) hx hb dX5_takesRenter_31 rfl ?_
      refine md_cWi (As := [.int (nI 1), .int (nI 0), .int (nI 999)]) (rest := []) C hP hS (met_takes l dC dI dA n s22 ab be 1 (nI 0) (nI 999) ty (hz2.t ht) ht6 P2 hP2 hz2.at (by omega)) card_takes rfl rfl ⟨Nat.le_of_ble_eq_true rfl, Nat.le_of_ble_eq_true rfl⟩ hl.1 (Nat.le_of_ble_eq_true rfl) dX5_takesRenter_34 (fun r34 s34 H locs hs34 hP hS => ?_)
      obtain ⟨er34, hs34⟩ := hs34
      refine rn_co er34 ?_
      refine rn_zt (tgt := 51) hx hb dX5_takesRenter_37 (by decide) (fun c_37 => ?_) (fun c_37 => ?_)
      · refine lv_iconst (v := nI 0) hx hb dX5_takesRenter_51 rfl ?_
        exact md_rz C hr hlk rfl hP hS dX5_takesRenter_52 (by first | (rw [U, if_neg (by rw [hA0]; exact fun z => c_8 ((nI_eq (by omega) (by omega)).mp (z.trans (show (6 : Int32) = nI 6 from rfl)))), if_neg (rv_nf (show tkT (σ 12) ty P1 1 9 = false from by rw [← hz1.e12]; exact c_25))]; rw [hs22.1 c_25]; exact ⟨rb_is0 rfl, hz1.pz hA false⟩) | (rw [U, if_neg (by rw [hA0]; exact fun z => c_8 ((nI_eq (by omega) (by omega)).mp (z.trans (show (6 : Int32) = nI 6 from rfl)))), if_pos d1, if_neg (rv_nf (show tkT (σ 12) ty P2 0 999 = false from by rw [← hz2.e12]; exact c_37))]; rw [hs34.1 c_37]; exact ⟨rb_is0 rfl, hz2.pz hA false⟩) | (rw [U, if_neg (by rw [hA0]; exact fun z => c_8 ((nI_eq (by omega) (by omega)).mp (z.trans (show (6 : Int32) = nI 6 from rfl)))), if_pos d1, if_pos d2, if_neg (rv_nf (show tkT (σ 12) ty P3 0 6 = false from by rw [← hz3.e12]; exact c_48))]; rw [hs45.1 c_48]; exact ⟨rb_is0 rfl, hz3.pz hA false⟩))
      · have d2 : tkT (σ 12) ty P2 0 999 = true := by rw [← hz2.e12]; exact c_37
        have k2 := hs34.2 c_37
        have hz3 := hz2.took k2
        rw [← e3] at hz3
        refine lv_aload_n hx hb dX5_takesRenter_40 rfl (lv_at hl 0 rfl) ?_
        refine lv_iconst (v := nI 2) hx hb dX5_takesRenter_41 rfl ?_
        refine lv_iconst (v := nI 0) hx hb dX5_takesRenter_42 rfl ?_
        refine lv_bipush (v := nI 6) hx hb dX5_takesRenter_43 rfl ?_
        refine md_cWi (As := [.int (nI 2), .int (nI 0), .int (nI 6)]) (rest := []) C hP hS (met_takes l dC dI dA n s34 ab be 2 (nI 0) (nI 6) ty (hz3.t ht) ht6 P3 hP3 hz3.at (by omega)) card_takes rfl rfl ⟨Nat.le_of_ble_eq_true rfl, Nat.le_of_ble_eq_true rfl⟩ hl.1 (Nat.le_of_ble_eq_true rfl) dX5_takesRenter_45 (fun r45 s45 H locs hs45 hP hS => ?_)
        obtain ⟨er45, hs45⟩ := hs45
        refine rn_co er45 ?_
        refine rn_zf (tgt := 53) hx hb dX5_takesRenter_48 (by decide) (fun c_48 => ?_) (fun c_48 => ?_)
        · have d3 : tkT (σ 12) ty P3 0 6 = true := by rw [← hz3.e12]; exact c_48
          have k3 := hs45.2 c_48
          have hz4 := hz3.took k3
          rw [← e4] at hz4
          have v2 : s45 14 2 = tkV (σ 12) ty P3 := by rw [k3.2.2.1, hz3.e12]; rfl
          have v1 : s45 14 1 = tkV (σ 12) ty P2 := by rw [k3.2.2.1, k2.2.2.1, hz2.e12]; rfl
          have v0 : s45 14 0 = tkV (σ 12) ty P1 := by rw [k3.2.2.1, k2.2.2.1, k1.2.2.1, hz1.e12]; rfl
          have hz0s : s45 13 1 = nI rz := by rw [hz4.e13]; exact hr0
          refine lv_aload_n hx hb dX5_takesRenter_53 rfl (lv_at hl 0 rfl) ?_
          refine md_g25 C hP dX5_takesRenter_54 ?_
          refine lv_aload_n hx hb dX5_takesRenter_57 rfl (lv_at hl 0 rfl) ?_
          refine md_g26 C hP dX5_takesRenter_58 ?_
          refine lv_iconst (v := nI 0) hx hb dX5_takesRenter_61 rfl ?_
          refine md_l14 C hP (by omega) dX5_takesRenter_62 ?_
          refine lv_aload_n hx hb dX5_takesRenter_63 rfl (lv_at hl 0 rfl) ?_
          refine md_g26 C hP dX5_takesRenter_64 ?_
          refine lv_iconst (v := nI 1) hx hb dX5_takesRenter_67 rfl ?_
          refine md_l14 C hP (by omega) dX5_takesRenter_68 ?_
          refine lv_aload_n hx hb dX5_takesRenter_69 rfl (lv_at hl 0 rfl) ?_
          refine md_g26 C hP dX5_takesRenter_70 ?_
          refine lv_iconst (v := nI 2) hx hb dX5_takesRenter_73 rfl ?_
          refine md_l14 C hP (by omega) dX5_takesRenter_74 ?_
          refine md_sWve (As := [.ref (n + 14), .int (s45 14 0), .int (s45 14 1), .int (s45 14 2)]) (rest := []) C hP hS (met_layRenter_13 l dC dI dA n s45 ab be (s45 14 0) (s45 14 1) (s45 14 2) rz (by omega) hz0s) card_layRenter rfl rfl ⟨Nat.le_of_ble_eq_true rfl, Nat.le_of_ble_eq_true rfl⟩ hl.1 (Nat.le_of_ble_eq_true rfl) dX5_takesRenter_75 (fun H locs hP hS => ?_)
          refine lv_iconst (v := nI 1) hx hb dX5_takesRenter_78 rfl ?_
          exact md_rz C hr hlk rfl hP hS dX5_takesRenter_79 (by rw [U, if_neg (by rw [hA0]; exact fun z => c_8 ((nI_eq (by omega) (by omega)).mp (z.trans (show (6 : Int32) = nI 6 from rfl)))), if_pos d1, if_pos d2, if_pos d3, v0, v1, v2, md_layR_R, hA0, rv_cln (by omega), hz4.e13]; refine ⟨rb_is1 rfl, hz4.pzR (fun k hk => ?_) true⟩; simp only [rv_lrf, upd, hA k hk])
        · refine lv_iconst (v := nI 0) hx hb dX5_takesRenter_51 rfl ?_
          exact md_rz C hr hlk rfl hP hS dX5_takesRenter_52 (by first | (rw [U, if_neg (by rw [hA0]; exact fun z => c_8 ((nI_eq (by omega) (by omega)).mp (z.trans (show (6 : Int32) = nI 6 from rfl)))), if_neg (rv_nf (show tkT (σ 12) ty P1 1 9 = false from by rw [← hz1.e12]; exact c_25))]; rw [hs22.1 c_25]; exact ⟨rb_is0 rfl, hz1.pz hA false⟩) | (rw [U, if_neg (by rw [hA0]; exact fun z => c_8 ((nI_eq (by omega) (by omega)).mp (z.trans (show (6 : Int32) = nI 6 from rfl)))), if_pos d1, if_neg (rv_nf (show tkT (σ 12) ty P2 0 999 = false from by rw [← hz2.e12]; exact c_37))]; rw [hs34.1 c_37]; exact ⟨rb_is0 rfl, hz2.pz hA false⟩) | (rw [U, if_neg (by rw [hA0]; exact fun z => c_8 ((nI_eq (by omega) (by omega)).mp (z.trans (show (6 : Int32) = nI 6 from rfl)))), if_pos d1, if_pos d2, if_neg (rv_nf (show tkT (σ 12) ty P3 0 6 = false from by rw [← hz3.e12]; exact c_48))]; rw [hs45.1 c_48]; exact ⟨rb_is0 rfl, hz3.pz hA false⟩))
  · refine lv_iconst (v := nI 0) hx hb dX5_takesRenter_11 rfl ?_
    exact md_rz C hr hlk rfl hP hS dX5_takesRenter_12 (by rw [U, if_pos (by rw [hA0, c_8]; rfl)]; exact ⟨rb_is0 rfl, (mdZ.pz ⟨fun _ _ _ => rfl, fun _ _ _ _ _ => rfl, hat⟩ hA false)⟩)
