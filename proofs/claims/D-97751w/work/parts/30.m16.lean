set_option maxRecDepth 100000
/-! the Model: reading -/
def rv_item (T : Nat → Int32) (tl p : Nat) (A : Nat → Int32) : Bool × Nat × (Nat → Int32) :=
  if tkW T tl p 4 (rv_w6 (nI 118) (nI 105) (nI 101) (nI 119) (nI 0) (nI 0)) = true then rv_tv T tl p A else if tkW T tl p 6 (rv_w6 (nI 114) (nI 101) (nI 110) (nI 116) (nI 101) (nI 114)) = true then rv_tr T tl p A else if tkW T tl p 5 (rv_w6 (nI 116) (nI 104) (nI 105) (nI 110) (nI 103) (nI 0)) = true then rv_tt T tl p A else (false, p, A)
/-- the items of a text, from p on: what is answered, whether it is read, the numbers -/
def rv_rdl (T : Nat → Int32) (tl : Nat) : Nat → Nat → (Nat → Int32) → Int32 → Int32 × Bool × (Nat → Int32)
  | 0, _, A, n => (n, false, A)
  | k + 1, p, A, n => if tkK T tl p = 0 then (n, true, A) else if (rv_item T tl p A).1 = true then (if tkK T tl (rv_item T tl p A).2.1 = 3 then rv_rdl T tl k (tkN T tl (rv_item T tl p A).2.1) (rv_item T tl p A).2.2 (n + 1) else ((-10) - nI (tkA T tl (rv_item T tl p A).2.1), false, A)) else ((-10) - nI (tkA T tl (rv_item T tl p A).2.1), false, A)
def rv_read (T : Nat → Int32) (tl : Nat) : Int32 × Bool × (Nat → Int32) :=
  if tkW T tl 0 4 (rv_w6 (nI 115) (nI 104) (nI 111) (nI 112) (nI 0) (nI 0)) = true then (if tkK T tl (tkN T tl 0) = 3 then rv_rdl T tl (tl - tkN T tl (tkN T tl 0) + 1) (tkN T tl (tkN T tl 0)) (fun _ => 0) 1 else ((-10) - nI (tkA T tl (tkN T tl 0)), false, fun _ => 0)) else ((-10) - nI (tkA T tl 0), false, fun _ => 0)
def sp_read (σ : mdT) : Int32 × mdT := if (rv_read (σ 12) (rv_cl (σ 15 5))).2.1 = true then ((rv_read (σ 12) (rv_cl (σ 15 5))).1, mdN σ (fun k => if k < 115 then (rv_read (σ 12) (rv_cl (σ 15 5))).2.2 k else σ 0 k)) else ((rv_read (σ 12) (rv_cl (σ 15 5))).1, σ)
theorem tkW_lt {T : Nat → Int32} {tl p sz : Nat} {w : Nat → Int32} (hp : p ≤ tl) (h : tkW T tl p sz w = true) : p < tkN T tl p := by
  have h1 : tkK T tl p = 1 := by
    unfold tkW at h
    rw [Bool.and_eq_true, Bool.and_eq_true, decide_eq_true_eq] at h
    exact h.1.1
  have h2 := tkA_b (T := T) hp
  have h3 := (tkL_b (T := T) hp).2
  by_cases e : tkA T tl p = tl
  · rw [tkK, if_pos e] at h1; omega
  · have := h3 (by omega)
    show p < tkA T tl p + tkL T tl p
    omega
theorem tkN_m {T : Nat → Int32} {tl p : Nat} (hp : p ≤ tl) : p ≤ tkN T tl p := by
  have := (tkA_b (T := T) hp).1
  show p ≤ tkA T tl p + tkL T tl p
  omega
theorem rv_lvf_1 (A : Nat → Int32) (m : Nat) (kd sz pr we : Int32) : rv_lvf A m kd sz pr we 1 = A 1 := by
  simp only [rv_lvf, upd]
  grind
theorem rv_lrf_0 (A : Nat → Int32) (m : Nat) (wl pu wa : Int32) : rv_lrf A m wl pu wa 0 = A 0 := by
  simp only [rv_lrf, upd]
  grind
theorem mdS_R (τ : mdT) (a k : Nat) (v : Int32) : mdS τ a k v = mdR τ a (upd (τ a) k v) := rfl
/-- an item that is read lies further on; the counts stay small -/
def rv_itok (p tl : Nat) (A : Nat → Int32) (R : Bool × Nat × (Nat → Int32)) : Prop := R.2.1 ≤ tl ∧ (R.1 = true → p < R.2.1) ∧ ∀ m r : Nat, A 0 = nI m → m ≤ 6 → A 1 = nI r → r ≤ 6 → (∃ m', R.2.2 0 = nI m' ∧ m' ≤ 6) ∧ ∃ r', R.2.2 1 = nI r' ∧ r' ≤ 6
theorem rv_item_ok {T : Nat → Int32} {tl p : Nat} {A : Nat → Int32} (hp : p ≤ tl) : rv_itok p tl A (rv_item T tl p A) := by
  have n1 := tkN_b (T := T) hp
  have n2 := tkN_b (T := T) n1
  have n3 := tkN_b (T := T) n2
  have n4 := tkN_b (T := T) n3
  have n5 := tkN_b (T := T) n4
  have m2 := tkN_m (T := T) n1
  have m3 := tkN_m (T := T) n2
  have m4 := tkN_m (T := T) n3
  have m5 := tkN_m (T := T) n4
  have same : ∀ (q : Nat), q ≤ tl → rv_itok p tl A (false, q, A) := fun q hq => ⟨hq, fun z => absurd z Bool.false_ne_true, fun m r h0 hm h1 hr => ⟨⟨m, h0, hm⟩, ⟨r, h1, hr⟩⟩⟩
  unfold rv_item
  by_cases w1 : tkW T tl p 4 (rv_w6 (nI 118) (nI 105) (nI 101) (nI 119) (nI 0) (nI 0)) = true
  · have hlt := tkW_lt hp w1
    rw [if_pos w1, rv_tv]
    by_cases a0 : A 0 = 6
    · rw [if_pos a0]; exact same p hp
    rw [if_neg a0]
    by_cases b1 : tkT T tl (tkN T tl p) 0 5 = false
    · rw [if_neg (rv_nf b1)]; exact same _ n1
    have b1 := (Bool.not_eq_false _).mp b1
    rw [if_pos b1]
    by_cases b2 : tkT T tl (tkN T tl (tkN T tl p)) 1 9 = false
    · rw [if_neg (rv_nf b2)]; exact same _ n2
    have b2 := (Bool.not_eq_false _).mp b2
    rw [if_pos b2]
    by_cases b3 : tkT T tl (tkN T tl (tkN T tl (tkN T tl p))) 0 99 = false
    · rw [if_neg (rv_nf b3)]; exact same _ n3
    have b3 := (Bool.not_eq_false _).mp b3
    rw [if_pos b3]
    by_cases b4 : tkT T tl (tkN T tl (tkN T tl (tkN T tl (tkN T tl p)))) 0 5 = false
    · rw [if_neg (rv_nf b4)]; exact same _ n4
    have b4 := (Bool.not_eq_false _).mp b4
    rw [if_pos b4]
    refine ⟨n5, fun _ => by show p < tkN T tl (tkN T tl (tkN T tl (tkN T tl (tkN T tl p)))); omega, fun m r h0 hm h1 hr => ⟨⟨m + 1, ?_, ?_⟩, ⟨r, ?_, hr⟩⟩⟩
    · rw [h0, rv_cln (by omega)]; rfl
    · rcases Nat.lt_or_ge m 6 with g | g
      · omega
      · exact absurd (by rw [h0, show m = 6 by omega]; rfl) a0
    · dsimp only; rw [rv_lvf_1]; exact h1
  rw [if_neg w1]
  by_cases w2 : tkW T tl p 6 (rv_w6 (nI 114) (nI 101) (nI 110) (nI 116) (nI 101) (nI 114)) = true
  · have hlt := tkW_lt hp w2
    rw [if_pos w2, rv_tr]
    by_cases a0 : A 1 = 6
    · rw [if_pos a0]; exact same p hp
    rw [if_neg a0]
    by_cases b1 : tkT T tl (tkN T tl p) 1 9 = false
    · rw [if_neg (rv_nf b1)]; exact same _ n1
    have b1 := (Bool.not_eq_false _).mp b1
    rw [if_pos b1]
    by_cases b2 : tkT T tl (tkN T tl (tkN T tl p)) 0 999 = false
    · rw [if_neg (rv_nf b2)]; exact same _ n2
    have b2 := (Bool.not_eq_false _).mp b2
    rw [if_pos b2]
    by_cases b3 : tkT T tl (tkN T tl (tkN T tl (tkN T tl p))) 0 6 = false
    · rw [if_neg (rv_nf b3)]; exact same _ n3
    have b3 := (Bool.not_eq_false _).mp b3
    rw [if_pos b3]
    refine ⟨n4, fun _ => by show p < tkN T tl (tkN T tl (tkN T tl (tkN T tl p))); omega, fun m r h0 hm h1 hr => ⟨⟨m, ?_, hm⟩, ⟨r + 1, ?_, ?_⟩⟩⟩
    · dsimp only; rw [rv_lrf_0]; exact h0
    · rw [h1, rv_cln (by omega)]; rfl
    · rcases Nat.lt_or_ge r 6 with g | g
      · omega
      · exact absurd (by rw [h1, show r = 6 by omega]; rfl) a0
  rw [if_neg w2]
  by_cases w3 : tkW T tl p 5 (rv_w6 (nI 116) (nI 104) (nI 105) (nI 110) (nI 103) (nI 0)) = false
  · rw [if_neg (rv_nf w3)]; exact same p hp
  · have w3 := (Bool.not_eq_false _).mp w3
    have hlt := tkW_lt hp w3
    rw [if_pos w3, rv_tt]
    by_cases b1 : tkT T tl (tkN T tl p) 0 (A 0 - 1) = false
    · rw [if_neg (rv_nf b1)]; exact same _ n1
    have b1 := (Bool.not_eq_false _).mp b1
    rw [if_pos b1]
    by_cases b2 : tkT T tl (tkN T tl (tkN T tl p)) 0 7 = false
    · rw [if_neg (rv_nf b2)]; exact same _ n2
    have b2 := (Bool.not_eq_false _).mp b2
    rw [if_pos b2]
    refine ⟨n3, fun _ => by show p < tkN T tl (tkN T tl (tkN T tl p)); omega, fun m r h0 hm h1 hr => ⟨⟨m, ?_, hm⟩, ⟨r, ?_, hr⟩⟩⟩
    · dsimp only; rw [pk_un (show 0 ≠ 7 + 6 * rv_cl (tkV T tl (tkN T tl p)) + 5 by omega)]; exact h0
    · dsimp only; rw [pk_un (show 1 ≠ 7 + 6 * rv_cl (tkV T tl (tkN T tl p)) + 5 by omega)]; exact h1
theorem tkT_ix {T : Nat → Int32} {tl p : Nat} {x : Int32} {m : Nat} (h0 : x = nI m) (hm : m ≤ 6) (h : tkT T tl p 0 (x - 1) = true) : ∃ j, j < m ∧ tkV T tl p = nI j := by
  unfold tkT at h
  rw [Bool.and_eq_true] at h
  have h2 := h.2
  rw [show (0 : Int32).toInt64 = (0 : Int64) from rfl, rv_inL_ii] at h2
  exact rv_isx h0 hm h2
set_option maxHeartbeats 1000000 in
theorem met_takesThing (l : Launch) (dC : Nat → ClassId) (dI : Nat → Nat → Nat) (dA : Nat → ClassId) (n : Nat) (σ : mdT) (ab be : Int64) (ty : Nat) (ht : σ 15 5 = nI ty) (ht6 : ty ≤ 150) (p_ : Nat) (hp : p_ ≤ ty) (hat : mdAt (σ 12) ty p_ σ) (A : Nat → Int32) (hA : ∀ k, k < 115 → σ 13 k = A k) (mz : Nat) (hz0 : σ 13 0 = nI mz) (hz6 : mz ≤ 6) : Met l yX5_takesThing (ws_ yX5_takesThing cX5_takesThing 1 (some .boolean)) { frames := 6, cells := 0, slots := 0, locals := 360 } (mdPc dC dI dA n σ ab be [.ref n]) (va_Qi (fun r_ u => r_ = rb_i (rv_tt (σ 12) ty p_ A).1 ∧ mdPz σ ty (rv_tt (σ 12) ty p_ A) u) (mdB dC dI dA n ab be) (mdA n)) 0 0 (mdA n) := by
  refine md_in (by decide) rfl (Nat.le_of_ble_eq_true rfl) (lv := [(0, .ref n)]) rfl ?_
  intro p e s m below meth c C hr hlk hP ls hl
  have hx := C.1
  have hb := C.2.1
  have hown := C.2.2.2.1
  have hts := C.2.2.2.2.1
  have hS : va_S (mdA n) s.heap s.heap [] := va_S.rf
  obtain ⟨P1, e1⟩ : ∃ x, x = tkN (σ 12) ty p_ := ⟨_, rfl⟩
  have hP1 : P1 ≤ ty := by rw [e1]; exact tkN_b hp
  obtain ⟨P2, e2⟩ : ∃ x, x = tkN (σ 12) ty P1 := ⟨_, rfl⟩
  have hP2 : P2 ≤ ty := by rw [e2]; exact tkN_b hP1
  obtain ⟨P3, e3⟩ : ∃ x, x = tkN (σ 12) ty P2 := ⟨_, rfl⟩
  have hP3 : P3 ≤ ty := by rw [e3]; exact tkN_b hP2
  have U : rv_tt (σ 12) ty p_ A = if tkT (σ 12) ty P1 0 (A 0 - 1) = true then (if tkT (σ 12) ty P2 0 7 = true then (true, P3, upd A (7 + 6 * rv_cl (tkV (σ 12) ty P1) + 5) (A (7 + 6 * rv_cl (tkV (σ 12) ty P1) + 5) ||| ((1 : Int32) <<< (tkV (σ 12) ty P2 &&& 31)))) else (false, P2, A)) else (false, P1, A) := by rw [e3, e2, e1]; rfl
  have hA0 : A 0 = nI mz := by rw [← hA 0 (by decide)]; exact hz0
  refine lv_aload_n hx hb dX5_takesThing_0 rfl (lv_at hl 0 rfl) ?_
  refine md_cWv (As := []) (rest := []) C hP hS (met_goBehind l dC dI dA n σ ab be ty ht ht6 p_ hp hat) card_goBehind rfl rfl ⟨Nat.le_of_ble_eq_true rfl, Nat.le_of_ble_eq_true rfl⟩ hl.1 (Nat.le_of_ble_eq_true rfl) dX5_takesThing_1 (fun s1 H locs hs1 hP hS => ?_)
  have hz1 := mdZ.go0 hs1
  rw [← e1] at hz1
  refine lv_aload_n hx hb dX5_takesThing_4 rfl (lv_at hl 0 rfl) ?_
  refine lv_iconst (v := nI 0) hx hb dX5_takesThing_5 rfl ?_
  refine lv_iconst (v := nI 0) hx hb dX5_takesThing_6 rfl ?_
  refine lv_aload_n hx hb dX5_takesThing_7 rfl (lv_at hl 0 rfl) ?_
  refine md_g25 C hP dX5_takesThing_8 ?_
  refine lv_iconst (v := nI 0) hx hb dX5_takesThing_11 rfl ?_
  refine md_l13 C hP (by omega) dX5_takesThing_12 ?_
  refine lv_iconst (v := nI 1) hx hb dX5_takesThing_13 rfl ?_
  refine lv_isub hx hb dX5_takesThing_14 ?_
  refine md_cWi (As := [.int (nI 0), .int (nI 0), .int ((s1 13 0) - 1)]) (rest := []) C hP hS (met_takes l dC dI dA n s1 ab be 0 (nI 0) ((s1 13 0) - 1) ty (hz1.t ht) ht6 P1 hP1 hz1.at (by omega)) card_takes rfl rfl ⟨Nat.le_of_ble_eq_true rfl, Nat.le_of_ble_eq_true rfl⟩ hl.1 (Nat.le_of_ble_eq_true rfl) dX5_takesThing_15 (fun r15 s15 H locs hs15 hP hS => ?_)
  obtain ⟨er15, hs15⟩ := hs15
  refine rn_co er15 ?_
  refine rn_zt (tgt := 32) hx hb dX5_takesThing_18 (by decide) (fun c_18 => ?_) (fun c_18 => ?_)
  · refine lv_iconst (v := nI 0) hx hb dX5_takesThing_32 rfl ?_
    exact md_rz C hr hlk rfl hP hS dX5_takesThing_33 (by first | (rw [U, if_neg (rv_nf (show tkT (σ 12) ty P1 0 (A 0 - 1) = false from by rw [← hz1.e12, ← hA 0 (by decide), ← hz1.e13]; exact c_18))]; rw [hs15.1 c_18]; exact ⟨rb_is0 rfl, hz1.pz hA false⟩) | (rw [U, if_pos d1, if_neg (rv_nf (show tkT (σ 12) ty P2 0 7 = false from by rw [← hz2.e12]; exact c_29))]; rw [hs26.1 c_29]; exact ⟨rb_is0 rfl, hz2.pz hA false⟩))
  · have d1 : tkT (σ 12) ty P1 0 (A 0 - 1) = true := by rw [← hz1.e12, ← hA 0 (by decide), ← hz1.e13]; exact c_18
    have k1 := hs15.2 c_18
    have hz2 := hz1.took k1
    rw [← e2] at hz2
    obtain ⟨j, hj, hv1⟩ := tkT_ix hA0 hz6 d1
    refine lv_aload_n hx hb dX5_takesThing_21 rfl (lv_at hl 0 rfl) ?_
    refine lv_iconst (v := nI 1) hx hb dX5_takesThing_22 rfl ?_
    refine lv_iconst (v := nI 0) hx hb dX5_takesThing_23 rfl ?_
    refine lv_bipush (v := nI 7) hx hb dX5_takesThing_24 rfl ?_
    refine md_cWi (As := [.int (nI 1), .int (nI 0), .int (nI 7)]) (rest := []) C hP hS (met_takes l dC dI dA n s15 ab be 1 (nI 0) (nI 7) ty (hz2.t ht) ht6 P2 hP2 hz2.at (by omega)) card_takes rfl rfl ⟨Nat.le_of_ble_eq_true rfl, Nat.le_of_ble_eq_true rfl⟩ hl.1 (Nat.le_of_ble_eq_true rfl) dX5_takesThing_26 (fun r26 s26 H locs hs26 hP hS => ?_)
    obtain ⟨er26, hs26⟩ := hs26
    refine rn_co er26 ?_
    refine rn_zf (tgt := 34) hx hb dX5_takesThing_29 (by decide) (fun c_29 => ?_) (fun c_29 => ?_)
    · have d2 : tkT (σ 12) ty P2 0 7 = true := by rw [← hz2.e12]; exact c_29
      have k2 := hs26.2 c_29
      have hz3 := hz2.took k2
      rw [← e3] at hz3
      have v1 : s26 14 1 = tkV (σ 12) ty P2 := by rw [k2.2.2.1, hz2.e12]; rfl
      have v0 : s26 14 0 = nI j := by rw [k2.2.2.1, k1.2.2.1, hz1.e12, ← hv1]; rfl
      refine lv_aload_n hx hb dX5_takesThing_34 rfl (lv_at hl 0 rfl) ?_
      refine md_g25 C hP dX5_takesThing_35 ?_
      refine lv_bipush (v := nI 7) hx hb dX5_takesThing_38 rfl ?_
      refine lv_bipush (v := nI 6) hx hb dX5_takesThing_40 rfl ?_
      refine lv_aload_n hx hb dX5_takesThing_42 rfl (lv_at hl 0 rfl) ?_
      refine md_g26 C hP dX5_takesThing_43 ?_
      refine lv_iconst (v := nI 0) hx hb dX5_takesThing_46 rfl ?_
      refine md_l14 C hP (by omega) dX5_takesThing_47 ?_
      refine rn_co (y := nI j) v0 ?_
      refine rn_imul hx hb dX5_takesThing_48 ?_
      refine rn_iadd hx hb dX5_takesThing_49 ?_
      refine lv_iconst (v := nI 5) hx hb dX5_takesThing_50 rfl ?_
      refine rn_iadd hx hb dX5_takesThing_51 ?_
      refine lv_dup2_11 hx hb dX5_takesThing_52 rfl rfl ?_
      refine md_l13 C hP (by omega) dX5_takesThing_53 ?_
      refine lv_iconst (v := nI 1) hx hb dX5_takesThing_54 rfl ?_
      refine lv_aload_n hx hb dX5_takesThing_55 rfl (lv_at hl 0 rfl) ?_
      refine md_g26 C hP dX5_takesThing_56 ?_
      refine lv_iconst (v := nI 1) hx hb dX5_takesThing_59 rfl ?_
      refine md_l14 C hP (by omega) dX5_takesThing_60 ?_
      refine lv_ishl hx hb dX5_takesThing_61 ?_
      refine lv_ior hx hb dX5_takesThing_62 ?_
      refine md_s13 C hP hS (by omega) dX5_takesThing_63 (fun H locs hP hS => ?_)
      refine lv_iconst (v := nI 1) hx hb dX5_takesThing_64 rfl ?_
      exact md_rz C hr hlk rfl hP hS dX5_takesThing_65 (by rw [U, if_pos d1, if_pos d2, v1, hv1, rv_cln (by omega)]; refine ⟨rb_is1 rfl, ?_⟩; rw [mdS_R]; exact hz3.pzR (fun k hk => by simp only [upd, hz3.e13, hA k hk, hA (7 + 6 * j + 5) (by omega)]; rfl) true)
    · refine lv_iconst (v := nI 0) hx hb dX5_takesThing_32 rfl ?_
      exact md_rz C hr hlk rfl hP hS dX5_takesThing_33 (by first | (rw [U, if_neg (rv_nf (show tkT (σ 12) ty P1 0 (A 0 - 1) = false from by rw [← hz1.e12, ← hA 0 (by decide), ← hz1.e13]; exact c_18))]; rw [hs15.1 c_18]; exact ⟨rb_is0 rfl, hz1.pz hA false⟩) | (rw [U, if_pos d1, if_neg (rv_nf (show tkT (σ 12) ty P2 0 7 = false from by rw [← hz2.e12]; exact c_29))]; rw [hs26.1 c_29]; exact ⟨rb_is0 rfl, hz2.pz hA false⟩))
theorem met_takesItem (l : Launch) (dC : Nat → ClassId) (dI : Nat → Nat → Nat) (dA : Nat → ClassId) (n : Nat) (σ : mdT) (ab be : Int64) (ty : Nat) (ht : σ 15 5 = nI ty) (ht6 : ty ≤ 150) (p_ : Nat) (hp : p_ ≤ ty) (hat : mdAt (σ 12) ty p_ σ) (A : Nat → Int32) (hA : ∀ k, k < 115 → σ 13 k = A k) (mz : Nat) (hz0 : σ 13 0 = nI mz) (hz6 : mz ≤ 6) (rz : Nat) (hr0 : σ 13 1 = nI rz) (hr66 : rz ≤ 6) : Met l yX5_takesItem (ws_ yX5_takesItem cX5_takesItem 1 (some .boolean)) { frames := 7, cells := 0, slots := 0, locals := 420 } (mdPc dC dI dA n σ ab be [.ref n]) (va_Qi (fun r_ u => r_ = rb_i (rv_item (σ 12) ty p_ A).1 ∧ mdPz σ ty (rv_item (σ 12) ty p_ A) u) (mdB dC dI dA n ab be) (mdA n)) 0 0 (mdA n) := by
  refine md_in (by decide) rfl (Nat.le_of_ble_eq_true rfl) (lv := [(0, .ref n)]) rfl ?_
  intro p e s m below meth c C hr hlk hP ls hl
  have hx := C.1
  have hb := C.2.1
  have hown := C.2.2.2.1
  have hts := C.2.2.2.2.1
  have hS : va_S (mdA n) s.heap s.heap [] := va_S.rf
  refine lv_aload_n hx hb dX5_takesItem_0 rfl (lv_at hl 0 rfl) ?_
  refine lv_iconst (v := nI 4) hx hb dX5_takesItem_1 rfl ?_
  refine lv_bipush (v := nI 118) hx hb dX5_takesItem_2 rfl ?_
  refine lv_bipush (v := nI 105) hx hb dX5_takesItem_4 rfl ?_
  refine lv_bipush (v := nI 101) hx hb dX5_takesItem_6 rfl ?_
  refine lv_bipush (v := nI 119) hx hb dX5_takesItem_8 rfl ?_
  refine lv_iconst (v := nI 0) hx hb dX5_takesItem_10 rfl ?_
  refine lv_iconst (v := nI 0) hx hb dX5_takesItem_11 rfl ?_
  refine md_cSe (As := [.int (nI 4), .int (nI 118), .int (nI 105), .int (nI 101), .int (nI 119), .int (nI 0), .int (nI 0)]) (rest := []) C hP (met_isCalled l dC dI dA n σ ab be 4 (nI 118) (nI 105) (nI 101) (nI 119) (nI 0) (nI 0) ty ht ht6 p_ hp hat (by omega)) card_isCalled rfl rfl ⟨Nat.le_of_ble_eq_true rfl, Nat.le_of_ble_eq_true rfl⟩ hl.1 (Nat.le_of_ble_eq_true rfl) dX5_takesItem_12 ?_
  refine rn_zt (tgt := 23) hx hb dX5_takesItem_15 (by decide) (fun c_15 => ?_) (fun c_15 => ?_)
  · refine lv_aload_n hx hb dX5_takesItem_23 rfl (lv_at hl 0 rfl) ?_
    refine lv_bipush (v := nI 6) hx hb dX5_takesItem_24 rfl ?_
    refine lv_bipush (v := nI 114) hx hb dX5_takesItem_26 rfl ?_
    refine lv_bipush (v := nI 101) hx hb dX5_takesItem_28 rfl ?_
    refine lv_bipush (v := nI 110) hx hb dX5_takesItem_30 rfl ?_
    refine lv_bipush (v := nI 116) hx hb dX5_takesItem_32 rfl ?_
    refine lv_bipush (v := nI 101) hx hb dX5_takesItem_34 rfl ?_
    refine lv_bipush (v := nI 114) hx hb dX5_takesItem_36 rfl ?_
    refine md_cSe (As := [.int (nI 6), .int (nI 114), .int (nI 101), .int (nI 110), .int (nI 116), .int (nI 101), .int (nI 114)]) (rest := []) C hP (met_isCalled l dC dI dA n σ ab be 6 (nI 114) (nI 101) (nI 110) (nI 116) (nI 101) (nI 114) ty ht ht6 p_ hp hat (by omega)) card_isCalled rfl rfl ⟨Nat.le_of_ble_eq_true rfl, Nat.le_of_ble_eq_true rfl⟩ hl.1 (Nat.le_of_ble_eq_true rfl) dX5_takesItem_38 ?_
    refine rn_zt (tgt := 49) hx hb dX5_takesItem_41 (by decide) (fun c_41 => ?_) (fun c_41 => ?_)
    · refine lv_aload_n hx hb dX5_takesItem_49 rfl (lv_at hl 0 rfl) ?_
      refine lv_iconst (v := nI 5) hx hb dX5_takesItem_50 rfl ?_
      refine lv_bipush (v := nI 116) hx hb dX5_takesItem_51 rfl ?_
      refine lv_bipush (v := nI 104) hx hb dX5_takesItem_53 rfl ?_
      refine lv_bipush (v := nI 105) hx hb dX5_takesItem_55 rfl ?_
      refine lv_bipush (v := nI 110) hx hb dX5_takesItem_57 rfl ?_
      refine lv_bipush (v := nI 103) hx hb dX5_takesItem_59 rfl ?_
      refine lv_iconst (v := nI 0) hx hb dX5_takesItem_61 rfl ?_
      refine md_cSe (As := [.int (nI 5), .int (nI 116), .int (nI 104), .int (nI 105), .int (nI 110), .int (nI 103), .int (nI 0)]) (rest := []) C hP (met_isCalled l dC dI dA n σ ab be 5 (nI 116) (nI 104) (nI 105) (nI 110) (nI 103) (nI 0) ty ht ht6 p_ hp hat (by omega)) card_isCalled rfl rfl ⟨Nat.le_of_ble_eq_true rfl, Nat.le_of_ble_eq_true rfl⟩ hl.1 (Nat.le_of_ble_eq_true rfl) dX5_takesItem_62 ?_
      refine rn_zt (tgt := 79) hx hb dX5_takesItem_65 (by decide) (fun c_65 => ?_) (fun c_65 => ?_)
      · refine lv_iconst (v := nI 0) hx hb dX5_takesItem_79 rfl ?_
        exact md_rz C hr hlk rfl hP hS dX5_takesItem_80 (by rw [rv_item, if_neg (rv_nf c_15), if_neg (rv_nf c_41)]; first | (rw [if_neg (rv_nf c_65)]; exact ⟨rb_is0 rfl, (mdZ.pz ⟨fun _ _ _ => rfl, fun _ _ _ _ _ => rfl, hat⟩ hA false)⟩) | (rw [if_pos c_65]; exact ⟨rb_is1 c_72, hs69⟩) | (rw [if_pos c_65]; exact ⟨rb_is0 c_72, hs69⟩))
      · refine lv_aload_n hx hb dX5_takesItem_68 rfl (lv_at hl 0 rfl) ?_
        refine md_cWi (As := []) (rest := []) C hP hS (met_takesThing l dC dI dA n σ ab be ty ht ht6 p_ hp hat A hA mz hz0 hz6) card_takesThing rfl rfl ⟨Nat.le_of_ble_eq_true rfl, Nat.le_of_ble_eq_true rfl⟩ hl.1 (Nat.le_of_ble_eq_true rfl) dX5_takesItem_69 (fun r69 s69 H locs hs69 hP hS => ?_)
        obtain ⟨er69, hs69⟩ := hs69
        refine rn_co er69 ?_
        refine rn_zt (tgt := 79) hx hb dX5_takesItem_72 (by decide) (fun c_72 => ?_) (fun c_72 => ?_)
        · refine lv_iconst (v := nI 0) hx hb dX5_takesItem_79 rfl ?_
          exact md_rz C hr hlk rfl hP hS dX5_takesItem_80 (by rw [rv_item, if_neg (rv_nf c_15), if_neg (rv_nf c_41)]; first | (rw [if_neg (rv_nf c_65)]; exact ⟨rb_is0 rfl, (mdZ.pz ⟨fun _ _ _ => rfl, fun _ _ _ _ _ => rfl, hat⟩ hA false)⟩) | (rw [if_pos c_65]; exact ⟨rb_is1 c_72, hs69⟩) | (rw [if_pos c_65]; exact ⟨rb_is0 c_72, hs69⟩))
        · refine lv_iconst (v := nI 1) hx hb dX5_takesItem_75 rfl ?_
          refine lv_goto (tgt := 80) hx hb dX5_takesItem_76 (by decide) ?_
          exact md_rz C hr hlk rfl hP hS dX5_takesItem_80 (by rw [rv_item, if_neg (rv_nf c_15), if_neg (rv_nf c_41)]; first | (rw [if_neg (rv_nf c_65)]; exact ⟨rb_is0 rfl, (mdZ.pz ⟨fun _ _ _ => rfl, fun _ _ _ _ _ => rfl, hat⟩ hA false)⟩) | (rw [if_pos c_65]; exact ⟨rb_is1 c_72, hs69⟩) | (rw [if_pos c_65]; exact ⟨rb_is0 c_72, hs69⟩))
    · refine lv_aload_n hx hb dX5_takesItem_44 rfl (lv_at hl 0 rfl) ?_
      refine md_cWi (As := []) (rest := []) C hP hS (met_takesRenter l dC dI dA n σ ab be ty ht ht6 p_ hp hat A hA rz hr0 hr66) card_takesRenter rfl rfl ⟨Nat.le_of_ble_eq_true rfl, Nat.le_of_ble_eq_true rfl⟩ hl.1 (Nat.le_of_ble_eq_true rfl) dX5_takesItem_45 (fun r45 s45 H locs hs45 hP hS => ?_)
      obtain ⟨er45, hs45⟩ := hs45
      refine rn_co er45 ?_
      exact md_rz C hr hlk (rv_nar _) hP hS dX5_takesItem_48 (by rw [rv_item, if_neg (rv_nf c_15), if_pos c_41]; exact ⟨rfl, hs45⟩)
  · refine lv_aload_n hx hb dX5_takesItem_18 rfl (lv_at hl 0 rfl) ?_
    refine md_cWi (As := []) (rest := []) C hP hS (met_takesView l dC dI dA n σ ab be ty ht ht6 p_ hp hat A hA mz hz0 hz6) card_takesView rfl rfl ⟨Nat.le_of_ble_eq_true rfl, Nat.le_of_ble_eq_true rfl⟩ hl.1 (Nat.le_of_ble_eq_true rfl) dX5_takesItem_19 (fun r19 s19 H locs hs19 hP hS => ?_)
    obtain ⟨er19, hs19⟩ := hs19
    refine rn_co er19 ?_
    exact md_rz C hr hlk (rv_nar _) hP hS dX5_takesItem_22 (by rw [rv_item, if_pos c_15]; exact ⟨rfl, hs19⟩)
theorem rv_rdl_s {T : Nat → Int32} {tl : Nat} : ∀ (k p : Nat) (A : Nat → Int32) (n : Int32), p ≤ tl → tl - p < k → ∀ k', tl - p < k' → rv_rdl T tl k p A n = rv_rdl T tl k' p A n
  | 0, _, _, _, _, h, _, _ => absurd h (Nat.not_lt_zero _)
  | k + 1, p, A, n, hp, h, 0, h' => absurd h' (Nat.not_lt_zero _)
  | k + 1, p, A, n, hp, h, k' + 1, h' => by
    rw [rv_rdl, rv_rdl]
    by_cases e : tkK T tl p = 0
    · rw [if_pos e, if_pos e]
    · rw [if_neg e, if_neg e]
      by_cases e1 : (rv_item T tl p A).1 = true
      · rw [if_pos e1, if_pos e1]
        by_cases e2 : tkK T tl (rv_item T tl p A).2.1 = 3
        · obtain ⟨i1, i2, -⟩ := rv_item_ok (T := T) (A := A) hp
          have i3 := i2 e1
          have i4 := tkN_b (T := T) i1
          have i5 := tkN_m (T := T) i1
          rw [if_pos e2, if_pos e2, rv_rdl_s k _ _ _ i4 (by omega) k' (by omega)]
        · rw [if_neg e2, if_neg e2]
      · rw [if_neg e1, if_neg e1]
theorem mdPz.q {σ σ1 u : mdT} {ty : Nat} {R : Bool × Nat × (Nat → Int32)} (h : mdPz σ1 ty R u) (g : (∀ a, a ≠ 13 → a ≠ 14 → a ≠ 15 → σ1 a = σ a) ∧ (∀ j, j ≠ 6 → j ≠ 7 → j ≠ 8 → j ≠ 9 → σ1 15 j = σ 15 j)) : (∀ a, a ≠ 13 → a ≠ 14 → a ≠ 15 → u a = σ a) ∧ (∀ j, j ≠ 6 → j ≠ 7 → j ≠ 8 → j ≠ 9 → u 15 j = σ 15 j) :=
  ⟨fun a h1 h2 h3 => (h.1 a h1 h2 h3).trans (g.1 a h1 h2 h3), fun j h6 h7 h8 h9 => (h.2.1 j h6 h7 h8 h9).trans (g.2 j h6 h7 h8 h9)⟩
theorem mdTk.q {σ σ1 u : mdT} (h : mdTk σ1 u) (g : (∀ a, a ≠ 13 → a ≠ 14 → a ≠ 15 → σ1 a = σ a) ∧ (∀ j, j ≠ 6 → j ≠ 7 → j ≠ 8 → j ≠ 9 → σ1 15 j = σ 15 j)) : (∀ a, a ≠ 13 → a ≠ 14 → a ≠ 15 → u a = σ a) ∧ (∀ j, j ≠ 6 → j ≠ 7 → j ≠ 8 → j ≠ 9 → u 15 j = σ 15 j) :=
  ⟨fun a h1 h2 h3 => (h.1 a h3).trans (g.1 a h1 h2 h3), fun j h6 h7 h8 h9 => (h.2 j h6 h7 h8 h9).trans (g.2 j h6 h7 h8 h9)⟩
theorem mdQ_of_q {σ u : mdT} (g : (∀ a, a ≠ 13 → a ≠ 14 → a ≠ 15 → u a = σ a) ∧ (∀ j, j ≠ 6 → j ≠ 7 → j ≠ 8 → j ≠ 9 → u 15 j = σ 15 j)) : mdQ σ u :=
  ⟨g.1 0 (by decide) (by decide) (by decide), g.1 1 (by decide) (by decide) (by decide), g.1 2 (by decide) (by decide) (by decide), g.1 3 (by decide) (by decide) (by decide), g.1 12 (by decide) (by decide) (by decide), g.2 5 (by decide) (by decide) (by decide) (by decide)⟩
theorem mdZ.q {σ u : mdT} {ty p : Nat} (h : mdZ σ ty p u) : (∀ a, a ≠ 13 → a ≠ 14 → a ≠ 15 → u a = σ a) ∧ (∀ j, j ≠ 6 → j ≠ 7 → j ≠ 8 → j ≠ 9 → u 15 j = σ 15 j) := ⟨fun a _ h2 h3 => h.1 a h2 h3, h.2.1⟩
set_option maxHeartbeats 4000000 in
theorem met_read (l : Launch) (dC : Nat → ClassId) (dI : Nat → Nat → Nat) (dA : Nat → ClassId) (n : Nat) (σ : mdT) (ab be : Int64) (ty : Nat) (ht : σ 15 5 = nI ty) (ht6 : ty ≤ 150) : Met l yX5_read (ws_ yX5_read cX5_read 3 (some .int)) { frames := 8, cells := 0, slots := 0, locals := 480 } (mdPc dC dI dA n σ ab be [.ref n]) (va_Qi (fun r_ u => r_ = (sp_read σ ).1 ∧ mdQ (sp_read σ ).2 u) (mdB dC dI dA n ab be) (mdA n)) 0 0 (mdA n) := by
  refine md_in (by decide) rfl (Nat.le_of_ble_eq_true rfl) (lv := [(0, .ref n)]) rfl ?_
  intro p e s m below meth c C hr hlk hP ls hl
  have hx := C.1
  have hb := C.2.1
  have hown := C.2.2.2.1
  have hts := C.2.2.2.2.1
  have hS : va_S (mdA n) s.heap s.heap [] := va_S.rf
  have hp0 : 0 ≤ ty := Nat.zero_le _
  obtain ⟨P1, e1⟩ : ∃ x, x = tkN (σ 12) ty 0 := ⟨_, rfl⟩
  have hP1 : P1 ≤ ty := by rw [e1]; exact tkN_b hp0
  obtain ⟨P2, e2⟩ : ∃ x, x = tkN (σ 12) ty P1 := ⟨_, rfl⟩
  have hP2 : P2 ≤ ty := by rw [e2]; exact tkN_b hP1
  have U0 : rv_read (σ 12) ty = if tkW (σ 12) ty 0 4 (rv_w6 (nI 115) (nI 104) (nI 111) (nI 112) (nI 0) (nI 0)) = true then (if tkK (σ 12) ty P1 = 3 then rv_rdl (σ 12) ty (ty - P2 + 1) P2 (fun _ => 0) 1 else ((-10) - nI (tkA (σ 12) ty P1), false, fun _ => 0)) else ((-10) - nI (tkA (σ 12) ty 0), false, fun _ => 0) := by rw [e2, e1]; rfl
  have V : sp_read σ = if (rv_read (σ 12) ty).2.1 = true then ((rv_read (σ 12) ty).1, mdN σ (fun k => if k < 115 then (rv_read (σ 12) ty).2.2 k else σ 0 k)) else ((rv_read (σ 12) ty).1, σ) := by rw [sp_read, ht, rv_cln (by omega)]
  have K106 : ∀ (k106_ : Nat) (it : Nat) (A : Nat → Int32) (i : Nat) (σ1 : mdT) (H : Heap) (locs : List Loc), 115 - i = k106_ → (rv_read (σ 12) ty = (nI it, true, A)) → (i ≤ 115) → (∀ k, k < 115 → σ1 13 k = A k) → (∀ k, σ1 0 k = if k < i then A k else σ 0 k) → (σ1 1 = σ 1 ∧ σ1 2 = σ 2 ∧ σ1 3 = σ 3 ∧ σ1 12 = σ 12 ∧ σ1 15 5 = σ 15 5) → mdP dC dI dA n σ1 ab be H → va_S (mdA n) s.heap H locs → ∀ ls, lv_has ls 3 [(0, .ref n), (1, .int (nI it)), (2, .int (nI i))] → W p l e { frames := 8, cells := 0, slots := 0, locals := 480 } s m [.ref n].toArray below meth c H locs 0 0 (MQ below (va_Qi (fun r_ u => r_ = (sp_read σ ).1 ∧ mdQ (sp_read σ ).2 u) (mdB dC dI dA n ab be) (mdA n)) [.ref n].toArray s 0 0 (mdA n)) (F0 m 106 ls []) := by
    intro k106_
    induction k106_ using Nat.strongRecOn with
    | _ k106_ ih106 =>
      intro it A i σ1 H locs hm106_ hR hi hA hN hq hP hS ls hl
      refine lv_iload_n hx hb dX5_read_106 rfl (lv_at hl 2 rfl) ?_
      refine lv_bipush (v := nI 115) hx hb dX5_read_107 rfl ?_
      refine rn_icmp_ge (tgt := 130) hx hb (by omega) (by omega) dX5_read_109 (by decide) (fun c_109 => ?_) (fun c_109 => ?_)
      · refine lv_iload_n hx hb dX5_read_130 rfl (lv_at hl 1 rfl) ?_
        exact md_ri C hr hlk hP hS dX5_read_131 (by have ei : i = 115 := (by omega); subst ei; rw [V, hR, if_pos rfl]; refine ⟨rfl, ?_, ?_, ?_, ?_, ?_, ?_⟩; exact funext hN; exact hq.1; exact hq.2.1; exact hq.2.2.1; exact hq.2.2.2.1; exact hq.2.2.2.2)
      · refine lv_aload_n hx hb dX5_read_112 rfl (lv_at hl 0 rfl) ?_
        refine md_g0 C hP dX5_read_113 ?_
        refine lv_iload_n hx hb dX5_read_116 rfl (lv_at hl 2 rfl) ?_
        refine lv_aload_n hx hb dX5_read_117 rfl (lv_at hl 0 rfl) ?_
        refine md_g25 C hP dX5_read_118 ?_
        refine lv_iload_n hx hb dX5_read_121 rfl (lv_at hl 2 rfl) ?_
        refine md_l13 C hP (by omega) dX5_read_122 ?_
        refine md_s0 C hP hS (by omega) dX5_read_123 (fun H locs hP hS => ?_)
        refine rn_iinc (lv' := [(2, .int (nI (i + 1))), (0, .ref n), (1, .int (nI it))]) hx hb dX5_read_124 hl (k := 2) rfl (by decide) rfl (fun ls hl => ?_)
        refine lv_goto (tgt := 106) hx hb dX5_read_127 (by decide) ?_
        exact ih106 _ (by omega) it A (i + 1) (mdS σ1 0 i (σ1 13 i)) _ _ rfl hR (by omega) (fun k hk => by rw [mdS_o _ (by decide)]; exact hA k hk) (fun k => by rw [mdS_at, hN k, hA i (by omega)]; clear ih106; grind) (by rw [mdS_row _ _ _ (by decide), mdS_row _ _ _ (by decide), mdS_row _ _ _ (by decide), mdS_row _ _ _ (by decide), mdS_row _ _ _ (by decide)]; exact hq) hP hS ls (lv_sub hl [1, 2, 0] rfl)
  have K64 : ∀ (k64_ : Nat) (p_ : Nat) (it : Nat) (A : Nat → Int32) (mz : Nat) (rz : Nat) (σ1 : mdT) (H : Heap) (locs : List Loc), ty - p_ = k64_ → ((∀ a, a ≠ 13 → a ≠ 14 → a ≠ 15 → σ1 a = σ a) ∧ (∀ j, j ≠ 6 → j ≠ 7 → j ≠ 8 → j ≠ 9 → σ1 15 j = σ 15 j)) → (mdAt (σ 12) ty p_ σ1) → (p_ ≤ ty) → (∀ k, k < 115 → σ1 13 k = A k) → (A 0 = nI mz) → (mz ≤ 6) → (A 1 = nI rz) → (rz ≤ 6) → (rv_read (σ 12) ty = rv_rdl (σ 12) ty (ty - p_ + 1) p_ A (nI it)) → mdP dC dI dA n σ1 ab be H → va_S (mdA n) s.heap H locs → ∀ ls, lv_has ls 3 [(0, .ref n), (1, .int (nI it))] → W p l e { frames := 8, cells := 0, slots := 0, locals := 480 } s m [.ref n].toArray below meth c H locs 0 0 (MQ below (va_Qi (fun r_ u => r_ = (sp_read σ ).1 ∧ mdQ (sp_read σ ).2 u) (mdB dC dI dA n ab be) (mdA n)) [.ref n].toArray s 0 0 (mdA n)) (F0 m 64 ls []) := by
    intro k64_
    induction k64_ using Nat.strongRecOn with
    | _ k64_ ih64 =>
      intro p_ it A mz rz σ1 H locs hm64_ hZ hat hp hA hA0 hmz hA1 hrz hR hP hS ls hl
      have e12 : σ1 12 = σ 12 := hZ.1 12 (by decide) (by decide) (by decide)
      have ht1 : σ1 15 5 = nI ty := (hZ.2 5 (by decide) (by decide) (by decide) (by decide)).trans ht
      have hat1 : mdAt (σ1 12) ty p_ σ1 := by rw [e12]; exact hat
      have hk5 := tkK_b (T := σ 12) (tl := ty) (p := p_)
      refine lv_aload_n hx hb dX5_read_64 rfl (lv_at hl 0 rfl) ?_
      refine md_g23 C hP dX5_read_65 ?_
      refine rn_co (y := nI (tkK (σ 12) ty p_)) hat.2.2.1 ?_
      refine rn_if_eq (tgt := 104) hx hb (by omega) dX5_read_68 (by decide) (fun c_68 => ?_) (fun c_68 => ?_)
      · refine lv_iconst (v := nI 0) hx hb dX5_read_104 rfl ?_
        refine lv_istore_n (lv' := [(2, .int (nI 0)), (0, .ref n), (1, .int (nI it))]) hx hb dX5_read_105 rfl hl (by decide) rfl (fun ls hl => ?_)
        exact K106 _ it A 0 σ1 _ _ rfl (by rw [hR, rv_rdl, if_pos c_68]) (by omega) hA (fun k => by rw [if_neg (by omega)]; exact congrFun (hZ.1 0 (by decide) (by decide) (by decide)) k) ⟨hZ.1 1 (by decide) (by decide) (by decide), hZ.1 2 (by decide) (by decide) (by decide), hZ.1 3 (by decide) (by decide) (by decide), hZ.1 12 (by decide) (by decide) (by decide), hZ.2 5 (by decide) (by decide) (by decide) (by decide)⟩ hP hS ls (lv_sub hl [1, 2, 0] rfl)
      · refine lv_aload_n hx hb dX5_read_71 rfl (lv_at hl 0 rfl) ?_
        refine md_cWi (As := []) (rest := []) C hP hS (met_takesItem l dC dI dA n σ1 ab be ty ht1 ht6 p_ hp hat1 A hA mz (by rw [hA 0 (by decide)]; exact hA0) hmz rz (by rw [hA 1 (by decide)]; exact hA1) hrz) card_takesItem rfl rfl ⟨Nat.le_of_ble_eq_true rfl, Nat.le_of_ble_eq_true rfl⟩ hl.1 (Nat.le_of_ble_eq_true rfl) dX5_read_72 (fun r72 s72 H locs hs72 hP hS => ?_)
        obtain ⟨er72, hs72⟩ := hs72
        refine rn_co er72 ?_
        have ha72 : mdAt (σ 12) ty (rv_item (σ 12) ty p_ A).2.1 s72 := by have h := hs72.2.2.2; rw [e12] at h; exact h
        rw [e12] at hs72
        refine rn_co (y := rb_i (rv_item (σ 12) ty p_ A).1) (by rw [e12]) ?_
        have hI := rv_item_ok (T := σ 12) (A := A) hp
        have hq72 := hs72.q hZ
        have e72 : s72 12 = σ 12 := hq72.1 12 (by decide) (by decide) (by decide)
        have ht72 : s72 15 5 = nI ty := (hq72.2 5 (by decide) (by decide) (by decide) (by decide)).trans ht
        have hat72 : mdAt (s72 12) ty (rv_item (σ 12) ty p_ A).2.1 s72 := by rw [e72]; exact ha72
        have hk6 := tkK_b (T := σ 12) (tl := ty) (p := (rv_item (σ 12) ty p_ A).2.1)
        have hRs : rv_rdl (σ 12) ty (ty - p_ + 1) p_ A (nI it) = if (rv_item (σ 12) ty p_ A).1 = true then (if tkK (σ 12) ty (rv_item (σ 12) ty p_ A).2.1 = 3 then rv_rdl (σ 12) ty (ty - p_) (tkN (σ 12) ty (rv_item (σ 12) ty p_ A).2.1) (rv_item (σ 12) ty p_ A).2.2 (nI it + 1) else ((-10) - nI (tkA (σ 12) ty (rv_item (σ 12) ty p_ A).2.1), false, A)) else ((-10) - nI (tkA (σ 12) ty (rv_item (σ 12) ty p_ A).2.1), false, A) := by rw [rv_rdl, if_neg c_68]
        refine rn_zt (tgt := 86) hx hb dX5_read_75 (by decide) (fun c_75 => ?_) (fun c_75 => ?_)
        · refine lv_bipush (v := (-10)) hx hb dX5_read_86 rfl ?_
          refine lv_aload_n hx hb dX5_read_88 rfl (lv_at hl 0 rfl) ?_
          refine md_g21 C hP dX5_read_89 ?_
          refine lv_isub hx hb dX5_read_92 ?_
          exact md_ri C hr hlk hP hS dX5_read_93 (by have h : rv_read (σ 12) ty = ((-10) - nI (tkA (σ 12) ty (rv_item (σ 12) ty p_ A).2.1), false, A) := (by rw [hR, hRs]; first | rw [if_neg (rv_nf c_75)] | rw [if_pos c_75, if_neg c_83]); rw [V, h, if_neg Bool.false_ne_true, ha72.1]; exact ⟨rfl, mdQ_of_q hq72⟩)
        · refine lv_aload_n hx hb dX5_read_78 rfl (lv_at hl 0 rfl) ?_
          refine md_g23 C hP dX5_read_79 ?_
          refine rn_co (y := nI (tkK (σ 12) ty (rv_item (σ 12) ty p_ A).2.1)) ha72.2.2.1 ?_
          refine lv_iconst (v := nI 3) hx hb dX5_read_82 rfl ?_
          refine rn_icmp_eq (tgt := 94) hx hb (by omega) (by omega) dX5_read_83 (by decide) (fun c_83 => ?_) (fun c_83 => ?_)
          · refine lv_aload_n hx hb dX5_read_94 rfl (lv_at hl 0 rfl) ?_
            refine md_cWv (As := []) (rest := []) C hP hS (met_goBehind l dC dI dA n s72 ab be ty ht72 ht6 ((rv_item (σ 12) ty p_ A).2.1) hI.1 hat72) card_goBehind rfl rfl ⟨Nat.le_of_ble_eq_true rfl, Nat.le_of_ble_eq_true rfl⟩ hl.1 (Nat.le_of_ble_eq_true rfl) dX5_read_95 (fun s95 H locs hs95 hP hS => ?_)
            obtain ⟨j1, j2⟩ := hs95
            rw [e72] at j2
            have hI3 := hI.2.1 c_75
            have hI4 := tkN_b (T := σ 12) hI.1
            have hI5 := tkN_m (T := σ 12) hI.1
            obtain ⟨⟨m2, hm2, hm26⟩, ⟨r2, hr2, hr26⟩⟩ := hI.2.2 mz rz hA0 hmz hA1 hrz
            refine rn_iinc (lv' := [(1, .int (nI (it + 1))), (0, .ref n)]) hx hb dX5_read_98 hl (k := 1) rfl (by decide) rfl (fun ls hl => ?_)
            refine lv_goto (tgt := 64) hx hb dX5_read_101 (by decide) ?_
            exact ih64 _ (by omega) (tkN (σ 12) ty (rv_item (σ 12) ty p_ A).2.1) (it + 1) ((rv_item (σ 12) ty p_ A).2.2) m2 r2 s95 _ _ rfl (j1.q hq72) j2 hI4 (fun k hk => by rw [j1.1 13 (by decide)]; exact hs72.2.2.1 k hk) hm2 hm26 hr2 hr26 (by rw [hR, hRs, if_pos c_75, if_pos c_83, nI_1]; exact rv_rdl_s _ _ _ _ hI4 (by omega) _ (by omega)) hP hS ls (lv_sub hl [1, 0] rfl)
          · refine lv_bipush (v := (-10)) hx hb dX5_read_86 rfl ?_
            refine lv_aload_n hx hb dX5_read_88 rfl (lv_at hl 0 rfl) ?_
            refine md_g21 C hP dX5_read_89 ?_
            refine lv_isub hx hb dX5_read_92 ?_
            exact md_ri C hr hlk hP hS dX5_read_93 (by have h : rv_read (σ 12) ty = ((-10) - nI (tkA (σ 12) ty (rv_item (σ 12) ty p_ A).2.1), false, A) := (by rw [hR, hRs]; first | rw [if_neg (rv_nf c_75)] | rw [if_pos c_75, if_neg c_83]); rw [V, h, if_neg Bool.false_ne_true, ha72.1]; exact ⟨rfl, mdQ_of_q hq72⟩)
  refine lv_aload_n hx hb dX5_read_0 rfl (lv_at hl 0 rfl) ?_
  refine lv_iconst (v := nI 0) hx hb dX5_read_1 rfl ?_
  refine md_cWv (As := [.int (nI 0)]) (rest := []) C hP hS (met_lookAt l dC dI dA n σ ab be 0 ty ht ht6 (by omega)) card_lookAt rfl rfl ⟨Nat.le_of_ble_eq_true rfl, Nat.le_of_ble_eq_true rfl⟩ hl.1 (Nat.le_of_ble_eq_true rfl) dX5_read_2 (fun s2 H locs hs2 hP hS => ?_)
  have hz0 := mdZ.go0 hs2
  have hk5 := tkK_b (T := σ 12) (tl := ty) (p := P1)
  refine lv_aload_n hx hb dX5_read_5 rfl (lv_at hl 0 rfl) ?_
  refine lv_iconst (v := nI 4) hx hb dX5_read_6 rfl ?_
  refine lv_bipush (v := nI 115) hx hb dX5_read_7 rfl ?_
  refine lv_bipush (v := nI 104) hx hb dX5_read_9 rfl ?_
  refine lv_bipush (v := nI 111) hx hb dX5_read_11 rfl ?_
  refine lv_bipush (v := nI 112) hx hb dX5_read_13 rfl ?_
  refine lv_iconst (v := nI 0) hx hb dX5_read_15 rfl ?_
  refine lv_iconst (v := nI 0) hx hb dX5_read_16 rfl ?_
  refine md_cSe (As := [.int (nI 4), .int (nI 115), .int (nI 104), .int (nI 111), .int (nI 112), .int (nI 0), .int (nI 0)]) (rest := []) C hP (met_isCalled l dC dI dA n s2 ab be 4 (nI 115) (nI 104) (nI 111) (nI 112) (nI 0) (nI 0) ty (hz0.t ht) ht6 0 hp0 hz0.at (by omega)) card_isCalled rfl rfl ⟨Nat.le_of_ble_eq_true rfl, Nat.le_of_ble_eq_true rfl⟩ hl.1 (Nat.le_of_ble_eq_true rfl) dX5_read_17 ?_
  refine rn_zf (tgt := 31) hx hb dX5_read_20 (by decide) (fun c_20 => ?_) (fun c_20 => ?_)
  · refine lv_aload_n hx hb dX5_read_31 rfl (lv_at hl 0 rfl) ?_
    refine md_cWv (As := []) (rest := []) C hP hS (met_goBehind l dC dI dA n s2 ab be ty (hz0.t ht) ht6 0 hp0 hz0.at) card_goBehind rfl rfl ⟨Nat.le_of_ble_eq_true rfl, Nat.le_of_ble_eq_true rfl⟩ hl.1 (Nat.le_of_ble_eq_true rfl) dX5_read_32 (fun s32 H locs hs32 hP hS => ?_)
    obtain ⟨g1, g2⟩ := hs32
    rw [hz0.e12, ← e1] at g2
    have hz1 : mdZ σ ty P1 s32 := ⟨fun a h1 h2 => (g1.1 a h2).trans (hz0.1 a h1 h2), fun j h6 h7 h8 h9 => (g1.2 j h6 h7 h8 h9).trans (hz0.2.1 j h6 h7 h8 h9), g2⟩
    refine lv_aload_n hx hb dX5_read_35 rfl (lv_at hl 0 rfl) ?_
    refine md_g23 C hP dX5_read_36 ?_
    refine rn_co (y := nI (tkK (σ 12) ty P1)) hz1.2.2.2.2.1 ?_
    refine lv_iconst (v := nI 3) hx hb dX5_read_39 rfl ?_
    refine rn_icmp_eq (tgt := 51) hx hb (by omega) (by omega) dX5_read_40 (by decide) (fun c_40 => ?_) (fun c_40 => ?_)
    · refine lv_aload_n hx hb dX5_read_51 rfl (lv_at hl 0 rfl) ?_
      refine md_cWv (As := []) (rest := []) C hP hS (met_goBehind l dC dI dA n s32 ab be ty (hz1.t ht) ht6 P1 hP1 hz1.at) card_goBehind rfl rfl ⟨Nat.le_of_ble_eq_true rfl, Nat.le_of_ble_eq_true rfl⟩ hl.1 (Nat.le_of_ble_eq_true rfl) dX5_read_52 (fun s52 H locs hs52 hP hS => ?_)
      obtain ⟨q1, q2⟩ := hs52
      rw [hz1.e12, ← e2] at q2
      have hz2 : mdZ σ ty P2 s52 := ⟨fun a h1 h2 => (q1.1 a h2).trans (hz1.1 a h1 h2), fun j h6 h7 h8 h9 => (q1.2 j h6 h7 h8 h9).trans (hz1.2.1 j h6 h7 h8 h9), q2⟩
      have hR : rv_read (σ 12) ty = rv_rdl (σ 12) ty (ty - P2 + 1) P2 (fun _ => 0) 1 := by rw [U0, if_pos (by rw [← hz0.e12]; exact c_20), if_pos c_40]
      refine lv_aload_n hx hb dX5_read_55 rfl (lv_at hl 0 rfl) ?_
      refine md_g25 C hP dX5_read_56 ?_
      refine md_sWve (As := [.ref (n + 14)]) (rest := []) C hP hS (met_begin_13 l dC dI dA n s52 ab be) card_begin rfl rfl ⟨Nat.le_of_ble_eq_true rfl, Nat.le_of_ble_eq_true rfl⟩ hl.1 (Nat.le_of_ble_eq_true rfl) dX5_read_59 (fun H locs hP hS => ?_)
      refine lv_iconst (v := nI 1) hx hb dX5_read_62 rfl ?_
      refine lv_istore_n (lv' := [(1, .int (nI 1)), (0, .ref n)]) hx hb dX5_read_63 rfl hl (by decide) rfl (fun ls hl => ?_)
      exact K64 _ P2 1 (fun _ => 0) 0 0 (md_begin s52 13 115) _ _ rfl ⟨fun a a13 a14 a15 => by rw [md_begin, va_up_ne _ _ a13]; exact hz2.1 a a14 a15, fun j h6 h7 h8 h9 => by rw [md_begin, va_up_ne _ _ (by decide)]; exact hz2.2.1 j h6 h7 h8 h9⟩ (by obtain ⟨b1, b2, b3, b4⟩ := hz2.2.2; refine ⟨?_, ?_, ?_, ?_⟩ <;> rw [md_begin, va_up_ne _ _ (by decide)] <;> assumption) hP2 (fun k hk => by rw [md_begin, va_up_self]; exact if_pos hk) rfl (by omega) rfl (by omega) hR hP hS ls (lv_sub hl [1, 0] rfl)
    · refine lv_bipush (v := (-10)) hx hb dX5_read_43 rfl ?_
      refine lv_aload_n hx hb dX5_read_45 rfl (lv_at hl 0 rfl) ?_
      refine md_g21 C hP dX5_read_46 ?_
      refine lv_isub hx hb dX5_read_49 ?_
      exact md_ri C hr hlk hP hS dX5_read_50 (by have h : rv_read (σ 12) ty = ((-10) - nI (tkA (σ 12) ty P1), false, fun _ => 0) := (by rw [U0, if_pos (by rw [← hz0.e12]; exact c_20), if_neg c_40]); rw [V, h, if_neg Bool.false_ne_true, hz1.2.2.1]; exact ⟨rfl, mdQ_of_q hz1.q⟩)
  · refine lv_bipush (v := (-10)) hx hb dX5_read_23 rfl ?_
    refine lv_aload_n hx hb dX5_read_25 rfl (lv_at hl 0 rfl) ?_
    refine md_g21 C hP dX5_read_26 ?_
    refine lv_isub hx hb dX5_read_29 ?_
    exact md_ri C hr hlk hP hS dX5_read_30 (by have h : rv_read (σ 12) ty = ((-10) - nI (tkA (σ 12) ty 0), false, fun _ => 0) := (by rw [U0, if_neg (rv_nf (by rw [← hz0.e12]; exact c_20))]); rw [V, h, if_neg Bool.false_ne_true, hz0.2.2.1]; exact ⟨rfl, mdQ_of_q hz0.q⟩)
