set_option maxRecDepth 100000
/-! the component: words, what is wanted -/
theorem xkv_X3_43 : xKV RX3 yJ2_length cJ2_length 1 (some .int) 43 0 := ⟨q529, q530, q531, q76, q532, by decide +kernel⟩
theorem xkv_X3_48 : xKV RX3 yJ2_charAt cJ2_charAt 2 (some .char) 48 1 := ⟨q539, q540, q541, q76, q542, by decide +kernel⟩
theorem rk4 {k : Nat} (h : k < 5) : rk k = 4 ↔ k = 1 := by
  unfold rk; match k, h with | 0, _ => simp | 1, _ => simp | 2, _ => simp | 3, _ => simp | 4, _ => simp
theorem rk2 {k : Nat} (h : k < 5) : rk k = 2 ↔ k = 2 := by
  unfold rk; match k, h with | 0, _ => simp | 1, _ => simp | 2, _ => simp | 3, _ => simp | 4, _ => simp
theorem rk0 {k : Nat} (h : k < 5) : rk k = 0 ↔ k = 0 := by
  unfold rk; match k, h with | 0, _ => simp | 1, _ => simp | 2, _ => simp | 3, _ => simp | 4, _ => simp
theorem rk3 {k : Nat} (h : k < 5) : rk k = 3 ↔ k = 3 := by
  unfold rk; match k, h with | 0, _ => simp | 1, _ => simp | 2, _ => simp | 3, _ => simp | 4, _ => simp
theorem rk_b {k : Nat} (h : k < 5) : rk k < 5 := by
  unfold rk; match k, h with | 0, _ => simp | 1, _ => simp | 2, _ => simp | 3, _ => simp | 4, _ => simp
theorem xZr.at {n z : Nat} {adK adV : Nat → Nat} {fm us sb : Nat} {U : State} {H H1 : Heap} {locs : List Loc} (h : xZr n adK adV fm us sb U H) (hS : va_S (fun q => bkA n 96 q ∨ z ≤ q) H H1 locs) (hnz : n ≤ z) : xZr n adK adV fm us sb U H1 :=
  h.kept (fun a ha hn => hS.2.1 a ha (fun y => hn (y.elim (fun y => y.1) (fun y => Nat.le_trans hnz y))))
theorem va_S.n96 {n z : Nat} {H H1 : Heap} {locs : List Loc} (hS : va_S (fun q => bkA n 96 q ∨ z ≤ q) H H1 locs) (hnz : n ≤ z) : va_S (fun q => n ≤ q) H H1 locs :=
  ⟨hS.1, fun q h1 h2 => hS.2.1 q h1 (fun y => h2 (y.elim (fun y => y.1) (fun y => Nat.le_trans hnz y))), fun l hl => (hS.2.2 l hl).elim (fun y => y.1) (fun y => Nat.le_trans hnz y)⟩
theorem x_okC {G : Prop} (b : Bool) (hf : b = false → G) (ht : b = true → G) : G := by cases b with | false => exact hf rfl | true => exact ht rfl
set_option maxHeartbeats 1000000 in
theorem x_X3_isWord (l : Launch) (dC : Nat → ClassId) (dI : Nat → Nat → Nat) (dA : Nat → ClassId) (n : Nat) (ξ : mdT) (V : Nat → Option Nat) (V2 : Nat → Option Nat) (im : Nat → Option Nat) (ab : Int64) (be : Int64) (adK adV : Nat → Nat) (fm us sb : Nat) (ty : Nat) (ht : ξ 0 0 = nI ty) (ht6 : ty ≤ 150) (tx : Nat → Int32) (hT : ∀ k_, k_ < ty → ξ 88 k_ = tx k_) (p_ : Nat) (hp : p_ ≤ ty) (hat : rdAt tx ty p_ ξ) (i : Nat) (hi : i < 4) : Met l yX3_isWord (ws_ yX3_isWord cX3_isWord 4 (some .boolean)) { frames := 5, cells := 0, slots := 0, locals := 300 } (xPz dC dI dA (xZr n adK adV fm us sb) (bkP dC dI n 96 (xE dA n ξ V V2 im ab be)) [.ref (n + 90), .ref (adK i)]) (vp_Si (fun r_ => r_ = (rb_i (tkW tx ty p_ (lnW i) (chW i))))) 0 0 (fun _ => False) := by
  refine x_inZ (by decide) rfl (Nat.le_of_ble_eq_true rfl) (lv := [(0, .ref (n + 90)), (1, .ref (adK i))]) rfl ?_
  intro p e s m below meth c_ X hN hnm hr hlk hP hZs ls hl
  have hb1 := (tkL_b (T := tx) hp).1
  have hb2 := tkA_b (T := tx) hp
  have hk5 := tkK_b (T := tx) (tl := ty) (p := p_)
  have hb6 := lnW_b i hi
  have hrk := rk_b hk5
  obtain ⟨A_, eA⟩ : ∃ x, x = tkA tx ty p_ := ⟨_, rfl⟩
  have hatA : ξ 90 1 = nI A_ := by rw [eA]; exact hat.2.1
  have hatN : ξ 90 0 = nI (A_ + tkL tx ty p_) := by rw [eA]; exact hat.1
  have K32 : ∀ (k32_ : Nat) (b_ : Bool) (k : Nat), lnW i - k = k32_ → (k ≤ lnW i) → (b_ = true → tkL tx ty p_ = lnW i) → (b_ = ((decide (tkK tx ty p_ = 1) && decide (tkL tx ty p_ = lnW i)) && rv_eqw tx A_ (chW i) k)) → ∀ ls, lv_has ls 4 [(0, .ref (n + 90)), (1, .ref (adK i)), (2, .int (rb_i b_)), (3, .int (nI k))] → W p l e { frames := 5, cells := 0, slots := 0, locals := 300 } s m [.ref (n + 90), .ref (adK i)].toArray below meth c_ s.heap [] 0 0 (MQ below (vp_Si (fun r_ => r_ = (rb_i (tkW tx ty p_ (lnW i) (chW i))))) [.ref (n + 90), .ref (adK i)].toArray s 0 0 (fun _ => False)) (F0 m 32 ls []) := by
    intro k32_
    induction k32_ using Nat.strongRecOn with
    | _ k32_ ih32 =>
      intro b_ k hm32_ hk hbb hb_ ls hl
      refine lv_iload_n X.1 X.2.1 dX3_isWord_32 rfl (lv_at hl 3 rfl) ?_
      refine lv_aload_n X.1 X.2.1 dX3_isWord_33 rfl (lv_at hl 1 rfl) ?_
      refine x_cSe (x_runVW (xZr_w n adK adV fm us sb) X hN trivial hZs (As := []) (rest := [.int (nI k)]) (st_J2_length l dC dI dA n adK adV fm us sb i hi) xkv_X3_43 (vk_recv hZs.1 hi va_S.rf) rfl rfl ⟨Nat.le_of_ble_eq_true rfl, Nat.le_of_ble_eq_true rfl⟩ hl.1 (Nat.le_of_ble_eq_true rfl) dX3_isWord_34 ⟨Nat.le_of_ble_eq_true rfl, Nat.le_of_ble_eq_true rfl⟩) ?_
      refine rn_icmp_ge (tgt := 78) X.1 X.2.1 (by omega) (by omega) dX3_isWord_37 (by decide) (fun c_37 => ?_) (fun c_37 => ?_)
      · refine lv_iload_n X.1 X.2.1 dX3_isWord_78 rfl (lv_at hl 2 rfl) ?_
        exact rv_rz X.1 X.2.1 hr hlk (rv_nar _) dX3_isWord_79 (by first | (rw [tkW, ← eA, hb_, show k = lnW i by omega]; done) | (rw [tkW, ← eA]; have hf : b_ = false := c_41; rw [hf]; rw [hf] at hb_; exact (congrArg rb_i (tkW_f hb_.symm (by omega))).symm))
      · refine lv_iload_n X.1 X.2.1 dX3_isWord_40 rfl (lv_at hl 2 rfl) ?_
        refine rn_zt (tgt := 78) X.1 X.2.1 dX3_isWord_41 (by decide) (fun c_41 => ?_) (fun c_41 => ?_)
        · refine lv_iload_n X.1 X.2.1 dX3_isWord_78 rfl (lv_at hl 2 rfl) ?_
          exact rv_rz X.1 X.2.1 hr hlk (rv_nar _) dX3_isWord_79 (by first | (rw [tkW, ← eA, hb_, show k = lnW i by omega]; done) | (rw [tkW, ← eA]; have hf : b_ = false := c_41; rw [hf]; rw [hf] at hb_; exact (congrArg rb_i (tkW_f hb_.symm (by omega))).symm))
        · refine lv_aload_n X.1 X.2.1 dX3_isWord_44 rfl (lv_at hl 1 rfl) ?_
          refine lv_iload_n X.1 X.2.1 dX3_isWord_45 rfl (lv_at hl 3 rfl) ?_
          refine x_cSe (x_runVW (xZr_w n adK adV fm us sb) X hN trivial hZs (As := [.int (nI k)]) (rest := []) (st_J2_charAt l dC dI dA n adK adV fm us sb i hi k (by omega)) xkv_X3_48 (vk_recv hZs.1 hi va_S.rf) rfl rfl ⟨Nat.le_of_ble_eq_true rfl, Nat.le_of_ble_eq_true rfl⟩ hl.1 (Nat.le_of_ble_eq_true rfl) dX3_isWord_46 ⟨Nat.le_of_ble_eq_true rfl, Nat.le_of_ble_eq_true rfl⟩) ?_
          refine lv_aload_n X.1 X.2.1 dX3_isWord_49 rfl (lv_at hl 0 rfl) ?_
          refine xb_get (C := RX3) (T := TX3) (v := .ref n) X in_X3 (ci := 3) rfl hP (j := 90) (by decide) (xe_x90 ..) 5 (by decide) q200 rfl rfl dX3_isWord_50 ?_
          refine xb_getN (host := "RentedViews") (C := RX0) (T := TX0) (v := .ref (n + 88)) X in_X0 (ci := 0) rfl hP (j := 0) (by decide) (xe_x0 ..) 3 (by decide) (x_nest hN q252 rfl) rfl rfl dX3_isWord_53 ?_
          refine lv_aload_n X.1 X.2.1 dX3_isWord_56 rfl (lv_at hl 0 rfl) ?_
          refine xb_get (C := RX3) (T := TX3) (v := .int (ξ 90 1)) X in_X3 (ci := 3) rfl hP (j := 90) (by decide) (xe_x90 ..) 1 (by decide) q196 rfl rfl dX3_isWord_57 ?_
          refine rn_co (y := nI A_) hatA ?_
          refine lv_iload_n X.1 X.2.1 dX3_isWord_60 rfl (lv_at hl 3 rfl) ?_
          refine rn_iadd X.1 X.2.1 dX3_isWord_61 ?_
          refine xb_bald X hP (j := 88) (by decide) (n := 150) (f := ξ 88) rfl (by have := hbb c_41; omega) (by decide) dX3_isWord_62 ?_
          refine lv_icmp_ne (tgt := 70) X.1 X.2.1 dX3_isWord_63 (by decide) (fun (c_63 : ¬ chW i k = ξ 88 (A_ + k)) => ?_) (fun (c_63 : chW i k = ξ 88 (A_ + k)) => ?_)
          · refine lv_iconst (v := nI 0) X.1 X.2.1 dX3_isWord_70 rfl ?_
            refine lv_istore_n (lv' := [(2, .int (nI 0)), (0, .ref (n + 90)), (1, .ref (adK i)), (3, .int (nI k))]) X.1 X.2.1 dX3_isWord_71 rfl hl (by decide) rfl (fun ls hl => ?_)
            refine rn_iinc (lv' := [(3, .int (nI (k + 1))), (2, .int (nI 0)), (0, .ref (n + 90)), (1, .ref (adK i))]) X.1 X.2.1 dX3_isWord_72 hl (k := 3) rfl (by decide) rfl (fun ls hl => ?_)
            refine lv_goto (tgt := 32) X.1 X.2.1 dX3_isWord_75 (by decide) ?_
            exact ih32 _ (by omega) false (k + 1) rfl (by omega) (fun _ => hbb c_41) (by have hlt : A_ + k < ty := (by have := hbb c_41; omega); rw [rv_eqw, ← Bool.and_assoc, ← hb_, c_41, Bool.true_and, ← hT _ hlt]; first | exact (decide_eq_true c_63.symm).symm | exact (decide_eq_false (fun z => c_63 z.symm)).symm) ls (lv_sub hl [2, 3, 1, 0] rfl)
          · refine lv_iconst (v := nI 1) X.1 X.2.1 dX3_isWord_66 rfl ?_
            refine lv_goto (tgt := 71) X.1 X.2.1 dX3_isWord_67 (by decide) ?_
            refine lv_istore_n (lv' := [(2, .int (nI 1)), (0, .ref (n + 90)), (1, .ref (adK i)), (3, .int (nI k))]) X.1 X.2.1 dX3_isWord_71 rfl hl (by decide) rfl (fun ls hl => ?_)
            refine rn_iinc (lv' := [(3, .int (nI (k + 1))), (2, .int (nI 1)), (0, .ref (n + 90)), (1, .ref (adK i))]) X.1 X.2.1 dX3_isWord_72 hl (k := 3) rfl (by decide) rfl (fun ls hl => ?_)
            refine lv_goto (tgt := 32) X.1 X.2.1 dX3_isWord_75 (by decide) ?_
            exact ih32 _ (by omega) true (k + 1) rfl (by omega) (fun _ => hbb c_41) (by have hlt : A_ + k < ty := (by have := hbb c_41; omega); rw [rv_eqw, ← Bool.and_assoc, ← hb_, c_41, Bool.true_and, ← hT _ hlt]; first | exact (decide_eq_true c_63.symm).symm | exact (decide_eq_false (fun z => c_63 z.symm)).symm) ls (lv_sub hl [2, 3, 1, 0] rfl)
  refine lv_aload_n X.1 X.2.1 dX3_isWord_0 rfl (lv_at hl 0 rfl) ?_
  refine xb_get (C := RX3) (T := TX3) (v := .int (ξ 90 2)) X in_X3 (ci := 3) rfl hP (j := 90) (by decide) (xe_x90 ..) 2 (by decide) q197 rfl rfl dX3_isWord_1 ?_
  refine rn_co (y := nI (rk (tkK tx ty p_))) hat.2.2.1 ?_
  refine lv_iconst (v := nI 4) X.1 X.2.1 dX3_isWord_4 rfl ?_
  refine rn_icmp_ne (tgt := 28) X.1 X.2.1 (by omega) (by omega) dX3_isWord_5 (by decide) (fun c_5 => ?_) (fun c_5 => ?_)
  · refine lv_iconst (v := nI 0) X.1 X.2.1 dX3_isWord_28 rfl ?_
    refine lv_istore_n (lv' := [(2, .int (nI 0)), (0, .ref (n + 90)), (1, .ref (adK i))]) X.1 X.2.1 dX3_isWord_29 rfl hl (by decide) rfl (fun ls hl => ?_)
    refine lv_iconst (v := nI 0) X.1 X.2.1 dX3_isWord_30 rfl ?_
    refine lv_istore_n (lv' := [(3, .int (nI 0)), (2, .int (nI 0)), (0, .ref (n + 90)), (1, .ref (adK i))]) X.1 X.2.1 dX3_isWord_31 rfl hl (by decide) rfl (fun ls hl => ?_)
    exact K32 _ false 0 rfl (by omega) (fun z => by first | omega | exact absurd z (by decide)) (by first | (rw [decide_eq_true ((rk4 hk5).mp c_5), decide_eq_true (show tkL tx ty p_ = lnW i by omega)]; rfl) | (rw [decide_eq_false (show ¬ tkL tx ty p_ = lnW i by omega), Bool.and_false]; rfl) | (rw [decide_eq_false (fun z => c_5 ((rk4 hk5).mpr z))]; rfl)) ls (lv_sub hl [2, 3, 1, 0] rfl)
  · refine lv_aload_n X.1 X.2.1 dX3_isWord_8 rfl (lv_at hl 1 rfl) ?_
    refine x_cSe (x_runVW (xZr_w n adK adV fm us sb) X hN trivial hZs (As := []) (rest := []) (st_J2_length l dC dI dA n adK adV fm us sb i hi) xkv_X3_43 (vk_recv hZs.1 hi va_S.rf) rfl rfl ⟨Nat.le_of_ble_eq_true rfl, Nat.le_of_ble_eq_true rfl⟩ hl.1 (Nat.le_of_ble_eq_true rfl) dX3_isWord_9 ⟨Nat.le_of_ble_eq_true rfl, Nat.le_of_ble_eq_true rfl⟩) ?_
    refine lv_aload_n X.1 X.2.1 dX3_isWord_12 rfl (lv_at hl 0 rfl) ?_
    refine xb_get (C := RX3) (T := TX3) (v := .int (ξ 90 0)) X in_X3 (ci := 3) rfl hP (j := 90) (by decide) (xe_x90 ..) 0 (by decide) q195 rfl rfl dX3_isWord_13 ?_
    refine rn_co (y := nI (A_ + tkL tx ty p_)) hatN ?_
    refine lv_aload_n X.1 X.2.1 dX3_isWord_16 rfl (lv_at hl 0 rfl) ?_
    refine xb_get (C := RX3) (T := TX3) (v := .int (ξ 90 1)) X in_X3 (ci := 3) rfl hP (j := 90) (by decide) (xe_x90 ..) 1 (by decide) q196 rfl rfl dX3_isWord_17 ?_
    refine rn_co (y := nI A_) hatA ?_
    refine rn_isub X.1 X.2.1 (by omega) dX3_isWord_20 ?_
    refine rn_icmp_ne (tgt := 28) X.1 X.2.1 (by omega) (by omega) dX3_isWord_21 (by decide) (fun c_21 => ?_) (fun c_21 => ?_)
    · refine lv_iconst (v := nI 0) X.1 X.2.1 dX3_isWord_28 rfl ?_
      refine lv_istore_n (lv' := [(2, .int (nI 0)), (0, .ref (n + 90)), (1, .ref (adK i))]) X.1 X.2.1 dX3_isWord_29 rfl hl (by decide) rfl (fun ls hl => ?_)
      refine lv_iconst (v := nI 0) X.1 X.2.1 dX3_isWord_30 rfl ?_
      refine lv_istore_n (lv' := [(3, .int (nI 0)), (2, .int (nI 0)), (0, .ref (n + 90)), (1, .ref (adK i))]) X.1 X.2.1 dX3_isWord_31 rfl hl (by decide) rfl (fun ls hl => ?_)
      exact K32 _ false 0 rfl (by omega) (fun z => by first | omega | exact absurd z (by decide)) (by first | (rw [decide_eq_true ((rk4 hk5).mp c_5), decide_eq_true (show tkL tx ty p_ = lnW i by omega)]; rfl) | (rw [decide_eq_false (show ¬ tkL tx ty p_ = lnW i by omega), Bool.and_false]; rfl) | (rw [decide_eq_false (fun z => c_5 ((rk4 hk5).mpr z))]; rfl)) ls (lv_sub hl [2, 3, 1, 0] rfl)
    · refine lv_iconst (v := nI 1) X.1 X.2.1 dX3_isWord_24 rfl ?_
      refine lv_goto (tgt := 29) X.1 X.2.1 dX3_isWord_25 (by decide) ?_
      refine lv_istore_n (lv' := [(2, .int (nI 1)), (0, .ref (n + 90)), (1, .ref (adK i))]) X.1 X.2.1 dX3_isWord_29 rfl hl (by decide) rfl (fun ls hl => ?_)
      refine lv_iconst (v := nI 0) X.1 X.2.1 dX3_isWord_30 rfl ?_
      refine lv_istore_n (lv' := [(3, .int (nI 0)), (2, .int (nI 1)), (0, .ref (n + 90)), (1, .ref (adK i))]) X.1 X.2.1 dX3_isWord_31 rfl hl (by decide) rfl (fun ls hl => ?_)
      exact K32 _ true 0 rfl (by omega) (fun z => by first | omega | exact absurd z (by decide)) (by first | (rw [decide_eq_true ((rk4 hk5).mp c_5), decide_eq_true (show tkL tx ty p_ = lnW i by omega)]; rfl) | (rw [decide_eq_false (show ¬ tkL tx ty p_ = lnW i by omega), Bool.and_false]; rfl) | (rw [decide_eq_false (fun z => c_5 ((rk4 hk5).mpr z))]; rfl)) ls (lv_sub hl [2, 3, 1, 0] rfl)
/-- a Fault that says where -/
abbrev xEf (dC : Nat → ClassId) (dI : Nat → Nat → Nat) (P : Heap → Prop) (pl : Int32) (x : Nat) (H : Heap) : Prop := P H ∧ ftP dC dI x (ft0 pl) H
theorem x_X3_wants (l : Launch) (dC : Nat → ClassId) (dI : Nat → Nat → Nat) (dA : Nat → ClassId) (n : Nat) (ξ : mdT) (V : Nat → Option Nat) (V2 : Nat → Option Nat) (im : Nat → Option Nat) (ab : Int64) (be : Int64) (adK adV : Nat → Nat) (fm us sb : Nat) (z : Nat) (b : Bool) : MetT l yX3_wants (ws_ yX3_wants cX3_wants 2 none) { frames := 4, cells := 1, slots := 7, locals := 240 } (xPz dC dI dA (xZr n adK adV fm us sb) (fun H => bkP dC dI n 96 (xE dA n ξ V V2 im ab be) H ∧ z ≤ H.size) [.ref (n + 90), .int (rb_i b)]) (xQT b (xEv (bkP dC dI n 96 (xE dA n ξ V V2 im ab be)) (fun q => bkA n 96 q ∨ z ≤ q)) (xEf dC dI (bkP dC dI n 96 (xE dA n ξ V V2 im ab be)) (ξ 90 1)) (fun q => bkA n 96 q ∨ z ≤ q)) 1 7 (fun q => bkA n 96 q ∨ z ≤ q) := by
  refine x_inT (by decide) rfl (Nat.le_of_ble_eq_true rfl) (lv := [(0, .ref (n + 90)), (1, .int (rb_i b))]) rfl ?_
  intro p e s m below meth c_ X hN hnm hr hlk hne hP hZs ls hl
  obtain ⟨hP, hz0⟩ := hP
  have hS : va_S (fun q => bkA n 96 q ∨ z ≤ q) s.heap s.heap [] := va_S.rf
  have hn96 : n + 95 < s.heap.size := bk_sz hP ⟨by omega, by omega⟩
  refine lv_iload_n X.1 X.2.1 dX3_wants_0 rfl (lv_at hl 1 rfl) ?_
  refine rn_zf (tgt := 16) X.1 X.2.1 dX3_wants_1 (by decide) (fun c_1 => ?_) (fun c_1 => ?_)
  · refine W.pad (cells2 := 1) (slots2 := 7) (Nat.le_of_ble_eq_true rfl) (Nat.le_of_ble_eq_true rfl) ?_
    exact W.monoT c_1 (x_rv () X hr hlk hS dX3_wants_16 trivial hP)
  · have hE : bkP dC dI s.heap.size 0 (fun _ => vwE 0 0 0 0) s.heap := fun j hj => absurd hj (by omega)
    refine xb_new (C := RX12) (T := TX12) (NN := 7) (ci := 12) X in_X12 tyX12 tyX12_ok rfl q457 q458 q75 hE rfl hS (fs := ft0 0) (fun j hj => match j, hj with | 0, _ => rfl | 1, _ => rfl | 2, _ => rfl | 3, _ => rfl | 4, _ => rfl | 5, _ => rfl | 6, _ => rfl) (Nat.le_of_ble_eq_true rfl) (Nat.le_of_ble_eq_true rfl) dX3_wants_4 (fun H1 hB hz1 ho1 hS => ?_)
    have hV : ftP dC dI s.heap.size (ft0 0) H1 := by have := hB 0 (by decide); rw [va_up_self] at this; exact this
    have hP1 : bkP dC dI n 96 (xE dA n ξ V V2 im ab be) H1 := bkP.kept hP (fun q hq => ho1 q (bk_sz hP hq))
    refine lv_dup X.1 X.2.1 dX3_wants_7 rfl ?_
    refine lv_aload_n X.1 X.2.1 dX3_wants_8 rfl (lv_at hl 0 rfl) ?_
    refine xb_get (C := RX3) (T := TX3) (v := .int (ξ 90 1)) X in_X3 (ci := 3) rfl hP1 (j := 90) (by decide) (xe_x90 ..) 1 (by decide) q196 rfl rfl dX3_wants_9 ?_
    refine x_cWv (x_runIW (xZr_w n adK adV fm us sb) X hN hV (hZs.kept (fun q hq _ => ho1 q hq)) (As := [.int (ξ 90 1)]) (rest := [.ref s.heap.size]) (fi_X12 l dC dI dA n adK adV fm us sb s.heap.size (by omega) (ξ 90 1)) xki_X3_54 rfl rfl ⟨Nat.le_of_ble_eq_true rfl, Nat.le_of_ble_eq_true rfl⟩ hl.1 (Nat.le_of_ble_eq_true rfl) dX3_wants_12 ⟨Nat.le_of_ble_eq_true rfl, Nat.le_of_ble_eq_true rfl⟩) hS (fun q h => Or.inr (by rw [h]; exact hz0)) (fun q h => Or.inr (by rw [h]; exact hz0)) (fun _ H2 locs2 _ hV2 hz2 hk2 hS => ?_)
    have hP2 : bkP dC dI n 96 (xE dA n ξ V V2 im ab be) H2 := bkP.kept hP1 (fun q hq => hk2 q (bk_sz hP1 hq) (by have h9 := bk_sz hP hq; omega))
    exact x_athrow X hne hlk hS c_1 ⟨hP2, hV2⟩ (Nat.le_of_ble_eq_true rfl) (Nat.le_of_ble_eq_true rfl) dX3_wants_15
