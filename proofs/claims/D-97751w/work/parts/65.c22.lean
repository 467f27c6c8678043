set_option maxRecDepth 100000
/-! the component: the reader -/
theorem xkv_X3_26 : xKV RX3 yX3_isAt cX3_isAt 3 (some .boolean) 26 2 := ⟨q445, q447, qs5, q64, q448, by decide +kernel⟩
theorem xkv_X3_36 : xKV RX3 yX3_number cX3_number 2 (some .int) 36 0 := ⟨q449, q451, qs6, q64, q452, by decide +kernel⟩
/-- token kinds: the Model's to the component's -/
def rk (k : Nat) : Nat := if k = 1 then 4 else if k = 4 then 1 else k
def rdFr (ξ u : mdT) : Prop := (∀ a, a ≠ 90 → u a = ξ a) ∧ ∀ j, 4 ≤ j → u 90 j = ξ 90 j
theorem rdFr.rf (ξ : mdT) : rdFr ξ ξ := ⟨fun _ _ => rfl, fun _ _ => rfl⟩
theorem rdFr.S {ξ u : mdT} (h : rdFr ξ u) {k : Nat} (v : Int32) (hk : k < 4) : rdFr ξ (mdS u 90 k v) :=
  ⟨fun a ha => by rw [mdS_row _ _ _ ha]; exact h.1 a ha, fun j hj => by rw [mdS_ne (by omega)]; exact h.2 j hj⟩
theorem rdFr.tr {a b c : mdT} (h : rdFr a b) (g : rdFr b c) : rdFr a c := ⟨fun q hq => (g.1 q hq).trans (h.1 q hq), fun j hj => (g.2 j hj).trans (h.2 j hj)⟩
/-- the token from p on lies in the reader's cells -/
def rdAt (T : Nat → Int32) (tl p : Nat) (u : mdT) : Prop := u 90 0 = nI (tkN T tl p) ∧ u 90 1 = nI (tkA T tl p) ∧ u 90 2 = nI (rk (tkK T tl p)) ∧ (tkK T tl p = 2 → u 90 3 = tkV T tl p)
theorem rdIn_f1 {x lo hi : Int32} (h : x < lo) : rv_in x lo.toInt hi.toInt = false := by
  have := Int32.lt_iff_toInt_lt.mp h
  unfold rv_in; rw [decide_eq_false (by omega), Bool.false_and]
theorem rdIn_f2 {x lo hi : Int32} (h : hi < x) : rv_in x lo.toInt hi.toInt = false := by
  have := Int32.lt_iff_toInt_lt.mp h
  unfold rv_in; rw [decide_eq_false (p := x.toInt ≤ hi.toInt) (by omega), Bool.and_false]
theorem rdIn_t {x lo hi : Int32} (h : ¬ x < lo) (g : ¬ hi < x) : rv_in x lo.toInt hi.toInt = true := by
  have h1 : ¬ x.toInt < lo.toInt := fun z => h (Int32.lt_iff_toInt_lt.mpr z)
  have h2 : ¬ hi.toInt < x.toInt := fun z => g (Int32.lt_iff_toInt_lt.mpr z)
  unfold rv_in; rw [decide_eq_true (p := lo.toInt ≤ x.toInt) (by omega), decide_eq_true (p := x.toInt ≤ hi.toInt) (by omega)]; rfl
theorem rdIn_e {x y : Int32} : rv_in x y.toInt y.toInt = true ↔ x = y := by
  unfold rv_in
  constructor
  · intro h
    have h1 := Bool.and_eq_true_iff.mp h
    have h2 := of_decide_eq_true h1.1
    have h3 := of_decide_eq_true h1.2
    exact Int32.toInt_inj.mp (by omega)
  · rintro rfl
    rw [decide_eq_true (p := x.toInt ≤ x.toInt) (by omega)]; rfl
/-- what isAt says -/
abbrev rdIs (T : Nat → Int32) (tl q : Nat) (lo hi : Int32) : Bool := decide (q < tl) && rv_in (T q) lo.toInt hi.toInt
theorem rdIs_t {T : Nat → Int32} {tl q : Nat} {lo hi : Int32} (h : rdIs T tl q lo hi = true) : q < tl ∧ rv_in (T q) lo.toInt hi.toInt = true := by
  have h1 := Bool.and_eq_true_iff.mp h
  exact ⟨of_decide_eq_true h1.1, h1.2⟩
theorem rdIs_f {T : Nat → Int32} {tl q : Nat} {lo hi : Int32} (h : rdIs T tl q lo hi = false) (hq : q < tl) : rv_in (T q) lo.toInt hi.toInt = false := by
  have h1 : (decide (q < tl) && rv_in (T q) lo.toInt hi.toInt) = false := h
  rw [decide_eq_true hq, Bool.true_and] at h1; exact h1
theorem tk_run_0 {P : Int32 → Bool} {T : Nat → Int32} {tl q : Nat} (h : tl ≤ q) : tk_run P T (tl - q) q = q := by
  rw [show tl - q = 0 by omega]; rfl
theorem tk_run_t {P : Int32 → Bool} {T : Nat → Int32} {tl q : Nat} (h : q < tl) (hP : P (T q) = true) : tk_run P T (tl - q) q = tk_run P T (tl - (q + 1)) (q + 1) := by
  rw [show tl - q = (tl - (q + 1)) + 1 by omega, tk_run, if_pos hP]
theorem tk_run_f {P : Int32 → Bool} {T : Nat → Int32} {tl q : Nat} (hP : P (T q) = false) : tk_run P T (tl - q) q = q := by
  rcases Nat.lt_or_ge q tl with h | h
  · rw [show tl - q = (tl - (q + 1)) + 1 by omega, tk_run, if_neg (rv_nf hP)]
  · exact tk_run_0 h
theorem rd_stop {T : Nat → Int32} {tl q : Nat} {lo hi : Int32} {P : Int32 → Bool} (h : rdIs T tl q lo hi = false) (hP : ∀ x, P x = rv_in x lo.toInt hi.toInt) : tk_run P T (tl - q) q = q := by
  rcases Nat.lt_or_ge q tl with g | g
  · exact tk_run_f (by rw [hP]; exact rdIs_f h g)
  · exact tk_run_0 g
theorem rd_skip {T : Nat → Int32} {tl q : Nat} (h : rdIs T tl q (nI 32) (nI 32) = false) : tk_skip T (tl - q) q = q := by
  rcases Nat.lt_or_ge q tl with g | g
  · rw [show tl - q = (tl - (q + 1)) + 1 by omega, tk_skip, if_neg (show ¬ T q = 32 from fun z => rv_nf (rdIs_f h g) (rdIn_e.mpr (show T q = nI 32 from z)))]
  · rw [show tl - q = 0 by omega]; rfl
theorem rd_skipt {T : Nat → Int32} {tl q : Nat} (h : rdIs T tl q (nI 32) (nI 32) = true) : tk_skip T (tl - q) q = tk_skip T (tl - (q + 1)) (q + 1) := by
  have g := rdIs_t h
  rw [show tl - q = (tl - (q + 1)) + 1 by omega, tk_skip, if_pos (show T q = 32 from rdIn_e.mp g.2)]
/-- the four ends of a scan -/
theorem rd_end {T : Nat → Int32} {tl p : Nat} {u : mdT} (hA : tkA T tl p = tl) (h0 : u 90 0 = nI tl) (h1 : u 90 1 = nI tl) (h2 : u 90 2 = nI 0) : rdAt T tl p u := by
  have hL : tkL T tl p = 0 := by unfold tkL; rw [if_pos hA]
  have hK : tkK T tl p = 0 := by unfold tkK; rw [if_pos hA]
  refine ⟨?_, ?_, ?_, ?_⟩
  · rw [h0]; show nI tl = nI (tkA T tl p + tkL T tl p); rw [hA, hL]; rfl
  · rw [h1, hA]
  · rw [h2, hK]; rfl
  · rw [hK]; intro h; cases h
theorem rd_tok {T : Nat → Int32} {tl p a E k0 : Nat} {u : mdT} (hA : tkA T tl p = a) (ha : a < tl) (hk : tk_k0 (T a) = k0) (hE : tk_E T tl a = E) (h0 : u 90 0 = nI E) (h1 : u 90 1 = nI a)
    (h2 : u 90 2 = nI (rk (if k0 = 2 ∧ 3 < E - a then 4 else k0))) (h3 : k0 = 2 → u 90 3 = tk_val T a (min (E - a) 3)) : rdAt T tl p u := by
  have hb := tk_E_b (T := T) ha
  have hL : tkL T tl p = E - a := by unfold tkL; rw [hA, if_neg (by omega), hE]
  have hK : tkK T tl p = if k0 = 2 ∧ 3 < E - a then 4 else k0 := by unfold tkK; rw [hL, hA, if_neg (by omega), hk]
  refine ⟨?_, ?_, ?_, ?_⟩
  · rw [h0]; show nI E = nI (tkA T tl p + tkL T tl p); rw [hA, hL]; exact congrArg nI (by omega)
  · rw [h1, hA]
  · rw [h2, hK]
  · intro h
    rw [hK] at h
    by_cases e : k0 = 2 ∧ 3 < E - a
    · rw [if_pos e] at h; cases h
    · rw [if_neg e] at h
      rw [h3 h]; unfold tkV; rw [hL, hA, if_neg (by omega), hk, if_pos h]
theorem rd_k1 {c : Int32} (h : tk_sm c = true) : tk_k0 c = 1 := by unfold tk_k0; rw [if_pos h]
theorem rd_k2 {c : Int32} (h : tk_sm c = false) (g : tk_fg c = true) : tk_k0 c = 2 := by unfold tk_k0; rw [if_neg (rv_nf h), if_pos g]
theorem rd_k3 {c : Int32} (h : tk_sm c = false) (g : tk_fg c = false) (k : c = 59) : tk_k0 c = 3 := by unfold tk_k0; rw [if_neg (rv_nf h), if_neg (rv_nf g), if_pos k]
theorem rd_k4 {c : Int32} (h : tk_sm c = false) (g : tk_fg c = false) (k : ¬ c = 59) : tk_k0 c = 4 := by unfold tk_k0; rw [if_neg (rv_nf h), if_neg (rv_nf g), if_neg k]
theorem rd_E1 {T : Nat → Int32} {tl a : Nat} (h : tk_k0 (T a) = 1) : tk_E T tl a = tk_run tk_sm T (tl - a) a := by
  unfold tk_E; rw [h, if_pos (by omega), show tk_P 1 = tk_sm from funext fun c => by unfold tk_P; rw [if_pos rfl]]
theorem rd_E2 {T : Nat → Int32} {tl a : Nat} (h : tk_k0 (T a) = 2) : tk_E T tl a = tk_run tk_fg T (tl - a) a := by
  unfold tk_E; rw [h, if_pos (by omega), show tk_P 2 = tk_fg from funext fun c => by unfold tk_P; rw [if_neg (by omega)]]
theorem rd_E3 {T : Nat → Int32} {tl a : Nat} (h : 3 ≤ tk_k0 (T a)) : tk_E T tl a = a + 1 := by
  unfold tk_E; rw [if_neg (by omega)]
theorem rd_val {T : Nat → Int32} {A n : Nat} (h : n < 3) : nI 10 * tk_val T A (min n 3) + T (A + n) - nI 48 = tk_val T A (min (n + 1) 3) := by
  rw [show min n 3 = n by omega, show min (n + 1) 3 = n + 1 by omega]; rfl
theorem rd_val3 {T : Nat → Int32} {A n : Nat} (h : 3 ≤ n) : tk_val T A (min n 3) = tk_val T A (min (n + 1) 3) := by
  rw [show min n 3 = 3 by omega, show min (n + 1) 3 = 3 by omega]
theorem rd_kE {T : Nat → Int32} {a E : Nat} {r : Int32} (hE : r = if E - a > 3 then 1 else 2) : r = nI (rk (if 2 = 2 ∧ 3 < E - a then 4 else 2)) := by
  rw [hE]
  by_cases h : 3 < E - a
  · rw [if_pos h, if_pos ⟨rfl, h⟩]; rfl
  · rw [if_neg h, if_neg (fun z => h z.2)]; rfl
theorem x_X3_isAt (l : Launch) (dC : Nat → ClassId) (dI : Nat → Nat → Nat) (dA : Nat → ClassId) (n : Nat) (ξ : mdT) (V : Nat → Option Nat) (V2 : Nat → Option Nat) (im : Nat → Option Nat) (ab : Int64) (be : Int64) (lo : Int32) (hi : Int32) (ty : Nat) (ht : ξ 0 0 = nI ty) (ht6 : ty ≤ 150) (tx : Nat → Int32) (hT : ∀ k_, k_ < ty → ξ 88 k_ = tx k_) (q : Nat) (hq : ξ 90 0 = nI q) (hq2 : q ≤ ty) : Met l yX3_isAt (ws_ yX3_isAt cX3_isAt 3 (some .boolean)) { frames := 1, cells := 0, slots := 0, locals := 60 } (xPc dC dI dA (bkP dC dI n 96 (xE dA n ξ V V2 im ab be)) [.ref (n + 90), .int lo, .int hi]) (vp_Si (fun r_ => r_ = (rb_i (rdIs tx ty q lo hi)))) 0 0 (fun _ => False) := by
  refine x_in (by decide) rfl (Nat.le_of_ble_eq_true rfl) (lv := [(0, .ref (n + 90)), (1, .int lo), (2, .int hi)]) rfl ?_
  intro p e s m below meth c_ X hN hnm hr hlk hP ls hl
  refine lv_aload_n X.1 X.2.1 dX3_isAt_0 rfl (lv_at hl 0 rfl) ?_
  refine xb_get (C := RX3) (T := TX3) (v := .int (ξ 90 0)) X in_X3 (ci := 3) rfl hP (j := 90) (by decide) (xe_x90 ..) 0 (by decide) q195 rfl rfl dX3_isAt_1 ?_
  refine rn_co (y := nI q) hq ?_
  refine lv_aload_n X.1 X.2.1 dX3_isAt_4 rfl (lv_at hl 0 rfl) ?_
  refine xb_get (C := RX3) (T := TX3) (v := .ref n) X in_X3 (ci := 3) rfl hP (j := 90) (by decide) (xe_x90 ..) 5 (by decide) q200 rfl rfl dX3_isAt_5 ?_
  refine xb_getN (host := "RentedViews") (C := RX0) (T := TX0) (v := .int (ξ 0 0)) X in_X0 (ci := 0) rfl hP (j := 0) (by decide) (xe_x0 ..) 4 (by decide) (x_nest hN q254 rfl) rfl rfl dX3_isAt_8 ?_
  refine rn_co (y := nI ty) ht ?_
  refine rn_icmp_ge (tgt := 50) X.1 X.2.1 (by omega) (by omega) dX3_isAt_11 (by decide) (fun c_11 => ?_) (fun c_11 => ?_)
  · refine lv_iconst (v := nI 0) X.1 X.2.1 dX3_isAt_50 rfl ?_
    exact rv_rz X.1 X.2.1 hr hlk rfl dX3_isAt_51 (by first | (show nI 0 = rb_i (decide (q < ty) && _); rw [decide_eq_false (by omega)]; rfl) | (show _ = rb_i (decide (q < ty) && _); rw [decide_eq_true (show q < ty by omega), Bool.true_and, ← hT q (by omega)]; first | (rw [rdIn_f1 c_27]; rfl) | (rw [rdIn_f2 c_43]; rfl) | (rw [rdIn_t c_27 c_43]; rfl)))
  · refine lv_aload_n X.1 X.2.1 dX3_isAt_14 rfl (lv_at hl 0 rfl) ?_
    refine xb_get (C := RX3) (T := TX3) (v := .ref n) X in_X3 (ci := 3) rfl hP (j := 90) (by decide) (xe_x90 ..) 5 (by decide) q200 rfl rfl dX3_isAt_15 ?_
    refine xb_getN (host := "RentedViews") (C := RX0) (T := TX0) (v := .ref (n + 88)) X in_X0 (ci := 0) rfl hP (j := 0) (by decide) (xe_x0 ..) 3 (by decide) (x_nest hN q252 rfl) rfl rfl dX3_isAt_18 ?_
    refine lv_aload_n X.1 X.2.1 dX3_isAt_21 rfl (lv_at hl 0 rfl) ?_
    refine xb_get (C := RX3) (T := TX3) (v := .int (ξ 90 0)) X in_X3 (ci := 3) rfl hP (j := 90) (by decide) (xe_x90 ..) 0 (by decide) q195 rfl rfl dX3_isAt_22 ?_
    refine rn_co (y := nI q) hq ?_
    refine xb_bald X hP (j := 88) (by decide) (n := 150) (f := ξ 88) rfl (by omega) (by decide) dX3_isAt_25 ?_
    refine lv_iload_n X.1 X.2.1 dX3_isAt_26 rfl (lv_at hl 1 rfl) ?_
    refine lv_icmp_lt (tgt := 50) X.1 X.2.1 dX3_isAt_27 (by decide) (fun (c_27 : ξ 88 q < lo) => ?_) (fun (c_27 : ¬ ξ 88 q < lo) => ?_)
    · refine lv_iconst (v := nI 0) X.1 X.2.1 dX3_isAt_50 rfl ?_
      exact rv_rz X.1 X.2.1 hr hlk rfl dX3_isAt_51 (by first | (show nI 0 = rb_i (decide (q < ty) && _); rw [decide_eq_false (by omega)]; rfl) | (show _ = rb_i (decide (q < ty) && _); rw [decide_eq_true (show q < ty by omega), Bool.true_and, ← hT q (by omega)]; first | (rw [rdIn_f1 c_27]; rfl) | (rw [rdIn_f2 c_43]; rfl) | (rw [rdIn_t c_27 c_43]; rfl)))
    · refine lv_aload_n X.1 X.2.1 dX3_isAt_30 rfl (lv_at hl 0 rfl) ?_
      refine xb_get (C := RX3) (T := TX3) (v := .ref n) X in_X3 (ci := 3) rfl hP (j := 90) (by decide) (xe_x90 ..) 5 (by decide) q200 rfl rfl dX3_isAt_31 ?_
      refine xb_getN (host := "RentedViews") (C := RX0) (T := TX0) (v := .ref (n + 88)) X in_X0 (ci := 0) rfl hP (j := 0) (by decide) (xe_x0 ..) 3 (by decide) (x_nest hN q252 rfl) rfl rfl dX3_isAt_34 ?_
      refine lv_aload_n X.1 X.2.1 dX3_isAt_37 rfl (lv_at hl 0 rfl) ?_
      refine xb_get (C := RX3) (T := TX3) (v := .int (ξ 90 0)) X in_X3 (ci := 3) rfl hP (j := 90) (by decide) (xe_x90 ..) 0 (by decide) q195 rfl rfl dX3_isAt_38 ?_
      refine rn_co (y := nI q) hq ?_
      refine xb_bald X hP (j := 88) (by decide) (n := 150) (f := ξ 88) rfl (by omega) (by decide) dX3_isAt_41 ?_
      refine lv_iload_n X.1 X.2.1 dX3_isAt_42 rfl (lv_at hl 2 rfl) ?_
      refine lv_icmp_gt (tgt := 50) X.1 X.2.1 dX3_isAt_43 (by decide) (fun (c_43 : hi < ξ 88 q) => ?_) (fun (c_43 : ¬ hi < ξ 88 q) => ?_)
      · refine lv_iconst (v := nI 0) X.1 X.2.1 dX3_isAt_50 rfl ?_
        exact rv_rz X.1 X.2.1 hr hlk rfl dX3_isAt_51 (by first | (show nI 0 = rb_i (decide (q < ty) && _); rw [decide_eq_false (by omega)]; rfl) | (show _ = rb_i (decide (q < ty) && _); rw [decide_eq_true (show q < ty by omega), Bool.true_and, ← hT q (by omega)]; first | (rw [rdIn_f1 c_27]; rfl) | (rw [rdIn_f2 c_43]; rfl) | (rw [rdIn_t c_27 c_43]; rfl)))
      · refine lv_iconst (v := nI 1) X.1 X.2.1 dX3_isAt_46 rfl ?_
        refine lv_goto (tgt := 51) X.1 X.2.1 dX3_isAt_47 (by decide) ?_
        exact rv_rz X.1 X.2.1 hr hlk rfl dX3_isAt_51 (by first | (show nI 0 = rb_i (decide (q < ty) && _); rw [decide_eq_false (by omega)]; rfl) | (show _ = rb_i (decide (q < ty) && _); rw [decide_eq_true (show q < ty by omega), Bool.true_and, ← hT q (by omega)]; first | (rw [rdIn_f1 c_27]; rfl) | (rw [rdIn_f2 c_43]; rfl) | (rw [rdIn_t c_27 c_43]; rfl)))
theorem x_X3_number (l : Launch) (dC : Nat → ClassId) (dI : Nat → Nat → Nat) (dA : Nat → ClassId) (n : Nat) (ξ : mdT) (V : Nat → Option Nat) (V2 : Nat → Option Nat) (im : Nat → Option Nat) (ab : Int64) (be : Int64) (ty : Nat) (ht : ξ 0 0 = nI ty) (ht6 : ty ≤ 150) (tx : Nat → Int32) (hT : ∀ k_, k_ < ty → ξ 88 k_ = tx k_) (A_ : Nat) (hA0 : ξ 90 0 = nI A_) (hA2 : A_ ≤ ty) : Met l yX3_number (ws_ yX3_number cX3_number 2 (some .int)) { frames := 2, cells := 0, slots := 0, locals := 120 } (xPc dC dI dA (bkP dC dI n 96 (xE dA n ξ V V2 im ab be)) [.ref (n + 90)]) (xQi (S := mdT) (fun r_ u => r_ = (if tk_run tk_fg tx (ty - A_) A_ - A_ > 3 then 1 else 2) ∧ rdFr ξ u ∧ u 90 1 = ξ 90 1 ∧ u 90 0 = nI (tk_run tk_fg tx (ty - A_) A_) ∧ u 90 3 = tk_val tx A_ (min (tk_run tk_fg tx (ty - A_) A_ - A_) 3)) (fun u => (bkP dC dI n 96 (xE dA n u V V2 im ab be))) (bkA n 96)) 0 0 (bkA n 96) := by
  refine x_in (by decide) rfl (Nat.le_of_ble_eq_true rfl) (lv := [(0, .ref (n + 90))]) rfl ?_
  intro p e s m below meth c_ X hN hnm hr hlk hP ls hl
  have hS : va_S (bkA n 96) s.heap s.heap [] := va_S.rf
  have K7 : ∀ (k7_ : Nat) (nn : Nat) (ξ1 : mdT) (H : Heap) (locs : List Loc), ty - (A_ + nn) = k7_ → (rdFr ξ ξ1) → (ξ1 90 0 = nI (A_ + nn)) → (A_ + nn ≤ ty) → (tk_run tk_fg tx (ty - (A_ + nn)) (A_ + nn) = tk_run tk_fg tx (ty - A_) A_) → (ξ1 90 3 = tk_val tx A_ (min nn 3)) → (ξ1 90 1 = ξ 90 1) → bkP dC dI n 96 (xE dA n ξ1 V V2 im ab be) H → va_S (bkA n 96) s.heap H locs → ∀ ls, lv_has ls 2 [(0, .ref (n + 90)), (1, .int (nI nn))] → W p l e { frames := 2, cells := 0, slots := 0, locals := 120 } s m [.ref (n + 90)].toArray below meth c_ H locs 0 0 (MQ below (xQi (S := mdT) (fun r_ u => r_ = (if tk_run tk_fg tx (ty - A_) A_ - A_ > 3 then 1 else 2) ∧ rdFr ξ u ∧ u 90 1 = ξ 90 1 ∧ u 90 0 = nI (tk_run tk_fg tx (ty - A_) A_) ∧ u 90 3 = tk_val tx A_ (min (tk_run tk_fg tx (ty - A_) A_ - A_) 3)) (fun u => (bkP dC dI n 96 (xE dA n u V V2 im ab be))) (bkA n 96)) [.ref (n + 90)].toArray s 0 0 (bkA n 96)) (F0 m 7 ls []) := by
    intro k7_
    induction k7_ using Nat.strongRecOn with
    | _ k7_ ih7 =>
      intro nn ξ1 H locs hm7_ hF hq hql hE hv h1 hP hS ls hl
      have ht : ξ1 0 0 = nI ty := by rw [hF.1 0 (by decide)]; exact ht
      have hT : ∀ k_, k_ < ty → ξ1 88 k_ = tx k_ := fun k_ h_ => by rw [hF.1 88 (by decide)]; exact hT k_ h_
      refine lv_aload_n X.1 X.2.1 dX3_number_7 rfl (lv_at hl 0 rfl) ?_
      refine lv_bipush (v := nI 48) X.1 X.2.1 dX3_number_8 rfl ?_
      refine lv_bipush (v := nI 57) X.1 X.2.1 dX3_number_10 rfl ?_
      refine x_cSe (x_runV X hN hP (As := [.int (nI 48), .int (nI 57)]) (rest := []) (x_X3_isAt l dC dI dA n ξ1 V V2 im ab be (nI 48) (nI 57) ty ht ht6 tx hT (A_ + nn) hq (by omega)) xkv_X3_26 (x_recv (ci := 3) X.2.2.2.2.2 hP (j := 90) (by decide) (xe_x90 ..) rfl) rfl rfl ⟨Nat.le_of_ble_eq_true rfl, Nat.le_of_ble_eq_true rfl⟩ hl.1 (Nat.le_of_ble_eq_true rfl) dX3_number_12 ⟨Nat.le_of_ble_eq_true rfl, Nat.le_of_ble_eq_true rfl⟩) ?_
      refine rn_zt (tgt := 73) X.1 X.2.1 dX3_number_15 (by decide) (fun c_15 => ?_) (fun c_15 => ?_)
      · refine lv_iload_n X.1 X.2.1 dX3_number_73 rfl (lv_at hl 1 rfl) ?_
        refine lv_iconst (v := nI 3) X.1 X.2.1 dX3_number_74 rfl ?_
        refine rn_icmp_le (tgt := 82) X.1 X.2.1 (by omega) (by omega) dX3_number_75 (by decide) (fun c_75 => ?_) (fun c_75 => ?_)
        · refine lv_iconst (v := nI 2) X.1 X.2.1 dX3_number_82 rfl ?_
          exact x_ri ξ1 X hr hlk hS dX3_number_83 (by have hEE : tk_run tk_fg tx (ty - A_) A_ = A_ + nn := (by rw [← hE]; exact rd_stop c_15 (fun _ => rfl)); rw [hEE, show A_ + nn - A_ = nn by omega]; exact ⟨by first | rw [if_pos (by omega)]; rfl | rw [if_neg (by omega)]; rfl, hF, h1, hq, hv⟩) hP
        · refine lv_iconst (v := nI 1) X.1 X.2.1 dX3_number_78 rfl ?_
          refine lv_goto (tgt := 83) X.1 X.2.1 dX3_number_79 (by decide) ?_
          exact x_ri ξ1 X hr hlk hS dX3_number_83 (by have hEE : tk_run tk_fg tx (ty - A_) A_ = A_ + nn := (by rw [← hE]; exact rd_stop c_15 (fun _ => rfl)); rw [hEE, show A_ + nn - A_ = nn by omega]; exact ⟨by first | rw [if_pos (by omega)]; rfl | rw [if_neg (by omega)]; rfl, hF, h1, hq, hv⟩) hP
      · refine lv_aload_n X.1 X.2.1 dX3_number_18 rfl (lv_at hl 0 rfl) ?_
        refine lv_iload_n X.1 X.2.1 dX3_number_19 rfl (lv_at hl 1 rfl) ?_
        refine lv_iconst (v := nI 3) X.1 X.2.1 dX3_number_20 rfl ?_
        refine rn_icmp_ge (tgt := 50) X.1 X.2.1 (by omega) (by omega) dX3_number_21 (by decide) (fun c_21 => ?_) (fun c_21 => ?_)
        · refine lv_aload_n X.1 X.2.1 dX3_number_50 rfl (lv_at hl 0 rfl) ?_
          refine xb_get (C := RX3) (T := TX3) (v := .int (ξ1 90 3)) X in_X3 (ci := 3) rfl hP (j := 90) (by decide) (xe_x90 ..) 3 (by decide) q198 rfl rfl dX3_number_51 ?_
          refine xb_put (C := RX3) (T := TX3) (E' := xE dA n (mdS ξ1 90 3 (ξ1 90 3)) V V2 im ab be) X in_X3 tyX3 tyX3_ok nmX3 (ci := 3) rfl hP (fun _ h => h) hS (j := 90) (by decide) (xe_x90 ..) 3 (by decide) q198 rfl rfl rfl rfl rfl (Nat.le_of_ble_eq_true rfl) (fun i_ _ => xE_S dA n ξ1 V V2 im ab be 90 3 (ξ1 90 3) i_) dX3_number_54 (fun H locs hP hS => ?_)
          refine lv_aload_n X.1 X.2.1 dX3_number_57 rfl (lv_at hl 0 rfl) ?_
          refine lv_dup X.1 X.2.1 dX3_number_58 rfl ?_
          refine xb_get (C := RX3) (T := TX3) (v := .int ((mdS ξ1 90 3 (ξ1 90 3)) 90 0)) X in_X3 (ci := 3) rfl hP (j := 90) (by decide) (xe_x90 ..) 0 (by decide) q195 rfl rfl dX3_number_59 ?_
          refine rn_co (y := nI (A_ + nn)) hq ?_
          refine lv_iconst (v := nI 1) X.1 X.2.1 dX3_number_62 rfl ?_
          refine rn_iadd X.1 X.2.1 dX3_number_63 ?_
          refine xb_put (C := RX3) (T := TX3) (E' := xE dA n (mdS (mdS ξ1 90 3 (ξ1 90 3)) 90 0 (nI ((A_ + nn) + 1))) V V2 im ab be) X in_X3 tyX3 tyX3_ok nmX3 (ci := 3) rfl hP (fun _ h => h) hS (j := 90) (by decide) (xe_x90 ..) 0 (by decide) q195 rfl rfl rfl rfl rfl (Nat.le_of_ble_eq_true rfl) (fun i_ _ => xE_S dA n (mdS ξ1 90 3 (ξ1 90 3)) V V2 im ab be 90 0 (nI ((A_ + nn) + 1)) i_) dX3_number_64 (fun H locs hP hS => ?_)
          refine rn_iinc (lv' := [(1, .int (nI (nn + 1))), (0, .ref (n + 90))]) X.1 X.2.1 dX3_number_67 hl (k := 1) rfl (by decide) rfl (fun ls hl => ?_)
          refine lv_goto (tgt := 7) X.1 X.2.1 dX3_number_70 (by decide) ?_
          exact ih7 _ (by have := (rdIs_t c_15).1; omega) (nn + 1) (mdS (mdS ξ1 90 3 (ξ1 90 3)) 90 0 (nI ((A_ + nn) + 1))) _ _ rfl ((hF.S (k := 3) _ (by decide)).S (k := 0) _ (by decide)) rfl (by have := (rdIs_t c_15).1; omega) (by rw [← hE]; have g := rdIs_t c_15; exact (tk_run_t g.1 g.2).symm) (by first | (show _ - nI 48 = _; rw [hv, hT _ (rdIs_t c_15).1]; exact rd_val (by omega)) | (show ξ1 90 3 = _; rw [hv]; exact rd_val3 (by omega))) h1 hP hS ls (lv_sub hl [1, 0] rfl)
        · refine lv_bipush (v := nI 10) X.1 X.2.1 dX3_number_24 rfl ?_
          refine lv_aload_n X.1 X.2.1 dX3_number_26 rfl (lv_at hl 0 rfl) ?_
          refine xb_get (C := RX3) (T := TX3) (v := .int (ξ1 90 3)) X in_X3 (ci := 3) rfl hP (j := 90) (by decide) (xe_x90 ..) 3 (by decide) q198 rfl rfl dX3_number_27 ?_
          refine lv_imul X.1 X.2.1 dX3_number_30 ?_
          refine lv_aload_n X.1 X.2.1 dX3_number_31 rfl (lv_at hl 0 rfl) ?_
          refine xb_get (C := RX3) (T := TX3) (v := .ref n) X in_X3 (ci := 3) rfl hP (j := 90) (by decide) (xe_x90 ..) 5 (by decide) q200 rfl rfl dX3_number_32 ?_
          refine xb_getN (host := "RentedViews") (C := RX0) (T := TX0) (v := .ref (n + 88)) X in_X0 (ci := 0) rfl hP (j := 0) (by decide) (xe_x0 ..) 3 (by decide) (x_nest hN q252 rfl) rfl rfl dX3_number_35 ?_
          refine lv_aload_n X.1 X.2.1 dX3_number_38 rfl (lv_at hl 0 rfl) ?_
          refine xb_get (C := RX3) (T := TX3) (v := .int (ξ1 90 0)) X in_X3 (ci := 3) rfl hP (j := 90) (by decide) (xe_x90 ..) 0 (by decide) q195 rfl rfl dX3_number_39 ?_
          refine rn_co (y := nI (A_ + nn)) hq ?_
          refine xb_bald X hP (j := 88) (by decide) (n := 150) (f := ξ1 88) rfl (by have := (rdIs_t c_15).1; omega) (by decide) dX3_number_42 ?_
          refine lv_iadd X.1 X.2.1 dX3_number_43 ?_
          refine lv_bipush (v := nI 48) X.1 X.2.1 dX3_number_44 rfl ?_
          refine lv_isub X.1 X.2.1 dX3_number_46 ?_
          refine lv_goto (tgt := 54) X.1 X.2.1 dX3_number_47 (by decide) ?_
          refine xb_put (C := RX3) (T := TX3) (E' := xE dA n (mdS ξ1 90 3 (((10 * (ξ1 90 3)) + (ξ1 88 (A_ + nn))) - 48)) V V2 im ab be) X in_X3 tyX3 tyX3_ok nmX3 (ci := 3) rfl hP (fun _ h => h) hS (j := 90) (by decide) (xe_x90 ..) 3 (by decide) q198 rfl rfl rfl rfl rfl (Nat.le_of_ble_eq_true rfl) (fun i_ _ => xE_S dA n ξ1 V V2 im ab be 90 3 (((10 * (ξ1 90 3)) + (ξ1 88 (A_ + nn))) - 48) i_) dX3_number_54 (fun H locs hP hS => ?_)
          refine lv_aload_n X.1 X.2.1 dX3_number_57 rfl (lv_at hl 0 rfl) ?_
          refine lv_dup X.1 X.2.1 dX3_number_58 rfl ?_
          refine xb_get (C := RX3) (T := TX3) (v := .int ((mdS ξ1 90 3 (((10 * (ξ1 90 3)) + (ξ1 88 (A_ + nn))) - 48)) 90 0)) X in_X3 (ci := 3) rfl hP (j := 90) (by decide) (xe_x90 ..) 0 (by decide) q195 rfl rfl dX3_number_59 ?_
          refine rn_co (y := nI (A_ + nn)) hq ?_
          refine lv_iconst (v := nI 1) X.1 X.2.1 dX3_number_62 rfl ?_
          refine rn_iadd X.1 X.2.1 dX3_number_63 ?_
          refine xb_put (C := RX3) (T := TX3) (E' := xE dA n (mdS (mdS ξ1 90 3 (((10 * (ξ1 90 3)) + (ξ1 88 (A_ + nn))) - 48)) 90 0 (nI ((A_ + nn) + 1))) V V2 im ab be) X in_X3 tyX3 tyX3_ok nmX3 (ci := 3) rfl hP (fun _ h => h) hS (j := 90) (by decide) (xe_x90 ..) 0 (by decide) q195 rfl rfl rfl rfl rfl (Nat.le_of_ble_eq_true rfl) (fun i_ _ => xE_S dA n (mdS ξ1 90 3 (((10 * (ξ1 90 3)) + (ξ1 88 (A_ + nn))) - 48)) V V2 im ab be 90 0 (nI ((A_ + nn) + 1)) i_) dX3_number_64 (fun H locs hP hS => ?_)
          refine rn_iinc (lv' := [(1, .int (nI (nn + 1))), (0, .ref (n + 90))]) X.1 X.2.1 dX3_number_67 hl (k := 1) rfl (by decide) rfl (fun ls hl => ?_)
          refine lv_goto (tgt := 7) X.1 X.2.1 dX3_number_70 (by decide) ?_
          exact ih7 _ (by have := (rdIs_t c_15).1; omega) (nn + 1) (mdS (mdS ξ1 90 3 (((10 * (ξ1 90 3)) + (ξ1 88 (A_ + nn))) - 48)) 90 0 (nI ((A_ + nn) + 1))) _ _ rfl ((hF.S (k := 3) _ (by decide)).S (k := 0) _ (by decide)) rfl (by have := (rdIs_t c_15).1; omega) (by rw [← hE]; have g := rdIs_t c_15; exact (tk_run_t g.1 g.2).symm) (by first | (show _ - nI 48 = _; rw [hv, hT _ (rdIs_t c_15).1]; exact rd_val (by omega)) | (show ξ1 90 3 = _; rw [hv]; exact rd_val3 (by omega))) h1 hP hS ls (lv_sub hl [1, 0] rfl)
  refine lv_iconst (v := nI 0) X.1 X.2.1 dX3_number_0 rfl ?_
  refine lv_istore_n (lv' := [(1, .int (nI 0)), (0, .ref (n + 90))]) X.1 X.2.1 dX3_number_1 rfl hl (by decide) rfl (fun ls hl => ?_)
  refine lv_aload_n X.1 X.2.1 dX3_number_2 rfl (lv_at hl 1 rfl) ?_
  refine lv_iconst (v := nI 0) X.1 X.2.1 dX3_number_3 rfl ?_
  refine xb_put (C := RX3) (T := TX3) (E' := xE dA n (mdS ξ 90 3 (nI 0)) V V2 im ab be) X in_X3 tyX3 tyX3_ok nmX3 (ci := 3) rfl hP (fun _ h => h) hS (j := 90) (by decide) (xe_x90 ..) 3 (by decide) q198 rfl rfl rfl rfl rfl (Nat.le_of_ble_eq_true rfl) (fun i_ _ => xE_S dA n ξ V V2 im ab be 90 3 (nI 0) i_) dX3_number_4 (fun H locs hP hS => ?_)
  exact K7 _ 0 (mdS ξ 90 3 (nI 0)) _ _ rfl ((rdFr.rf ξ).S (k := 3) _ (by decide)) hA0 (by omega) rfl rfl rfl hP hS ls (lv_sub hl [1, 0] rfl)
set_option maxHeartbeats 2000000 in
theorem x_X3_scans (l : Launch) (dC : Nat → ClassId) (dI : Nat → Nat → Nat) (dA : Nat → ClassId) (n : Nat) (ξ : mdT) (V : Nat → Option Nat) (V2 : Nat → Option Nat) (im : Nat → Option Nat) (ab : Int64) (be : Int64) (ty : Nat) (ht : ξ 0 0 = nI ty) (ht6 : ty ≤ 150) (tx : Nat → Int32) (hT : ∀ k_, k_ < ty → ξ 88 k_ = tx k_) (p_ : Nat) (hp0 : ξ 90 0 = nI p_) (hp : p_ ≤ ty) : Met l yX3_scans (ws_ yX3_scans cX3_scans 1 none) { frames := 3, cells := 0, slots := 0, locals := 180 } (xPc dC dI dA (bkP dC dI n 96 (xE dA n ξ V V2 im ab be)) [.ref (n + 90)]) (xQv (S := mdT) (fun u => rdFr ξ u ∧ rdAt tx ty p_ u) (fun u => (bkP dC dI n 96 (xE dA n u V V2 im ab be))) (bkA n 96)) 0 0 (bkA n 96) := by
  refine x_in (by decide) rfl (Nat.le_of_ble_eq_true rfl) (lv := [(0, .ref (n + 90))]) rfl ?_
  intro p e s m below meth c_ X hN hnm hr hlk hP ls hl
  have hS : va_S (bkA n 96) s.heap s.heap [] := va_S.rf
  have K70 : ∀ (k70_ : Nat) (q : Nat) (a_ : Nat) (ξ1 : mdT) (H : Heap) (locs : List Loc), ty - q = k70_ → (rdFr ξ ξ1) → (ξ1 90 0 = nI q) → (q ≤ ty) → (tkA tx ty p_ = a_) → (a_ < ty) → (tk_k0 (tx a_) = 1) → (tk_run tk_sm tx (ty - q) q = tk_E tx ty a_) → (ξ1 90 1 = nI a_) → (ξ1 90 2 = nI 4) → bkP dC dI n 96 (xE dA n ξ1 V V2 im ab be) H → va_S (bkA n 96) s.heap H locs → ∀ ls, lv_has ls 1 [(0, .ref (n + 90))] → W p l e { frames := 3, cells := 0, slots := 0, locals := 180 } s m [.ref (n + 90)].toArray below meth c_ H locs 0 0 (MQ below (xQv (S := mdT) (fun u => rdFr ξ u ∧ rdAt tx ty p_ u) (fun u => (bkP dC dI n 96 (xE dA n u V V2 im ab be))) (bkA n 96)) [.ref (n + 90)].toArray s 0 0 (bkA n 96)) (F0 m 70 ls []) := by
    intro k70_
    induction k70_ using Nat.strongRecOn with
    | _ k70_ ih70 =>
      intro q a_ ξ1 H locs hm70_ hF hq hql hA ha hk hE h1 h2 hP hS ls hl
      have ht : ξ1 0 0 = nI ty := by rw [hF.1 0 (by decide)]; exact ht
      have hT : ∀ k_, k_ < ty → ξ1 88 k_ = tx k_ := fun k_ h_ => by rw [hF.1 88 (by decide)]; exact hT k_ h_
      refine lv_aload_n X.1 X.2.1 dX3_scans_70 rfl (lv_at hl 0 rfl) ?_
      refine lv_bipush (v := nI 97) X.1 X.2.1 dX3_scans_71 rfl ?_
      refine lv_bipush (v := nI 122) X.1 X.2.1 dX3_scans_73 rfl ?_
      refine x_cSe (x_runV X hN hP (As := [.int (nI 97), .int (nI 122)]) (rest := []) (x_X3_isAt l dC dI dA n ξ1 V V2 im ab be (nI 97) (nI 122) ty ht ht6 tx hT q hq (by omega)) xkv_X3_26 (x_recv (ci := 3) X.2.2.2.2.2 hP (j := 90) (by decide) (xe_x90 ..) rfl) rfl rfl ⟨Nat.le_of_ble_eq_true rfl, Nat.le_of_ble_eq_true rfl⟩ hl.1 (Nat.le_of_ble_eq_true rfl) dX3_scans_75 ⟨Nat.le_of_ble_eq_true rfl, Nat.le_of_ble_eq_true rfl⟩) ?_
      refine rn_zt (tgt := 146) X.1 X.2.1 dX3_scans_78 (by decide) (fun c_78 => ?_) (fun c_78 => ?_)
      · exact x_rv ξ1 X hr hlk hS dX3_scans_146 ⟨hF, rd_tok hA ha hk (hE.symm.trans (rd_stop c_78 (fun _ => rfl))) hq h1 h2 (fun z => by cases z)⟩ hP
      · refine lv_aload_n X.1 X.2.1 dX3_scans_81 rfl (lv_at hl 0 rfl) ?_
        refine lv_dup X.1 X.2.1 dX3_scans_82 rfl ?_
        refine xb_get (C := RX3) (T := TX3) (v := .int (ξ1 90 0)) X in_X3 (ci := 3) rfl hP (j := 90) (by decide) (xe_x90 ..) 0 (by decide) q195 rfl rfl dX3_scans_83 ?_
        refine rn_co (y := nI q) hq ?_
        refine lv_iconst (v := nI 1) X.1 X.2.1 dX3_scans_86 rfl ?_
        refine rn_iadd X.1 X.2.1 dX3_scans_87 ?_
        refine xb_put (C := RX3) (T := TX3) (E' := xE dA n (mdS ξ1 90 0 (nI (q + 1))) V V2 im ab be) X in_X3 tyX3 tyX3_ok nmX3 (ci := 3) rfl hP (fun _ h => h) hS (j := 90) (by decide) (xe_x90 ..) 0 (by decide) q195 rfl rfl rfl rfl rfl (Nat.le_of_ble_eq_true rfl) (fun i_ _ => xE_S dA n ξ1 V V2 im ab be 90 0 (nI (q + 1)) i_) dX3_scans_88 (fun H locs hP hS => ?_)
        refine lv_goto (tgt := 70) X.1 X.2.1 dX3_scans_91 (by decide) ?_
        exact ih70 _ (by have := (rdIs_t c_78).1; omega) (q + 1) a_ (mdS ξ1 90 0 (nI (q + 1))) _ _ rfl (hF.S (k := 0) _ (by decide)) rfl (by have := (rdIs_t c_78).1; omega) hA ha hk (by rw [← hE]; have g := rdIs_t c_78; exact (tk_run_t g.1 g.2).symm) h1 h2 hP hS ls (lv_sub hl [0] rfl)
  have K0 : ∀ (k0_ : Nat) (q : Nat) (ξ1 : mdT) (H : Heap) (locs : List Loc), ty - q = k0_ → (rdFr ξ ξ1) → (ξ1 90 0 = nI q) → (q ≤ ty) → (tk_skip tx (ty - q) q = tkA tx ty p_) → bkP dC dI n 96 (xE dA n ξ1 V V2 im ab be) H → va_S (bkA n 96) s.heap H locs → ∀ ls, lv_has ls 1 [(0, .ref (n + 90))] → W p l e { frames := 3, cells := 0, slots := 0, locals := 180 } s m [.ref (n + 90)].toArray below meth c_ H locs 0 0 (MQ below (xQv (S := mdT) (fun u => rdFr ξ u ∧ rdAt tx ty p_ u) (fun u => (bkP dC dI n 96 (xE dA n u V V2 im ab be))) (bkA n 96)) [.ref (n + 90)].toArray s 0 0 (bkA n 96)) (F0 m 0 ls []) := by
    intro k0_
    induction k0_ using Nat.strongRecOn with
    | _ k0_ ih0 =>
      intro q ξ1 H locs hm0_ hF hq hql hsk hP hS ls hl
      have ht : ξ1 0 0 = nI ty := by rw [hF.1 0 (by decide)]; exact ht
      have hT : ∀ k_, k_ < ty → ξ1 88 k_ = tx k_ := fun k_ h_ => by rw [hF.1 88 (by decide)]; exact hT k_ h_
      refine lv_aload_n X.1 X.2.1 dX3_scans_0 rfl (lv_at hl 0 rfl) ?_
      refine lv_bipush (v := nI 32) X.1 X.2.1 dX3_scans_1 rfl ?_
      refine lv_bipush (v := nI 32) X.1 X.2.1 dX3_scans_3 rfl ?_
      refine x_cSe (x_runV X hN hP (As := [.int (nI 32), .int (nI 32)]) (rest := []) (x_X3_isAt l dC dI dA n ξ1 V V2 im ab be (nI 32) (nI 32) ty ht ht6 tx hT q hq (by omega)) xkv_X3_26 (x_recv (ci := 3) X.2.2.2.2.2 hP (j := 90) (by decide) (xe_x90 ..) rfl) rfl rfl ⟨Nat.le_of_ble_eq_true rfl, Nat.le_of_ble_eq_true rfl⟩ hl.1 (Nat.le_of_ble_eq_true rfl) dX3_scans_5 ⟨Nat.le_of_ble_eq_true rfl, Nat.le_of_ble_eq_true rfl⟩) ?_
      refine rn_zt (tgt := 24) X.1 X.2.1 dX3_scans_8 (by decide) (fun c_8 => ?_) (fun c_8 => ?_)
      · have hA : tkA tx ty p_ = q := by rw [← hsk]; exact rd_skip c_8
        refine lv_aload_n X.1 X.2.1 dX3_scans_24 rfl (lv_at hl 0 rfl) ?_
        refine lv_aload_n X.1 X.2.1 dX3_scans_25 rfl (lv_at hl 0 rfl) ?_
        refine xb_get (C := RX3) (T := TX3) (v := .int (ξ1 90 0)) X in_X3 (ci := 3) rfl hP (j := 90) (by decide) (xe_x90 ..) 0 (by decide) q195 rfl rfl dX3_scans_26 ?_
        refine rn_co (y := nI q) hq ?_
        refine xb_put (C := RX3) (T := TX3) (E' := xE dA n (mdS ξ1 90 1 (nI q)) V V2 im ab be) X in_X3 tyX3 tyX3_ok nmX3 (ci := 3) rfl hP (fun _ h => h) hS (j := 90) (by decide) (xe_x90 ..) 1 (by decide) q196 rfl rfl rfl rfl rfl (Nat.le_of_ble_eq_true rfl) (fun i_ _ => xE_S dA n ξ1 V V2 im ab be 90 1 (nI q) i_) dX3_scans_29 (fun H locs hP hS => ?_)
        refine lv_aload_n X.1 X.2.1 dX3_scans_32 rfl (lv_at hl 0 rfl) ?_
        refine xb_get (C := RX3) (T := TX3) (v := .int ((mdS ξ1 90 1 (nI q)) 90 0)) X in_X3 (ci := 3) rfl hP (j := 90) (by decide) (xe_x90 ..) 0 (by decide) q195 rfl rfl dX3_scans_33 ?_
        refine rn_co (y := nI q) hq ?_
        refine lv_aload_n X.1 X.2.1 dX3_scans_36 rfl (lv_at hl 0 rfl) ?_
        refine xb_get (C := RX3) (T := TX3) (v := .ref n) X in_X3 (ci := 3) rfl hP (j := 90) (by decide) (xe_x90 ..) 5 (by decide) q200 rfl rfl dX3_scans_37 ?_
        refine xb_getN (host := "RentedViews") (C := RX0) (T := TX0) (v := .int ((mdS ξ1 90 1 (nI q)) 0 0)) X in_X0 (ci := 0) rfl hP (j := 0) (by decide) (xe_x0 ..) 4 (by decide) (x_nest hN q254 rfl) rfl rfl dX3_scans_40 ?_
        refine rn_co (y := nI ty) ht ?_
        refine rn_icmp_ne (tgt := 54) X.1 X.2.1 (by omega) (by omega) dX3_scans_43 (by decide) (fun c_43 => ?_) (fun c_43 => ?_)
        · refine lv_aload_n X.1 X.2.1 dX3_scans_54 rfl (lv_at hl 0 rfl) ?_
          refine lv_bipush (v := nI 97) X.1 X.2.1 dX3_scans_55 rfl ?_
          refine lv_bipush (v := nI 122) X.1 X.2.1 dX3_scans_57 rfl ?_
          refine x_cSe (x_runV X hN hP (As := [.int (nI 97), .int (nI 122)]) (rest := []) (x_X3_isAt l dC dI dA n (mdS ξ1 90 1 (nI q)) V V2 im ab be (nI 97) (nI 122) ty ht ht6 tx hT q hq (by omega)) xkv_X3_26 (x_recv (ci := 3) X.2.2.2.2.2 hP (j := 90) (by decide) (xe_x90 ..) rfl) rfl rfl ⟨Nat.le_of_ble_eq_true rfl, Nat.le_of_ble_eq_true rfl⟩ hl.1 (Nat.le_of_ble_eq_true rfl) dX3_scans_59 ⟨Nat.le_of_ble_eq_true rfl, Nat.le_of_ble_eq_true rfl⟩) ?_
          refine rn_zt (tgt := 94) X.1 X.2.1 dX3_scans_62 (by decide) (fun c_62 => ?_) (fun c_62 => ?_)
          · refine lv_aload_n X.1 X.2.1 dX3_scans_94 rfl (lv_at hl 0 rfl) ?_
            refine lv_bipush (v := nI 48) X.1 X.2.1 dX3_scans_95 rfl ?_
            refine lv_bipush (v := nI 57) X.1 X.2.1 dX3_scans_97 rfl ?_
            refine x_cSe (x_runV X hN hP (As := [.int (nI 48), .int (nI 57)]) (rest := []) (x_X3_isAt l dC dI dA n (mdS ξ1 90 1 (nI q)) V V2 im ab be (nI 48) (nI 57) ty ht ht6 tx hT q hq (by omega)) xkv_X3_26 (x_recv (ci := 3) X.2.2.2.2.2 hP (j := 90) (by decide) (xe_x90 ..) rfl) rfl rfl ⟨Nat.le_of_ble_eq_true rfl, Nat.le_of_ble_eq_true rfl⟩ hl.1 (Nat.le_of_ble_eq_true rfl) dX3_scans_99 ⟨Nat.le_of_ble_eq_true rfl, Nat.le_of_ble_eq_true rfl⟩) ?_
            refine rn_zt (tgt := 116) X.1 X.2.1 dX3_scans_102 (by decide) (fun c_102 => ?_) (fun c_102 => ?_)
            · refine lv_aload_n X.1 X.2.1 dX3_scans_116 rfl (lv_at hl 0 rfl) ?_
              refine lv_aload_n X.1 X.2.1 dX3_scans_117 rfl (lv_at hl 0 rfl) ?_
              refine lv_bipush (v := nI 59) X.1 X.2.1 dX3_scans_118 rfl ?_
              refine lv_bipush (v := nI 59) X.1 X.2.1 dX3_scans_120 rfl ?_
              refine x_cSe (x_runV X hN hP (As := [.int (nI 59), .int (nI 59)]) (rest := [.ref (n + 90)]) (x_X3_isAt l dC dI dA n (mdS ξ1 90 1 (nI q)) V V2 im ab be (nI 59) (nI 59) ty ht ht6 tx hT q hq (by omega)) xkv_X3_26 (x_recv (ci := 3) X.2.2.2.2.2 hP (j := 90) (by decide) (xe_x90 ..) rfl) rfl rfl ⟨Nat.le_of_ble_eq_true rfl, Nat.le_of_ble_eq_true rfl⟩ hl.1 (Nat.le_of_ble_eq_true rfl) dX3_scans_122 ⟨Nat.le_of_ble_eq_true rfl, Nat.le_of_ble_eq_true rfl⟩) ?_
              refine rn_zt (tgt := 132) X.1 X.2.1 dX3_scans_125 (by decide) (fun c_125 => ?_) (fun c_125 => ?_)
              · refine lv_iconst (v := nI 1) X.1 X.2.1 dX3_scans_132 rfl ?_
                refine xb_put (C := RX3) (T := TX3) (E' := xE dA n (mdS (mdS ξ1 90 1 (nI q)) 90 2 (nI 1)) V V2 im ab be) X in_X3 tyX3 tyX3_ok nmX3 (ci := 3) rfl hP (fun _ h => h) hS (j := 90) (by decide) (xe_x90 ..) 2 (by decide) q197 rfl rfl rfl rfl rfl (Nat.le_of_ble_eq_true rfl) (fun i_ _ => xE_S dA n (mdS ξ1 90 1 (nI q)) V V2 im ab be 90 2 (nI 1) i_) dX3_scans_133 (fun H locs hP hS => ?_)
                refine lv_aload_n X.1 X.2.1 dX3_scans_136 rfl (lv_at hl 0 rfl) ?_
                refine lv_dup X.1 X.2.1 dX3_scans_137 rfl ?_
                refine xb_get (C := RX3) (T := TX3) (v := .int ((mdS (mdS ξ1 90 1 (nI q)) 90 2 (nI 1)) 90 0)) X in_X3 (ci := 3) rfl hP (j := 90) (by decide) (xe_x90 ..) 0 (by decide) q195 rfl rfl dX3_scans_138 ?_
                refine rn_co (y := nI q) hq ?_
                refine lv_iconst (v := nI 1) X.1 X.2.1 dX3_scans_141 rfl ?_
                refine rn_iadd X.1 X.2.1 dX3_scans_142 ?_
                refine xb_put (C := RX3) (T := TX3) (E' := xE dA n (mdS (mdS (mdS ξ1 90 1 (nI q)) 90 2 (nI 1)) 90 0 (nI (q + 1))) V V2 im ab be) X in_X3 tyX3 tyX3_ok nmX3 (ci := 3) rfl hP (fun _ h => h) hS (j := 90) (by decide) (xe_x90 ..) 0 (by decide) q195 rfl rfl rfl rfl rfl (Nat.le_of_ble_eq_true rfl) (fun i_ _ => xE_S dA n (mdS (mdS ξ1 90 1 (nI q)) 90 2 (nI 1)) V V2 im ab be 90 0 (nI (q + 1)) i_) dX3_scans_143 (fun H locs hP hS => ?_)
                exact x_rv (mdS (mdS (mdS ξ1 90 1 (nI q)) 90 2 (nI 1)) 90 0 (nI (q + 1))) X hr hlk hS dX3_scans_146 (by have hlt : q < ty := (by omega); have hs_ := rdIs_f c_62 hlt; have hf_ := rdIs_f c_102 hlt; have hk_ := (rd_k4 hs_ hf_ (fun z => rv_nf (rdIs_f c_125 hlt) (rdIn_e.mpr z))); exact ⟨((hF.S (k := 1) _ (by decide)).S (k := 2) _ (by decide)).S (k := 0) _ (by decide), rd_tok hA hlt hk_ (rd_E3 (by rw [hk_]; omega)) rfl rfl rfl (fun z => by cases z)⟩) hP
              · refine lv_iconst (v := nI 3) X.1 X.2.1 dX3_scans_128 rfl ?_
                refine lv_goto (tgt := 133) X.1 X.2.1 dX3_scans_129 (by decide) ?_
                refine xb_put (C := RX3) (T := TX3) (E' := xE dA n (mdS (mdS ξ1 90 1 (nI q)) 90 2 (nI 3)) V V2 im ab be) X in_X3 tyX3 tyX3_ok nmX3 (ci := 3) rfl hP (fun _ h => h) hS (j := 90) (by decide) (xe_x90 ..) 2 (by decide) q197 rfl rfl rfl rfl rfl (Nat.le_of_ble_eq_true rfl) (fun i_ _ => xE_S dA n (mdS ξ1 90 1 (nI q)) V V2 im ab be 90 2 (nI 3) i_) dX3_scans_133 (fun H locs hP hS => ?_)
                refine lv_aload_n X.1 X.2.1 dX3_scans_136 rfl (lv_at hl 0 rfl) ?_
                refine lv_dup X.1 X.2.1 dX3_scans_137 rfl ?_
                refine xb_get (C := RX3) (T := TX3) (v := .int ((mdS (mdS ξ1 90 1 (nI q)) 90 2 (nI 3)) 90 0)) X in_X3 (ci := 3) rfl hP (j := 90) (by decide) (xe_x90 ..) 0 (by decide) q195 rfl rfl dX3_scans_138 ?_
                refine rn_co (y := nI q) hq ?_
                refine lv_iconst (v := nI 1) X.1 X.2.1 dX3_scans_141 rfl ?_
                refine rn_iadd X.1 X.2.1 dX3_scans_142 ?_
                refine xb_put (C := RX3) (T := TX3) (E' := xE dA n (mdS (mdS (mdS ξ1 90 1 (nI q)) 90 2 (nI 3)) 90 0 (nI (q + 1))) V V2 im ab be) X in_X3 tyX3 tyX3_ok nmX3 (ci := 3) rfl hP (fun _ h => h) hS (j := 90) (by decide) (xe_x90 ..) 0 (by decide) q195 rfl rfl rfl rfl rfl (Nat.le_of_ble_eq_true rfl) (fun i_ _ => xE_S dA n (mdS (mdS ξ1 90 1 (nI q)) 90 2 (nI 3)) V V2 im ab be 90 0 (nI (q + 1)) i_) dX3_scans_143 (fun H locs hP hS => ?_)
                exact x_rv (mdS (mdS (mdS ξ1 90 1 (nI q)) 90 2 (nI 3)) 90 0 (nI (q + 1))) X hr hlk hS dX3_scans_146 (by have hlt : q < ty := (by omega); have hs_ := rdIs_f c_62 hlt; have hf_ := rdIs_f c_102 hlt; have hk_ := (rd_k3 hs_ hf_ (rdIn_e.mp (rdIs_t c_125).2)); exact ⟨((hF.S (k := 1) _ (by decide)).S (k := 2) _ (by decide)).S (k := 0) _ (by decide), rd_tok hA hlt hk_ (rd_E3 (by rw [hk_]; omega)) rfl rfl rfl (fun z => by cases z)⟩) hP
            · refine lv_aload_n X.1 X.2.1 dX3_scans_105 rfl (lv_at hl 0 rfl) ?_
              refine lv_aload_n X.1 X.2.1 dX3_scans_106 rfl (lv_at hl 0 rfl) ?_
              refine x_cWi (x_runV X hN hP (As := []) (rest := [.ref (n + 90)]) (x_X3_number l dC dI dA n (mdS ξ1 90 1 (nI q)) V V2 im ab be ty ht ht6 tx hT q hq (by omega)) xkv_X3_36 (x_recv (ci := 3) X.2.2.2.2.2 hP (j := 90) (by decide) (xe_x90 ..) rfl) rfl rfl ⟨Nat.le_of_ble_eq_true rfl, Nat.le_of_ble_eq_true rfl⟩ hl.1 (Nat.le_of_ble_eq_true rfl) dX3_scans_107 ⟨Nat.le_of_ble_eq_true rfl, Nat.le_of_ble_eq_true rfl⟩) hS (fun _ h => h) (fun _ h => h) (fun r107 u107 H locs hu107 hP1 hz1 hk1 hS => ?_)
              have hP := hP1
              refine xb_put (C := RX3) (T := TX3) (E' := xE dA n (mdS u107 90 2 r107) V V2 im ab be) X in_X3 tyX3 tyX3_ok nmX3 (ci := 3) rfl hP (fun _ h => h) hS (j := 90) (by decide) (xe_x90 ..) 2 (by decide) q197 rfl rfl rfl rfl rfl (Nat.le_of_ble_eq_true rfl) (fun i_ _ => xE_S dA n u107 V V2 im ab be 90 2 r107 i_) dX3_scans_110 (fun H locs hP hS => ?_)
              refine lv_goto (tgt := 146) X.1 X.2.1 dX3_scans_113 (by decide) ?_
              exact x_rv (mdS u107 90 2 r107) X hr hlk hS dX3_scans_146 (by have hfr := hu107.2.1; have hk2 := rd_k2 (rdIs_f c_62 (rdIs_t c_102).1) (rdIs_t c_102).2; exact ⟨((hF.S (k := 1) _ (by decide)).tr hfr).S (k := 2) _ (by decide), rd_tok hA (rdIs_t c_102).1 hk2 (rd_E2 hk2) hu107.2.2.2.1 hu107.2.2.1 (rd_kE (T := tx) hu107.1) (fun _ => hu107.2.2.2.2)⟩) hP
          · refine lv_aload_n X.1 X.2.1 dX3_scans_65 rfl (lv_at hl 0 rfl) ?_
            refine lv_iconst (v := nI 4) X.1 X.2.1 dX3_scans_66 rfl ?_
            refine xb_put (C := RX3) (T := TX3) (E' := xE dA n (mdS (mdS ξ1 90 1 (nI q)) 90 2 (nI 4)) V V2 im ab be) X in_X3 tyX3 tyX3_ok nmX3 (ci := 3) rfl hP (fun _ h => h) hS (j := 90) (by decide) (xe_x90 ..) 2 (by decide) q197 rfl rfl rfl rfl rfl (Nat.le_of_ble_eq_true rfl) (fun i_ _ => xE_S dA n (mdS ξ1 90 1 (nI q)) V V2 im ab be 90 2 (nI 4) i_) dX3_scans_67 (fun H locs hP hS => ?_)
            exact K70 _ q q (mdS (mdS ξ1 90 1 (nI q)) 90 2 (nI 4)) _ _ rfl ((hF.S (k := 1) _ (by decide)).S (k := 2) _ (by decide)) hq (by omega) hA (rdIs_t c_62).1 (rd_k1 (rdIs_t c_62).2) (rd_E1 (rd_k1 (rdIs_t c_62).2)).symm rfl rfl hP hS ls (lv_sub hl [0] rfl)
        · refine lv_aload_n X.1 X.2.1 dX3_scans_46 rfl (lv_at hl 0 rfl) ?_
          refine lv_iconst (v := nI 0) X.1 X.2.1 dX3_scans_47 rfl ?_
          refine xb_put (C := RX3) (T := TX3) (E' := xE dA n (mdS (mdS ξ1 90 1 (nI q)) 90 2 (nI 0)) V V2 im ab be) X in_X3 tyX3 tyX3_ok nmX3 (ci := 3) rfl hP (fun _ h => h) hS (j := 90) (by decide) (xe_x90 ..) 2 (by decide) q197 rfl rfl rfl rfl rfl (Nat.le_of_ble_eq_true rfl) (fun i_ _ => xE_S dA n (mdS ξ1 90 1 (nI q)) V V2 im ab be 90 2 (nI 0) i_) dX3_scans_48 (fun H locs hP hS => ?_)
          refine lv_goto (tgt := 146) X.1 X.2.1 dX3_scans_51 (by decide) ?_
          exact x_rv (mdS (mdS ξ1 90 1 (nI q)) 90 2 (nI 0)) X hr hlk hS dX3_scans_146 ⟨(hF.S (k := 1) _ (by decide)).S (k := 2) _ (by decide), rd_end (by rw [hA]; omega) (by show ξ1 90 0 = _; rw [hq]; exact congrArg nI (by omega)) (by exact congrArg nI (by omega)) rfl⟩ hP
      · refine lv_aload_n X.1 X.2.1 dX3_scans_11 rfl (lv_at hl 0 rfl) ?_
        refine lv_dup X.1 X.2.1 dX3_scans_12 rfl ?_
        refine xb_get (C := RX3) (T := TX3) (v := .int (ξ1 90 0)) X in_X3 (ci := 3) rfl hP (j := 90) (by decide) (xe_x90 ..) 0 (by decide) q195 rfl rfl dX3_scans_13 ?_
        refine rn_co (y := nI q) hq ?_
        refine lv_iconst (v := nI 1) X.1 X.2.1 dX3_scans_16 rfl ?_
        refine rn_iadd X.1 X.2.1 dX3_scans_17 ?_
        refine xb_put (C := RX3) (T := TX3) (E' := xE dA n (mdS ξ1 90 0 (nI (q + 1))) V V2 im ab be) X in_X3 tyX3 tyX3_ok nmX3 (ci := 3) rfl hP (fun _ h => h) hS (j := 90) (by decide) (xe_x90 ..) 0 (by decide) q195 rfl rfl rfl rfl rfl (Nat.le_of_ble_eq_true rfl) (fun i_ _ => xE_S dA n ξ1 V V2 im ab be 90 0 (nI (q + 1)) i_) dX3_scans_18 (fun H locs hP hS => ?_)
        refine lv_goto (tgt := 0) X.1 X.2.1 dX3_scans_21 (by decide) ?_
        exact ih0 _ (by have := (rdIs_t c_8).1; omega) (q + 1) (mdS ξ1 90 0 (nI (q + 1))) _ _ rfl (hF.S (k := 0) _ (by decide)) rfl (by have := (rdIs_t c_8).1; omega) (by rw [← hsk]; exact (rd_skipt c_8).symm) hP hS ls (lv_sub hl [0] rfl)
  exact K0 _ p_ ξ _ _ rfl (rdFr.rf ξ) hp0 hp rfl hP hS ls (lv_sub hl [0] rfl)
