set_option maxRecDepth 100000
/-! the Model: fractions, odds -/
def rv_ten : Nat → Int64
  | 0 => 1
  | r + 1 => rv_ten r * 10
/-- the ways of a set of renters that come -/
def rv_ways (o who : Int32) : Nat → Int64
  | 0 => 1
  | r + 1 => rv_ways o who r * (if bt who r = true then o.toInt64 else ((10 : Int32) - o).toInt64)
def rv_osum (o : Int32) (rent : Nat) (mo : Nat → Int32) : Nat → Int64
  | 0 => 0
  | w + 1 => rv_osum o rent mo w + rv_ways o (nI w) rent * (mo w).toInt64
/-- who comes, how many are suited, how much is paid, by the numbers of 'now' -/
abbrev rv_comeN (f : Nat → Int32) (many rent : Nat) (ev who : Int32) : (Nat → Bool) × Int32 × Int32 := rv_come (fun v r => rv_suitN f v r ev) (fun v => rv_cost (f (7 + 6 * v)) (f (7 + 6 * v + 2))) (bt who) many rent
theorem mdCome.N {σ τ u : mdT} {many rent : Nat} {ev who : Int32} (hm : many ≤ 6) (hH : mdHand σ many rent τ) (h : mdCome τ many rent ev who u) : u 15 3 = (rv_comeN (σ 0) many rent ev who).2.1 ∧ u 15 4 = (rv_comeN (σ 0) many rent ev who).2.2 := by
  have e := rv_come_c (S := fun v r => rv_suitM τ v r ev) (S' := fun v r => rv_suitN (σ 0) v r ev) (cost := τ 4) (cost' := fun v => rv_cost (σ 0 (7 + 6 * v)) (σ 0 (7 + 6 * v + 2))) (who := bt who) (who' := bt who) (many := many) (rent := rent) (by omega) hH.2.2.2.1 (fun v r h1 h2 => hH.suit h1 h2 ev) (fun _ _ => rfl)
  rw [rv_comeN, ← e]
  exact h.2.2
/-- the hand stays at hand while renters come -/
theorem mdHand.come {σ τ u : mdT} {many rent : Nat} {many' hand : Nat} {ev who : Int32} (hH : mdHand σ many rent τ) (h : mdCome τ many' hand ev who u) : mdQ σ u ∧ u 0 = σ 0 ∧ u 15 0 = nI rent ∧ ∃ τ', mdHand σ many rent τ' ∧ (∀ a, a ≠ 8 → a ≠ 15 → u a = τ' a) := by
  obtain ⟨h1, h2, -⟩ := h
  have e0 : u 0 = σ 0 := (h1 0 (by decide) (by decide)).trans hH.Q.1
  refine ⟨⟨e0, (h1 1 (by decide) (by decide)).trans hH.Q.2.1, (h1 2 (by decide) (by decide)).trans hH.Q.2.2.1, (h1 3 (by decide) (by decide)).trans hH.Q.2.2.2.1, (h1 12 (by decide) (by decide)).trans hH.Q.2.2.2.2.1, (h2 5 (by decide) (by decide)).trans hH.Q.2.2.2.2.2⟩, e0, (h2 0 (by decide) (by decide)).trans hH.2.2.1, τ, hH, h1⟩
/-- what is at hand, wherever else numbers were written: suits, the best, those that come -/
def mdHandy (σ : mdT) (many rent : Nat) (u : mdT) : Prop := mdQ σ u ∧ u 15 0 = nI rent ∧ (∀ v, v < many → u 4 v = rv_cost (σ 0 (7 + 6 * v)) (σ 0 (7 + 6 * v + 2))) ∧ (∀ r, r < rent → u 5 r = σ 0 (43 + 3 * r) ∧ u 6 r = σ 0 (43 + 3 * r + 1) ∧ u 7 r = σ 0 (43 + 3 * r + 2))
theorem mdHand.y {σ u : mdT} {many rent : Nat} (h : mdHand σ many rent u) : mdHandy σ many rent u := ⟨h.Q, h.2.2.1, h.2.2.2.1, h.2.2.2.2⟩
theorem mdHandy.suit {σ u : mdT} {many rent : Nat} (h : mdHandy σ many rent u) {v r : Nat} (hv : v < many) (hr : r < rent) (ev : Int32) : rv_suitM u v r ev = rv_suitN (σ 0) v r ev := by
  obtain ⟨w5, w6, w7⟩ := h.2.2.2 r hr
  unfold rv_suitM rv_suitN
  rw [h.1.1, w5, w6, w7, h.2.2.1 v hv]
theorem mdHandy.come {σ τ u : mdT} {many rent : Nat} {many' hand : Nat} {ev who : Int32} (hH : mdHandy σ many rent τ) (h : mdCome τ many' hand ev who u) : mdHandy σ many rent u := by
  obtain ⟨h1, h2, -⟩ := h
  obtain ⟨⟨q0, q1, q2, q3, q12, q5⟩, g1, g2, g3⟩ := hH
  refine ⟨⟨(h1 0 (by decide) (by decide)).trans q0, (h1 1 (by decide) (by decide)).trans q1, (h1 2 (by decide) (by decide)).trans q2, (h1 3 (by decide) (by decide)).trans q3, (h1 12 (by decide) (by decide)).trans q12, (h2 5 (by decide) (by decide)).trans q5⟩, (h2 0 (by decide) (by decide)).trans g1, ?_, ?_⟩
  · intro v hv; rw [h1 4 (by decide) (by decide)]; exact g2 v hv
  · intro r hr; rw [h1 5 (by decide) (by decide), h1 6 (by decide) (by decide), h1 7 (by decide) (by decide)]; exact g3 r hr
theorem mdHandy.N {σ τ u : mdT} {many rent : Nat} {ev who : Int32} (hm : many ≤ 6) (hH : mdHandy σ many rent τ) (h : mdCome τ many rent ev who u) : u 15 3 = (rv_comeN (σ 0) many rent ev who).2.1 ∧ u 15 4 = (rv_comeN (σ 0) many rent ev who).2.2 := by
  have e := rv_come_c (S := fun v r => rv_suitM τ v r ev) (S' := fun v r => rv_suitN (σ 0) v r ev) (cost := τ 4) (cost' := fun v => rv_cost (σ 0 (7 + 6 * v)) (σ 0 (7 + 6 * v + 2))) (who := bt who) (who' := bt who) (many := many) (rent := rent) (by omega) hH.2.2.1 (fun v r h1 h2 => hH.suit h1 h2 ev) (fun _ _ => rfl)
  rw [rv_comeN, ← e]
  exact h.2.2
def rv_oddsum (σ : mdT) (o : Int32) : Int64 := rv_osum o (rv_cl (σ 0 1)) (fun w => (rv_comeN (σ 0) (rv_cl (σ 0 0)) (rv_cl (σ 0 1)) (σ 0 2) (nI w)).2.2) (2 ^ rv_cl (σ 0 1))
def sp_odds (σ : mdT) (ab be : Int64) (o : Int32) : Int32 × mdT × Int64 × Int64 :=
  if rv_inI o 0 10 = true then (1, σ, rv_oddsum σ o / rv_gcd (rv_oddsum σ o) (rv_ten (rv_cl (σ 0 1))), rv_ten (rv_cl (σ 0 1)) / rv_gcd (rv_oddsum σ o) (rv_ten (rv_cl (σ 0 1)))) else ((sBad (-2) σ).1, (sBad (-2) σ).2, ab, be)
theorem rv_ten_ne : ∀ r, r < 7 → rv_ten r ≠ 0 := by decide
theorem rv_gcd_ne : ∀ (k : Nat) (a b : Int64), b.toInt.natAbs < k → (b ≠ 0 ∨ a ≠ 0) → rv_gcdF k a b ≠ 0
  | 0, _, _, h, _ => absurd h (Nat.not_lt_zero _)
  | k + 1, a, b, h, g => by
    rw [rv_gcdF]
    by_cases e : b = 0
    · rw [if_pos e]
      rcases g with g | g
      · exact absurd e g
      · exact g
    · have := rv_rem64_lt (a := a) e
      rw [if_neg e]
      exact rv_gcd_ne k b _ (by omega) (Or.inr e)
theorem met_fraction (l : Launch) (dC : Nat → ClassId) (dI : Nat → Nat → Nat) (dA : Nat → ClassId) (n : Nat) (σ : mdT) (ab be : Int64) (ov : Int64) (un_ : Int64) (hu0 : un_ ≠ 0) : Met l yX5_fraction (ws_ yX5_fraction cX5_fraction 11 none) { frames := 1, cells := 0, slots := 0, locals := 60 } (mdPc dC dI dA n σ ab be [.ref n, .long ov, .long un_]) (va_Qv (fun u => u = (σ, ov / rv_gcd ov un_, un_ / rv_gcd ov un_)) (mdBL dC dI dA n) (mdA n)) 0 0 (mdA n) := by
  refine md_in (by decide) rfl (Nat.le_of_ble_eq_true rfl) (lv := [(0, .ref n), (1, .long ov), (3, .long un_)]) rfl ?_
  intro p e s m below meth c C hr hlk hP ls hl
  have hx := C.1
  have hb := C.2.1
  have hown := C.2.2.2.1
  have hts := C.2.2.2.2.1
  have hS : va_S (mdA n) s.heap s.heap [] := va_S.rf
  have K6 : ∀ (k6_ : Nat) (a_ : Int64) (b_ : Int64), b_.toInt.natAbs = k6_ → (rv_gcd a_ b_ = rv_gcd ov un_) → (b_ ≠ 0 ∨ a_ ≠ 0) → ∀ ls, lv_has ls 11 [(0, .ref n), (1, .long ov), (3, .long un_), (5, .long a_), (7, .long b_)] → W p l e { frames := 1, cells := 0, slots := 0, locals := 60 } s m [.ref n, .long ov, .long un_].toArray below meth c s.heap [] 0 0 (MQ below (va_Qv (fun u => u = (σ, ov / rv_gcd ov un_, un_ / rv_gcd ov un_)) (mdBL dC dI dA n) (mdA n)) [.ref n, .long ov, .long un_].toArray s 0 0 (mdA n)) (F0 m 6 ls []) := by
    intro k6_
    induction k6_ using Nat.strongRecOn with
    | _ k6_ ih6 =>
      intro a_ b_ hm6_ hg hne ls hl
      refine lv_lload hx hb dX5_fraction_6 (lv_at hl 4 rfl) ?_
      refine lv_lconst (v := 0) hx hb dX5_fraction_8 rfl ?_
      refine rn_lcmp_eq (tgt := 31) hx hb dX5_fraction_9 dX5_fraction_10 (by decide) (fun c_9 => ?_) (fun c_9 => ?_)
      · have hga : a_ = rv_gcd ov un_ := by rw [← hg, c_9]; exact (rv_gcd_0 a_).symm
        have hz : ¬ a_ = 0 := by
          rcases hne with h | h
          · exact absurd c_9 h
          · exact h
        refine lv_aload_n hx hb dX5_fraction_31 rfl (lv_at hl 0 rfl) ?_
        refine lv_lload_n hx hb dX5_fraction_32 rfl (lv_at hl 1 rfl) ?_
        refine lv_lload hx hb dX5_fraction_33 (lv_at hl 3 rfl) ?_
        refine lv_ldiv hx hb dX5_fraction_35 hz ?_
        refine md_p4 C hP hS dX5_fraction_36 (fun H locs hP hS => ?_)
        refine lv_aload_n hx hb dX5_fraction_39 rfl (lv_at hl 0 rfl) ?_
        refine lv_lload_n hx hb dX5_fraction_40 rfl (lv_at hl 2 rfl) ?_
        refine lv_lload hx hb dX5_fraction_41 (lv_at hl 3 rfl) ?_
        refine lv_ldiv hx hb dX5_fraction_43 hz ?_
        refine md_p5 C hP hS dX5_fraction_44 (fun H locs hP hS => ?_)
        exact md_rLv C hr hlk hP hS dX5_fraction_47 (by rw [hga])
      · refine lv_lload hx hb dX5_fraction_13 (lv_at hl 3 rfl) ?_
        refine lv_lload hx hb dX5_fraction_15 (lv_at hl 4 rfl) ?_
        refine lv_lrem hx hb dX5_fraction_17 c_9 ?_
        refine lv_lstore (lv' := [(9, .long (a_ - a_ / b_ * b_)), (0, .ref n), (1, .long ov), (3, .long un_), (5, .long a_), (7, .long b_)]) hx hb dX5_fraction_18 hl (by decide) rfl (fun ls hl => ?_)
        refine lv_lload hx hb dX5_fraction_20 (lv_at hl 5 rfl) ?_
        refine lv_lstore (lv' := [(5, .long b_), (9, .long (a_ - a_ / b_ * b_)), (0, .ref n), (1, .long ov), (3, .long un_), (7, .long b_)]) hx hb dX5_fraction_22 hl (by decide) rfl (fun ls hl => ?_)
        refine lv_lload hx hb dX5_fraction_24 (lv_at hl 1 rfl) ?_
        refine lv_lstore (lv' := [(7, .long (a_ - a_ / b_ * b_)), (5, .long b_), (9, .long (a_ - a_ / b_ * b_)), (0, .ref n), (1, .long ov), (3, .long un_)]) hx hb dX5_fraction_26 hl (by decide) rfl (fun ls hl => ?_)
        refine lv_goto (tgt := 6) hx hb dX5_fraction_28 (by decide) ?_
        exact ih6 _ (by have := rv_rem64_lt (a := a_) (b := b_) c_9; unfold rv_rem64 at this; omega) b_ (a_ - a_ / b_ * b_) rfl (by rw [← hg]; exact (rv_gcd_s c_9).symm) (Or.inr c_9) ls (lv_sub hl [3, 4, 5, 1, 0] rfl)
  refine lv_lload_n hx hb dX5_fraction_0 rfl (lv_at hl 1 rfl) ?_
  refine lv_lstore (lv' := [(5, .long ov), (0, .ref n), (1, .long ov), (3, .long un_)]) hx hb dX5_fraction_1 hl (by decide) rfl (fun ls hl => ?_)
  refine lv_lload_n hx hb dX5_fraction_3 rfl (lv_at hl 3 rfl) ?_
  refine lv_lstore (lv' := [(7, .long un_), (5, .long ov), (0, .ref n), (1, .long ov), (3, .long un_)]) hx hb dX5_fraction_4 hl (by decide) rfl (fun ls hl => ?_)
  exact K6 _ ov un_ rfl rfl (Or.inl hu0) ls (lv_sub hl [2, 3, 4, 1, 0] rfl)
