/-! what is best: all rows, renter by renter, none ahead of views by number -/
set_option maxRecDepth 100000
abbrev rvB : Type := Int32 × Int32 × (Nat → Int32)
def rv_cntr (row : Nat → Int32) : Nat → Int32
  | 0 => 0
  | r + 1 => rv_cntr row r + (if row r = -1 then 0 else 1)
def rv_monr (cost row : Nat → Int32) : Nat → Int32
  | 0 => 0
  | r + 1 => rv_monr cost row r + (if row r = -1 then 0 else cost (rv_cl (row r)))
/-- a row is judged: more, or as many for more money -/
def rv_judge (cost : Nat → Int32) (rent : Nat) (row : Nat → Int32) (B : rvB) : rvB :=
  if B.1 < rv_cntr row rent then (rv_cntr row rent, rv_monr cost row rent, fun i => if i < rent then row i else 0)
  else if rv_cntr row rent = B.1 then (if rv_monr cost row rent ≤ B.2.1 then B else (rv_cntr row rent, rv_monr cost row rent, fun i => if i < rent then row i else 0)) else B
def rv_taken (row : Nat → Int32) : Nat → Nat → Bool
  | 0, _ => false
  | r + 1, v => rv_taken row r v || decide (row r = nI v)
def rv_for (F : Nat → rvB → rvB) : Nat → rvB → rvB
  | 0, B => B
  | n + 1, B => F n (rv_for F n B)
/-- all rows from renter r on, k renters left -/
def rv_try (S : Nat → Nat → Bool) (cost : Nat → Int32) (many : Nat) : Nat → Nat → (Nat → Int32) → rvB → rvB
  | 0, r, row, B => rv_judge cost r row B
  | k + 1, r, row, B => rv_for (fun v B => if (!rv_taken row r v && S v r) = true then rv_try S cost many k (r + 1) (upd row r (nI v)) B else B) many (rv_try S cost many k (r + 1) (upd row r (-1)) B)
abbrev rv_F (S : Nat → Nat → Bool) (cost : Nat → Int32) (many k r : Nat) (row : Nat → Int32) (v : Nat) (B : rvB) : rvB := if (!rv_taken row r v && S v r) = true then rv_try S cost many k (r + 1) (upd row r (nI v)) B else B
theorem rv_try_s (S : Nat → Nat → Bool) (cost : Nat → Int32) (many k r : Nat) (row : Nat → Int32) (B : rvB) : rv_try S cost many (k + 1) r row B = rv_for (rv_F S cost many k r row) many (rv_try S cost many k (r + 1) (upd row r (-1)) B) := rfl
theorem rv_cntr_c {row row' : Nat → Int32} : ∀ {r : Nat}, (∀ i, i < r → row i = row' i) → rv_cntr row r = rv_cntr row' r
  | 0, _ => rfl
  | r + 1, h => by rw [rv_cntr, rv_cntr, rv_cntr_c (fun i hi => h i (by omega)), h r (by omega)]
theorem rv_monr_c {cost cost' row row' : Nat → Int32} {many : Nat} (hm : many ≤ 100) (hc : ∀ v, v < many → cost v = cost' v) : ∀ {r : Nat}, (∀ i, i < r → row i = row' i) → (∀ i, i < r → row i = -1 ∨ ∃ v, v < many ∧ row i = nI v) → rv_monr cost row r = rv_monr cost' row' r
  | 0, _, _ => rfl
  | r + 1, h, g => by
    rw [rv_monr, rv_monr, rv_monr_c hm hc (fun i hi => h i (by omega)) (fun i hi => g i (by omega)), ← h r (by omega)]
    rcases g r (by omega) with e | ⟨v, hv, e⟩
    · rw [if_pos e, if_pos e]
    · rw [e, rv_cln (by omega), hc v hv]
theorem rv_taken_c {row row' : Nat → Int32} : ∀ {r : Nat}, (∀ i, i < r → row i = row' i) → ∀ v, rv_taken row r v = rv_taken row' r v
  | 0, _, _ => rfl
  | r + 1, h, v => by rw [rv_taken, rv_taken, rv_taken_c (fun i hi => h i (by omega)), h r (by omega)]
theorem rv_for_c {F G : Nat → rvB → rvB} : ∀ {n : Nat}, (∀ v B, v < n → F v B = G v B) → ∀ B, rv_for F n B = rv_for G n B
  | 0, _, _ => rfl
  | n + 1, h, B => by rw [rv_for, rv_for, rv_for_c (fun v B hv => h v B (by omega)), h n _ (by omega)]
def rv_okrow (many : Nat) (row : Nat → Int32) (r : Nat) : Prop := ∀ i, i < r → row i = -1 ∨ ∃ v, v < many ∧ row i = nI v
theorem rv_okrow.up {many : Nat} {row : Nat → Int32} {r : Nat} (h : rv_okrow many row r) {x : Int32} (hx : x = -1 ∨ ∃ v, v < many ∧ x = nI v) : rv_okrow many (upd row r x) (r + 1) := by
  intro i hi
  unfold upd
  by_cases e : i = r
  · rw [if_pos e]; exact hx
  · rw [if_neg e]; exact h i (by omega)
/-- it is told by what suits, what is paid, and the row up to r -/
theorem rv_try_c {S S' : Nat → Nat → Bool} {cost cost' : Nat → Int32} {many : Nat} (hm : many ≤ 100) (hc : ∀ v, v < many → cost v = cost' v) : ∀ {k r : Nat} {row row' : Nat → Int32}, (∀ v q, v < many → q < r + k → S v q = S' v q) → (∀ i, i < r → row i = row' i) → rv_okrow many row r → ∀ B, rv_try S cost many k r row B = rv_try S' cost' many k r row' B
  | 0, r, row, row', _, h, g, B => by
    rw [rv_try, rv_try, rv_judge, rv_judge, rv_cntr_c h, rv_monr_c hm hc h g]
    have e : (fun i => if i < r then row i else 0) = (fun i => if i < r then row' i else 0) := by
      funext i
      by_cases hi : i < r
      · rw [if_pos hi, if_pos hi, h i hi]
      · rw [if_neg hi, if_neg hi]
    rw [e]
  | k + 1, r, row, row', hS, h, g, B => by
    have up : ∀ x : Int32, ∀ i, i < r + 1 → upd row r x i = upd row' r x i := by
      intro x i hi
      unfold upd
      by_cases e : i = r
      · rw [if_pos e, if_pos e]
      · rw [if_neg e, if_neg e, h i (by omega)]
    rw [rv_try_s, rv_try_s, rv_try_c hm hc (fun v q h1 h2 => hS v q h1 (by omega)) (up (-1)) (g.up (Or.inl rfl))]
    refine rv_for_c (fun v B hv => ?_) _
    unfold rv_F
    rw [rv_taken_c h v, hS v r hv (by omega), rv_try_c hm hc (fun v q h1 h2 => hS v q h1 (by omega)) (up (nI v)) (g.up (Or.inr ⟨v, hv, rfl⟩))]
theorem rv_cntr_nn : ∀ {row : Nat → Int32} {r : Nat}, r ≤ 100 → ∃ q : Nat, q ≤ r ∧ rv_cntr row r = nI q
  | _, 0, _ => ⟨0, by omega, rfl⟩
  | row, r + 1, h => by
    obtain ⟨q, h1, h2⟩ := rv_cntr_nn (row := row) (r := r) (by omega)
    rw [rv_cntr, h2]
    by_cases e : row r = -1
    · exact ⟨q, by omega, by rw [if_pos e, Int32.add_zero]⟩
    · exact ⟨q + 1, by omega, by rw [if_neg e, nI_1]⟩
/-- the first row is always better than none -/
theorem rv_try_first {S : Nat → Nat → Bool} {cost : Nat → Int32} {many : Nat} : ∀ {k r : Nat} {row : Nat → Int32}, r + k ≤ 100 → ∀ (m m' : Int32) (f f' : Nat → Int32), rv_try S cost many k r row (-1, m, f) = rv_try S cost many k r row (-1, m', f')
  | 0, r, row, h, m, m', f, f' => by
    obtain ⟨q, h1, h2⟩ := rv_cntr_nn (row := row) (r := r) (by omega)
    have hl : (-1 : Int32) < rv_cntr row r := by
      rw [h2, Int32.lt_iff_toInt_lt, nI_toInt (by omega)]
      show (-1 : Int) < _
      omega
    rw [rv_try, rv_try, rv_judge, rv_judge, if_pos hl, if_pos hl]
  | k + 1, r, row, h, m, m', f, f' => by
    rw [rv_try_s, rv_try_s, rv_try_first (k := k) (r := r + 1) (by omega) m m' f f']
/-- the views that the first r renters have not -/
def rv_fb (row : Nat → Int32) (many : Nat) : Nat → Int32
  | 0 => (1 : Int32) <<< (nI many &&& 31) - nI 1
  | r + 1 => rv_fb row many r &&& (if row r = -1 then -1 else ((1 : Int32) <<< (row r &&& 31)) ^^^ (-1))
theorem rv_fb_b {row : Nat → Int32} {many : Nat} (hm : many ≤ 6) : ∀ {r : Nat}, rv_okrow many row r → ∀ v, v < many → bt (rv_fb row many r) v = !rv_taken row r v
  | 0, _, v, hv => by rw [rv_fb, b_all many (by omega) v (by omega), decide_eq_true hv]; rfl
  | r + 1, h, v, hv => by
    rw [rv_fb, b_and, rv_fb_b hm (fun i hi => h i (by omega)) v hv, rv_taken, Bool.not_or]
    congr 1
    rcases h r (by omega) with e | ⟨w, hw, e⟩
    · rw [if_pos e, b_m1 v (by omega), e]
      rw [decide_eq_false (fun z => by
        have h1 : (-1 : Int32).toInt = (nI v).toInt := congrArg Int32.toInt z
        rw [nI_toInt (by omega)] at h1
        have h2 : (-1 : Int32).toInt = -1 := rfl
        omega)]
      rfl
    · have hne : ¬ row r = -1 := fun z => by
        have h1 : (nI w).toInt = (-1 : Int32).toInt := congrArg Int32.toInt (e.symm.trans z)
        rw [nI_toInt (by omega)] at h1
        have h2 : (-1 : Int32).toInt = -1 := rfl
        omega
      rw [if_neg hne, e, b_not (by omega), b_bit (by omega) (by omega)]
      by_cases hvw : v = w
      · rw [decide_eq_true hvw, decide_eq_true (by rw [hvw])]
      · rw [decide_eq_false hvw, decide_eq_false (fun z => hvw ((nI_eq (by omega) (by omega)).mp z).symm)]
/-- the next view that has M -/
def rv_nx (M : Nat → Bool) : Nat → Nat → Nat
  | 0, c => c
  | k + 1, c => if M c = true then c else rv_nx M k (c + 1)
theorem rv_nx_p {M : Nat → Bool} : ∀ (k c : Nat), c ≤ rv_nx M k c ∧ rv_nx M k c ≤ c + k ∧ (∀ v, c ≤ v → v < rv_nx M k c → M v = false) ∧ (rv_nx M k c < c + k → M (rv_nx M k c) = true)
  | 0, c => ⟨Nat.le_refl _, by rw [rv_nx]; omega, fun v h1 h2 => by rw [rv_nx] at h2; omega, fun h => by rw [rv_nx] at h; omega⟩
  | k + 1, c => by
    rw [rv_nx]
    by_cases e : M c = true
    · rw [if_pos e]
      exact ⟨Nat.le_refl _, by omega, fun v h1 h2 => by omega, fun _ => e⟩
    · rw [if_neg e]
      obtain ⟨h1, h2, h3, h4⟩ := rv_nx_p (M := M) k (c + 1)
      refine ⟨by omega, by omega, fun v g1 g2 => ?_, fun g => h4 (by omega)⟩
      rcases Nat.lt_or_ge c v with q | q
      · exact h3 v q g2
      · rw [show v = c by omega]; exact (Bool.not_eq_true _).mp e
/-- nothing happens at those that have no M -/
theorem rv_for_skip {F : Nat → rvB → rvB} : ∀ (n c : Nat) (B : rvB), (∀ v B, c ≤ v → v < c + n → F v B = B) → rv_for F (c + n) B = rv_for F c B
  | 0, c, B, _ => rfl
  | n + 1, c, B, h => by
    rw [← Nat.add_assoc, rv_for, h (c + n) _ (by omega) (by omega)]
    exact rv_for_skip n c B (fun v B h1 h2 => h v B h1 (by omega))
/-- the Model's best, as it lies in its numbers -/
def mdBst (hand : Nat) (σ : mdT) (B : rvB) : Prop := σ 15 1 = B.1 ∧ σ 15 2 = B.2.1 ∧ ∀ i, i < hand → σ 10 i = B.2.2 i
