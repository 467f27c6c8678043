/-! bits (rows of the kit's BITS.to-paste, then mine), picking, coming -/
set_option maxRecDepth 100000
def bt (x : Int32) (i : Nat) : Bool := x.toBitVec.getLsbD i
theorem b_ext {x y : Int32} (h : ∀ i, i < 32 → bt x i = bt y i) : x = y := Int32.toBitVec_inj.mp (BitVec.eq_of_getLsbD_eq (fun i hi => h i hi))
theorem b_or (x y : Int32) (i : Nat) : bt (x ||| y) i = (bt x i || bt y i) := by unfold bt; rw [Int32.toBitVec_or, BitVec.getLsbD_or]
theorem b_and (x y : Int32) (i : Nat) : bt (x &&& y) i = (bt x i && bt y i) := by unfold bt; rw [Int32.toBitVec_and, BitVec.getLsbD_and]
theorem b_xor (x y : Int32) (i : Nat) : bt (x ^^^ y) i = (bt x i ^^ bt y i) := by unfold bt; rw [Int32.toBitVec_xor, BitVec.getLsbD_xor]
theorem b_big {x : Int32} {i : Nat} (h : 32 ≤ i) : bt x i = false := BitVec.getLsbD_of_ge _ _ h
theorem b_m1 : ∀ i, i < 32 → bt (-1) i = true := by decide +kernel
theorem b_0 (i : Nat) : bt 0 i = false := BitVec.getLsbD_zero
theorem s_l : ∀ n, n < 32 → ((nI n &&& 31).toBitVec.smod 32).toNat = n := by decide +kernel
theorem b_shl (n : Nat) (hn : n < 32) (x : Int32) {i : Nat} (hi : i < 32) : bt (x <<< (nI n &&& 31)) i = (decide (n ≤ i) && bt x (i - n)) := by
  unfold bt
  rw [Int32.toBitVec_shiftLeft]
  show (x.toBitVec <<< ((nI n &&& 31).toBitVec.smod 32).toNat).getLsbD i = _
  rw [s_l n hn, BitVec.getLsbD_shiftLeft]
  rcases Nat.lt_or_ge i n with h | h
  · simp [h, Nat.not_le.mpr h]
  · simp [hi, h, Nat.not_lt.mpr h]
theorem b_sshr (n : Nat) (hn : n < 32) (x : Int32) {i : Nat} (hi : i < 32) : bt (x >>> (nI n &&& 31)) i = if n + i < 32 then bt x (n + i) else bt x 31 := by
  unfold bt
  rw [Int32.toBitVec_shiftRight]
  show (x.toBitVec.sshiftRight ((nI n &&& 31).toBitVec.smod 32).toNat).getLsbD i = _
  rw [s_l n hn, BitVec.getLsbD_sshiftRight, BitVec.msb_eq_getLsbD_last]
  simp [hi]
theorem b_one : ∀ i, i < 32 → bt 1 i = decide (i = 0) := by decide +kernel
theorem b_bit {v : Nat} (hv : v < 32) {i : Nat} (hi : i < 32) : bt ((1 : Int32) <<< (nI v &&& 31)) i = decide (i = v) := by
  rw [b_shl v hv 1 hi]
  by_cases h : v ≤ i
  · rw [decide_eq_true h, Bool.true_and, b_one (i - v) (by omega)]
    by_cases h2 : i = v
    · rw [decide_eq_true h2, decide_eq_true (by omega)]
    · rw [decide_eq_false h2, decide_eq_false (by omega)]
  · rw [decide_eq_false h, Bool.false_and, decide_eq_false (by omega)]
theorem b_zero {x : Int32} (h : x = 0) (i : Nat) : bt x i = false := by rw [h]; exact b_0 i
theorem b_tst {x : Int32} {v : Nat} (hv : v < 32) : x &&& ((1 : Int32) <<< (nI v &&& 31)) = 0 ↔ bt x v = false := by
  constructor
  · intro h
    have h2 := b_zero h v
    rw [b_and, b_bit hv hv, decide_eq_true rfl, Bool.and_true] at h2
    exact h2
  · intro h
    refine b_ext (fun i hi => ?_)
    rw [b_and, b_bit hv hi, b_0]
    by_cases e : i = v
    · rw [e, h, Bool.false_and]
    · rw [decide_eq_false e, Bool.and_false]
theorem b_low {x : Int32} {v : Nat} (hv : v < 32) : (x >>> (nI v &&& 31)) &&& 1 = rb_i (bt x v) := by
  refine b_ext (fun i hi => ?_)
  rw [b_and, b_one i hi, b_sshr v hv x hi]
  by_cases e : i = 0
  · subst e
    rw [if_pos (by omega), Nat.add_zero]
    cases bt x v
    · exact (b_0 0).symm
    · exact (b_one 0 (by decide)).symm
  · rw [decide_eq_false e, Bool.and_false]
    cases bt x v
    · exact (b_0 i).symm
    · show false = bt 1 i
      rw [b_one i hi, decide_eq_false e]
theorem b_low1 {x : Int32} {v : Nat} (hv : v < 32) : (x >>> (nI v &&& 31)) &&& 1 = 1 ↔ bt x v = true := by
  rw [b_low hv]
  cases bt x v <;> decide
theorem b_low0 {x : Int32} {v : Nat} (hv : v < 32) : (x >>> (nI v &&& 31)) &&& 1 = 0 ↔ bt x v = false := by
  rw [b_low hv]
  cases bt x v <;> decide
theorem b_mask {p : Nat → Bool} : ∀ {n : Nat}, n ≤ 32 → ∀ i, i < 32 → bt (rv_mask p n) i = (decide (i < n) && p i)
  | 0, _, i, _ => by rw [rv_mask, b_0, decide_eq_false (by omega), Bool.false_and]
  | n + 1, hn, i, hi => by
    rw [rv_mask, b_or, b_mask (by omega) i hi]
    by_cases e : i = n
    · subst e
      rw [decide_eq_false (by omega), Bool.false_and, Bool.false_or, decide_eq_true (by omega), Bool.true_and]
      cases h : p i
      · rw [if_neg (by decide), b_0]
      · rw [if_pos rfl, b_bit hi hi, decide_eq_true rfl]
    · have e2 : bt (if p n = true then (1 : Int32) <<< (nI n &&& 31) else 0) i = false := by
        cases h : p n
        · rw [if_neg (by decide), b_0]
        · rw [if_pos rfl, b_bit (by omega) hi, decide_eq_false e]
      rw [e2, Bool.or_false]
      by_cases h : i < n
      · rw [decide_eq_true h, decide_eq_true (by omega)]
      · rw [decide_eq_false h, decide_eq_false (by omega)]
theorem b_all : ∀ n, n < 8 → ∀ i, i < 32 → bt ((1 : Int32) <<< (nI n &&& 31) - nI 1) i = decide (i < n) := by decide +kernel
theorem b_all1 : ∀ n, n < 8 → (1 : Int32) <<< (nI n &&& 31) - nI 1 = nI (2 ^ n - 1) := by decide +kernel
theorem b_not {x : Int32} {i : Nat} (hi : i < 32) : bt (x ^^^ (-1)) i = !bt x i := by
  rw [b_xor, b_m1 i hi]
  cases bt x i <;> rfl
/-- the dearest of those that have M, the first of equal ones; none -/
def rv_pick (M : Nat → Bool) (cost : Nat → Int32) : Nat → Int32
  | 0 => -1
  | n + 1 => if M n = true then (if rv_pick M cost n = -1 then nI n else if cost (rv_cl (rv_pick M cost n)) < cost n then nI n else rv_pick M cost n) else rv_pick M cost n
theorem rv_pick_ne {M : Nat → Bool} {cost : Nat → Int32} : ∀ {n : Nat}, rv_pick M cost n ≠ -1 → ∃ j, j < n ∧ rv_pick M cost n = nI j
  | 0, h => absurd rfl h
  | n + 1, h => by
    rw [rv_pick] at h ⊢
    by_cases h1 : M n = true
    · rw [if_pos h1] at h ⊢
      by_cases h2 : rv_pick M cost n = -1
      · exact ⟨n, by omega, by rw [if_pos h2]⟩
      · rw [if_neg h2] at h ⊢
        by_cases h3 : cost (rv_cl (rv_pick M cost n)) < cost n
        · exact ⟨n, by omega, by rw [if_pos h3]⟩
        · rw [if_neg h3] at h ⊢
          obtain ⟨j, g1, g2⟩ := rv_pick_ne h
          exact ⟨j, by omega, g2⟩
    · rw [if_neg h1] at h ⊢
      obtain ⟨j, g1, g2⟩ := rv_pick_ne h
      exact ⟨j, by omega, g2⟩
theorem rv_pick_c {M M' : Nat → Bool} {cost cost' : Nat → Int32} : ∀ {n : Nat}, n < 2 ^ 31 → (∀ v, v < n → M v = M' v) → (∀ v, v < n → cost v = cost' v) → rv_pick M cost n = rv_pick M' cost' n
  | 0, _, _, _ => rfl
  | n + 1, hn, h, g => by
    have ih := rv_pick_c (n := n) (by omega) (fun v hv => h v (by omega)) (fun v hv => g v (by omega))
    rw [rv_pick, rv_pick, ih, h n (by omega), g n (by omega)]
    by_cases e : rv_pick M' cost' n = -1
    · rw [if_pos e, if_pos e]
    · obtain ⟨j, g1, g2⟩ := rv_pick_ne e
      rw [g2, rv_cln (by omega), g j (by omega)]
def rv_best1 (M : Nat → Bool) (cost : Nat → Int32) (many : Nat) (w : Bool) : Int32 := if w = true then rv_pick M cost many else -1
/-- renters come one behind the other: which views are free still, how many are suited, how much is paid -/
def rv_come (S : Nat → Nat → Bool) (cost : Nat → Int32) (who : Nat → Bool) (many : Nat) : Nat → (Nat → Bool) × Int32 × Int32
  | 0 => (fun _ => true, 0, 0)
  | r + 1 => if rv_best1 (fun v => (rv_come S cost who many r).1 v && S v r) cost many (who r) = -1 then rv_come S cost who many r else
    (fun v => (rv_come S cost who many r).1 v && !decide (v = rv_cl (rv_best1 (fun v => (rv_come S cost who many r).1 v && S v r) cost many (who r))), (rv_come S cost who many r).2.1 + 1, (rv_come S cost who many r).2.2 + cost (rv_cl (rv_best1 (fun v => (rv_come S cost who many r).1 v && S v r) cost many (who r))))
theorem rv_best1_ne {M : Nat → Bool} {cost : Nat → Int32} {n : Nat} {w : Bool} (h : rv_best1 M cost n w ≠ -1) : ∃ j, j < n ∧ rv_best1 M cost n w = nI j := by
  unfold rv_best1 at h ⊢
  cases w
  · exact absurd (if_neg (by decide)) h
  · rw [if_pos rfl] at h ⊢; exact rv_pick_ne h
theorem rv_come_c {S S' : Nat → Nat → Bool} {cost cost' : Nat → Int32} {who who' : Nat → Bool} {many : Nat} (hm : many < 2 ^ 31) (g : ∀ v, v < many → cost v = cost' v) : ∀ {rent : Nat}, (∀ v r, v < many → r < rent → S v r = S' v r) → (∀ r, r < rent → who r = who' r) → rv_come S cost who many rent = rv_come S' cost' who' many rent
  | 0, _, _ => rfl
  | r + 1, h, hw => by
    have ih := rv_come_c (rent := r) hm g (fun v q h1 h2 => h v q h1 (by omega)) (fun q h1 => hw q (by omega))
    have e : rv_best1 (fun v => (rv_come S' cost' who' many r).1 v && S v r) cost many (who' r) = rv_best1 (fun v => (rv_come S' cost' who' many r).1 v && S' v r) cost' many (who' r) := by
      unfold rv_best1
      rw [rv_pick_c hm (fun v hv => by rw [h v r hv (by omega)]) g]
    rw [rv_come, rv_come, ih, hw r (by omega), e]
    by_cases c : rv_best1 (fun v => (rv_come S' cost' who' many r).1 v && S' v r) cost' many (who' r) = -1
    · rw [if_pos c, if_pos c]
    · obtain ⟨j, g1, g2⟩ := rv_best1_ne c
      rw [if_neg c, if_neg c, g2, rv_cln (by omega), g j g1]
/-- the greatest common divisor, as both sides find it -/
def rv_rem64 (a b : Int64) : Int64 := a - a / b * b
def rv_gcdF : Nat → Int64 → Int64 → Int64
  | 0, a, _ => a
  | k + 1, a, b => if b = 0 then a else rv_gcdF k b (rv_rem64 a b)
theorem rv_rem64_lt {a b : Int64} (hb : b ≠ 0) : (rv_rem64 a b).toInt.natAbs < b.toInt.natAbs := by
  have hb0 : b.toInt ≠ 0 := fun h => hb (Int64.toInt_inj.mp (by rw [h]; rfl))
  have h1 : (rv_rem64 a b).toInt = (a.toInt.tmod b.toInt).bmod (2 ^ 64) := by
    unfold rv_rem64
    rw [Int64.toInt_sub, Int64.toInt_mul, Int64.toInt_div, Int.sub_bmod_bmod, Int.sub_bmod, Int.bmod_mul_bmod, ← Int.sub_bmod, Int.tmod_def, Int.mul_comm b.toInt]
  have h2 : (a.toInt.tmod b.toInt).natAbs < b.toInt.natAbs := by
    rw [Int.natAbs_tmod]
    exact Nat.mod_lt _ (Int.natAbs_pos.mpr hb0)
  have h3 : b.toInt.natAbs ≤ 2 ^ 63 := by
    have := b.le_toInt
    have := b.toInt_lt
    omega
  rw [h1, Int.bmod_eq_of_le (by omega) (by omega)]
  exact h2
def rv_gcd (a b : Int64) : Int64 := rv_gcdF (b.toInt.natAbs + 1) a b
theorem rv_gcdF_s : ∀ (k : Nat) (a b : Int64), b.toInt.natAbs < k → ∀ j, b.toInt.natAbs < j → rv_gcdF k a b = rv_gcdF j a b
  | 0, _, _, h, _, _ => absurd h (Nat.not_lt_zero _)
  | k + 1, a, b, h, 0, g => absurd g (Nat.not_lt_zero _)
  | k + 1, a, b, h, j + 1, g => by
    rw [rv_gcdF, rv_gcdF]
    by_cases e : b = 0
    · rw [if_pos e, if_pos e]
    · have := rv_rem64_lt (a := a) e
      rw [if_neg e, if_neg e, rv_gcdF_s k b _ (by omega) j (by omega)]
theorem rv_gcd_s {a b : Int64} (h : b ≠ 0) : rv_gcd a b = rv_gcd b (rv_rem64 a b) := by
  have := rv_rem64_lt (a := a) h
  rw [rv_gcd, rv_gcdF, if_neg h, rv_gcd]
  exact rv_gcdF_s _ _ _ (by omega) _ (by omega)
theorem rv_gcd_0 (a : Int64) : rv_gcd a 0 = a := rfl
