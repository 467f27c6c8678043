/-! the component's cells: a State is 4 cells, a Shop 43, RentedViews 96; row i of the numbers is what cell i holds -/
set_option maxRecDepth 100000
def stF (dA : Nat → ClassId) (a r : Nat) (f : Nat → Int32) : va_E := if r = 0 then .inr (2, [.ref (a + 1), .ref (a + 2), .int (f 0), .int (f 1), .ref (a + 3), .int (f 2)]) else xI dA (if r = 3 then 36 else 6) f
/-- where a Shop's State of cell i begins -/
def sbO (i : Nat) : Nat := if i < 10 then 6 else 11 + 4 * ((i - 11) / 4)
def sbF (dA : Nat → ClassId) (b : Nat) (V : Nat → Option Nat) (i : Nat) (f : Nat → Int32) : va_E :=
  if i = 0 then .inr (1, [.ref (b + 1), .ref (b + 2), .int (f 0), .ref (b + 3), .ref (b + 4), .int (f 1), .ref (b + 5), .int (f 2), .ref (b + 6), .ref (b + 10), .int (f 3)])
  else if i = 1 then xQ dA 3 6 V
  else if i < 6 then xI dA (if i = 5 then 18 else 6) f
  else if i = 10 then xQ dA 4 8 (fun k => some (b + (11 + 4 * k)))
  else stF dA (b + sbO i) (i - sbO i) f
def stE (dA : Nat → ClassId) (a : Nat) (τ : mdT) (r : Nat) : va_E := stF dA a r (τ r)
def sbE (dA : Nat → ClassId) (b : Nat) (S : mdT) (V : Nat → Option Nat) (i : Nat) : va_E := sbF dA b V i (S i)
/-- RentedViews: the rows 1.. are the shop's, 44.. the one's that lies aside -/
def xF (dA : Nat → ClassId) (n : Nat) (V V2 im : Nat → Option Nat) (ab be : Int64) (i : Nat) (f : Nat → Int32) : va_E :=
  if i = 0 then .inr (0, [.ref (n + 1), .ref (n + 44), .ref (n + 87), .ref (n + 88), .int (f 0), .ref (n + 89), .long ab, .long be, .ref (n + 90), .ref (n + 91), .int (f 1), .int (f 2), .ref (n + 94), .ref (n + 95)])
  else if i < 44 then sbF dA (n + 1) V (i - 1) f
  else if i < 87 then sbF dA (n + 44) V2 (i - 44) f
  else if i = 87 then xQ dA 5 2 im
  else if i = 88 then xY dA 150 f
  else if i = 89 then xI dA 3 f
  else if i = 90 then .inr (3, [.int (f 0), .int (f 1), .int (f 2), .int (f 3), .int (f 4), .ref n])
  else if i = 91 then .inr (4, [.ref (n + 92), .ref (n + 93), .int (f 0), .int (f 1), .int (f 2), .ref n])
  else if i = 94 then xZ dA 36 f
  else xI dA 6 f
def xE (dA : Nat → ClassId) (n : Nat) (ξ : mdT) (V V2 im : Nat → Option Nat) (ab be : Int64) (i : Nat) : va_E := xF dA n V V2 im ab be i (ξ i)
/-- numbers set: the cell whose row changes -/
theorem stE_S (dA : Nat → ClassId) (a : Nat) (τ : mdT) (j k : Nat) (v : Int32) (i : Nat) : va_up (stE dA a τ) j (stF dA a j (upd (τ j) k v)) i = stE dA a (mdS τ j k v) i := by
  by_cases h : i = j
  · subst h; rw [va_up_self]; unfold stE; congr 1; funext q; rw [mdS_at]; simp [upd]
  · rw [va_up_ne _ _ h]; unfold stE; rw [mdS_row _ _ _ h]
theorem sbE_S (dA : Nat → ClassId) (b : Nat) (S : mdT) (V : Nat → Option Nat) (j k : Nat) (v : Int32) (i : Nat) : va_up (sbE dA b S V) j (sbF dA b V j (upd (S j) k v)) i = sbE dA b (mdS S j k v) V i := by
  by_cases h : i = j
  · subst h; rw [va_up_self]; unfold sbE; congr 1; funext q; rw [mdS_at]; simp [upd]
  · rw [va_up_ne _ _ h]; unfold sbE; rw [mdS_row _ _ _ h]
theorem sbE_V (dA : Nat → ClassId) (b : Nat) (S : mdT) (V V' : Nat → Option Nat) (i : Nat) : va_up (sbE dA b S V) 1 (xQ dA 3 6 V') i = sbE dA b S V' i := by
  by_cases h : i = 1
  · subst h; rw [va_up_self]; rfl
  · rw [va_up_ne _ _ h]; unfold sbE sbF; rw [if_neg h, if_neg h]
theorem xE_S (dA : Nat → ClassId) (n : Nat) (ξ : mdT) (V V2 im : Nat → Option Nat) (ab be : Int64) (j k : Nat) (v : Int32) (i : Nat) : va_up (xE dA n ξ V V2 im ab be) j (xF dA n V V2 im ab be j (upd (ξ j) k v)) i = xE dA n (mdS ξ j k v) V V2 im ab be i := by
  by_cases h : i = j
  · subst h; rw [va_up_self]; unfold xE; congr 1; funext q; rw [mdS_at]; simp [upd]
  · rw [va_up_ne _ _ h]; unfold xE; rw [mdS_row _ _ _ h]
/-- a State within a Shop, a Shop within RentedViews -/
theorem sbF_now (dA : Nat → ClassId) (b : Nat) (V : Nat → Option Nat) (f : Nat → Int32) {r : Nat} (h : r < 4) : sbF dA b V (6 + r) f = stF dA (b + 6) r f := by
  unfold sbF
  rw [if_neg (by omega), if_neg (by omega), if_neg (by omega), if_neg (by omega), show sbO (6 + r) = 6 from if_pos (by omega), show 6 + r - 6 = r by omega]
theorem sbF_was (dA : Nat → ClassId) (b : Nat) (V : Nat → Option Nat) (f : Nat → Int32) (k : Nat) {r : Nat} (h : r < 4) : sbF dA b V (11 + 4 * k + r) f = stF dA (b + (11 + 4 * k)) r f := by
  have e : sbO (11 + 4 * k + r) = 11 + 4 * k := by
    unfold sbO
    rw [if_neg (by omega)]
    omega
  unfold sbF
  rw [if_neg (by omega), if_neg (by omega), if_neg (by omega), if_neg (by omega), e, show 11 + 4 * k + r - (11 + 4 * k) = r by omega]
theorem xF_shop (dA : Nat → ClassId) (n : Nat) (V V2 im : Nat → Option Nat) (ab be : Int64) (f : Nat → Int32) {i : Nat} (h : i < 43) : xF dA n V V2 im ab be (1 + i) f = sbF dA (n + 1) V i f := by
  unfold xF
  rw [if_neg (by omega), if_pos (by omega), show 1 + i - 1 = i by omega]
theorem xF_aside (dA : Nat → ClassId) (n : Nat) (V V2 im : Nat → Option Nat) (ab be : Int64) (f : Nat → Int32) {i : Nat} (h : i < 43) : xF dA n V V2 im ab be (44 + i) f = sbF dA (n + 44) V2 i f := by
  unfold xF
  rw [if_neg (by omega), if_neg (by omega), if_pos (by omega), show 44 + i - 44 = i by omega]
/-- rows o.. o+m-1 of the numbers are others -/
def mdI (S : mdT) (o m : Nat) (τ : mdT) : mdT := fun i => if o ≤ i ∧ i < o + m then τ (i - o) else S i
theorem mdI_in (S : mdT) {o m : Nat} (τ : mdT) {r : Nat} (h : r < m) : mdI S o m τ (o + r) = τ r := by
  unfold mdI; rw [if_pos ⟨by omega, by omega⟩, show o + r - o = r by omega]
theorem mdI_out (S : mdT) {o m : Nat} (τ : mdT) {i : Nat} (h : i < o ∨ o + m ≤ i) : mdI S o m τ i = S i := by
  unfold mdI; rw [if_neg (by omega)]
section SUBS
variable {dC : Nat → ClassId} {dI : Nat → Nat → Nat} {dA : Nat → ClassId} {H H1 : Heap}
theorem sb_now {b : Nat} {S : mdT} {V : Nat → Option Nat} (h : bkP dC dI b 43 (sbE dA b S V) H) : bkP dC dI (b + 6) 4 (stE dA (b + 6) (fun r => S (6 + r))) H :=
  (h.sub 6 4 (by decide)).e (fun j hj => sbF_now dA b V _ hj)
theorem sb_was {b : Nat} {S : mdT} {V : Nat → Option Nat} (h : bkP dC dI b 43 (sbE dA b S V) H) {k : Nat} (hk : k < 8) : bkP dC dI (b + (11 + 4 * k)) 4 (stE dA (b + (11 + 4 * k)) (fun r => S (11 + 4 * k + r))) H :=
  (h.sub (11 + 4 * k) 4 (by omega)).e (fun j hj => sbF_was dA b V _ k hj)
theorem x_shop {n : Nat} {ξ : mdT} {V V2 im : Nat → Option Nat} {ab be : Int64} (h : bkP dC dI n 96 (xE dA n ξ V V2 im ab be) H) : bkP dC dI (n + 1) 43 (sbE dA (n + 1) (fun i => ξ (1 + i)) V) H :=
  (h.sub 1 43 (by decide)).e (fun j hj => xF_shop dA n V V2 im ab be _ hj)
theorem x_aside {n : Nat} {ξ : mdT} {V V2 im : Nat → Option Nat} {ab be : Int64} (h : bkP dC dI n 96 (xE dA n ξ V V2 im ab be) H) : bkP dC dI (n + 44) 43 (sbE dA (n + 44) (fun i => ξ (44 + i)) V2) H :=
  (h.sub 44 43 (by decide)).e (fun j hj => xF_aside dA n V V2 im ab be _ hj)
/-- a part of a block changed, the rest kept -/
theorem bkP.part {b N o M : Nat} {E E' F : Nat → va_E} (h : bkP dC dI b N E H) (g : bkP dC dI (b + o) M F H1) (hk : ∀ q, bkA b N q → ¬ bkA (b + o) M q → H1[q]? = H[q]?) (hi : ∀ j, j < M → F j = E' (o + j)) (ho : ∀ j, j < N → (j < o ∨ o + M ≤ j) → E j = E' j) : bkP dC dI b N E' H1 := by
  intro j hj
  by_cases hin : o ≤ j ∧ j < o + M
  · have := g (j - o) (by omega)
    rw [hi (j - o) (by omega), show b + o + (j - o) = b + j by omega, show o + (j - o) = j by omega] at this
    exact this
  · rw [← ho j hj (by omega)]
    refine (h j hj).kept (hk _ ⟨by show b ≤ b + j; omega, by show b + j < b + N; omega⟩ (fun z => ?_))
    obtain ⟨z1, z2⟩ := z
    have z1 : b + o ≤ b + j := z1
    have z2 : b + j < b + o + M := z2
    omega
theorem sb_nowI {b : Nat} {S τ : mdT} {V : Nat → Option Nat} (h : bkP dC dI b 43 (sbE dA b S V) H) (g : bkP dC dI (b + 6) 4 (stE dA (b + 6) τ) H1) (hk : ∀ q, bkA b 43 q → ¬ bkA (b + 6) 4 q → H1[q]? = H[q]?) : bkP dC dI b 43 (sbE dA b (mdI S 6 4 τ) V) H1 :=
  h.part g hk (fun j hj => by unfold stE sbE; rw [mdI_in _ _ hj, sbF_now _ _ _ _ hj]) (fun j hj ho => by unfold sbE; rw [mdI_out _ _ ho])
theorem sb_wasI {b : Nat} {S τ : mdT} {V : Nat → Option Nat} {k : Nat} (hk8 : k < 8) (h : bkP dC dI b 43 (sbE dA b S V) H) (g : bkP dC dI (b + (11 + 4 * k)) 4 (stE dA (b + (11 + 4 * k)) τ) H1) (hk : ∀ q, bkA b 43 q → ¬ bkA (b + (11 + 4 * k)) 4 q → H1[q]? = H[q]?) : bkP dC dI b 43 (sbE dA b (mdI S (11 + 4 * k) 4 τ) V) H1 :=
  h.part g hk (fun j hj => by unfold stE sbE; rw [mdI_in _ _ hj, sbF_was _ _ _ _ _ hj]) (fun j hj ho => by unfold sbE; rw [mdI_out _ _ ho])
theorem x_shopI {n : Nat} {ξ S : mdT} {V V' V2 im : Nat → Option Nat} {ab be : Int64} (h : bkP dC dI n 96 (xE dA n ξ V V2 im ab be) H) (g : bkP dC dI (n + 1) 43 (sbE dA (n + 1) S V') H1) (hk : ∀ q, bkA n 96 q → ¬ bkA (n + 1) 43 q → H1[q]? = H[q]?) : bkP dC dI n 96 (xE dA n (mdI ξ 1 43 S) V' V2 im ab be) H1 :=
  h.part g hk (fun j hj => by unfold sbE xE; rw [mdI_in _ _ hj, xF_shop _ _ _ _ _ _ _ _ hj]) (fun j hj ho => by
    unfold xE
    rw [mdI_out _ _ ho]
    unfold xF
    by_cases h0 : j = 0
    · rw [if_pos h0, if_pos h0]
    · have h4 : ¬ j < 44 := by omega
      rw [if_neg h0, if_neg h0, if_neg h4, if_neg h4])
theorem x_asideI {n : Nat} {ξ S : mdT} {V V2 V2' im : Nat → Option Nat} {ab be : Int64} (h : bkP dC dI n 96 (xE dA n ξ V V2 im ab be) H) (g : bkP dC dI (n + 44) 43 (sbE dA (n + 44) S V2') H1) (hk : ∀ q, bkA n 96 q → ¬ bkA (n + 44) 43 q → H1[q]? = H[q]?) : bkP dC dI n 96 (xE dA n (mdI ξ 44 43 S) V V2' im ab be) H1 :=
  h.part g hk (fun j hj => by unfold sbE xE; rw [mdI_in _ _ hj, xF_aside _ _ _ _ _ _ _ _ hj]) (fun j hj ho => by
    unfold xE
    rw [mdI_out _ _ ho]
    unfold xF
    by_cases h0 : j = 0
    · rw [if_pos h0, if_pos h0]
    · rw [if_neg h0, if_neg h0]
      by_cases h1 : j < 44
      · rw [if_pos h1, if_pos h1]
      · have h4 : ¬ j < 87 := by omega
        rw [if_neg h1, if_neg h1, if_neg h4, if_neg h4])
end SUBS
/-- cells by a list -/
def lsE (L : List va_E) (j : Nat) : va_E := L.getD j (.inr (0, []))
theorem lsE_set {L L' : List va_E} {j : Nat} {x : va_E} (h : L.set j x = L') (hj : j < L.length) : ∀ i, va_up (lsE L) j x i = lsE L' i := fun i => by
  subst h
  unfold lsE
  by_cases e : i = j
  · subst e; rw [va_up_self]; simp [hj]
  · rw [va_up_ne _ _ e]; simp [List.getElem?_set, Ne.symm e]
theorem lsE_push {L L' : List va_E} {j : Nat} {x : va_E} (h : L ++ [x] = L') (hj : j = L.length) : ∀ i, i < j + 1 → va_up (lsE L) j x i = lsE L' i := fun i hi => by
  subst h
  subst hj
  unfold lsE
  by_cases e : i = L.length
  · subst e; rw [va_up_self]; simp
  · rw [va_up_ne _ _ e]; simp [List.getElem?_append, show i < L.length by omega]
