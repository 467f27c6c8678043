/-! what a Shop's cells and the Model's numbers have to do with one another -/
set_option maxRecDepth 100000
/-- a State's rows (0: takings, evening, told; 1 purses; 2 let; 3 history) and 51 numbers of the Model's -/
def stR (c many rent : Nat) (τ : mdT) (g : Nat → Int32) (hs ev : Nat) : Prop :=
  hs ≤ 12 ∧ ev ≤ c ∧ g 14 = nI hs ∧ g 12 = nI ev ∧ τ 0 0 = g 13 ∧ τ 0 1 = nI ev ∧ τ 0 2 = nI hs ∧ (∀ r, r < rent → τ 1 r = g r) ∧ (∀ v, v < many → τ 2 v = g (6 + v)) ∧ (∀ k, k < 3 * hs → τ 3 k = g (15 + k)) ∧ ∀ k, k < hs → g (15 + 3 * k + 2) ≠ -1
def shR (c many rent rd un hs ev : Nat) (f : Nat → Int32) (S : mdT) : Prop :=
  (many ≤ 6 ∧ rent ≤ 6 ∧ rd ≤ 6 ∧ un ≤ 8) ∧ (f 0 = nI many ∧ f 1 = nI rent ∧ f 5 = nI rd ∧ f 6 = nI un) ∧ (S 0 0 = nI many ∧ S 0 1 = nI rent ∧ S 0 2 = nI rd ∧ S 0 3 = nI un) ∧ (∀ v, v < many → S 2 v = f (7 + 6 * v + 5)) ∧ (∀ r, r < rent → S 3 r = f (43 + 3 * r) ∧ S 4 r = f (43 + 3 * r + 2)) ∧ (∀ k, k < 3 * rd → S 5 k = f (97 + k)) ∧ stR c many rent (fun r => S (6 + r)) (rv_snap f) hs ev ∧ ∀ k, k < un → ∃ hs2 ev2, stR c many rent (fun r => S (11 + 4 * k + r)) (fun j => f (115 + 51 * k + j)) hs2 ev2
/-- the views: those that are there hold the Model's numbers; the others are views too -/
def shV (dC : Nat → ClassId) (dI : Nat → Nat → Nat) (T : Nat → Prop) (many : Nat) (f : Nat → Int32) (V : Nat → Option Nat) (H : Heap) : Prop :=
  (∀ v, v < 6 → ∀ a, V v = some a → T a ∧ ∃ kd sz pr we, kd < 6 ∧ vwP dC dI a kd sz pr we H) ∧ ∀ v, v < many → ∃ a kd, V v = some a ∧ T a ∧ kd < 6 ∧ f (7 + 6 * v) = nI kd ∧ vwP dC dI a kd (f (7 + 6 * v + 1)) (f (7 + 6 * v + 2)) (f (7 + 6 * v + 3)) H
def shC (dC : Nat → ClassId) (dI : Nat → Nat → Nat) (dA : Nat → ClassId) (c : Nat) (T : Nat → Prop) (b : Nat) (f : Nat → Int32) (H : Heap) : Prop :=
  ∃ (S : mdT) (V : Nat → Option Nat) (many rent rd un hs ev : Nat), bkP dC dI b 43 (sbE dA b S V) H ∧ shR c many rent rd un hs ev f S ∧ shV dC dI T many f V H
/-- the shop that lies aside -/
def asR (dC : Nat → ClassId) (dI : Nat → Nat → Nat) (c : Nat) (T : Nat → Prop) (S : mdT) (V : Nat → Option Nat) (H : Heap) : Prop :=
  ∃ (f : Nat → Int32) (many rent rd un hs ev : Nat), shR c many rent rd un hs ev f S ∧ shV dC dI T many f V H
/-- the images -/
def imR (dC : Nat → ClassId) (dI : Nat → Nat → Nat) (dA : Nat → ClassId) (c : Nat) (T : Nat → Prop) (n : Nat) (im : Nat → Option Nat) (kp isk : Nat → Int32) (H : Heap) : Prop :=
  (∀ i, i < 2 → (im i = none ∧ isk i = 0) ∨ ∃ b, im i = some b ∧ isk i = 1 ∧ n + 112 ≤ b ∧ (∀ a, T a → ¬ bkA b 43 a) ∧ shC dC dI dA c T b (fun k => kp (523 * i + k)) H) ∧ ∀ b0 b1, im 0 = some b0 → im 1 = some b1 → b0 + 43 ≤ b1 ∨ b1 + 43 ≤ b0
/-- typed, the text, how many were refused -/
def oR (ty : Nat) (ξ σ : mdT) : Prop := ty ≤ 150 ∧ σ 15 5 = nI ty ∧ ξ 0 0 = nI ty ∧ (∀ k, k < ty → ξ 88 k = σ 12 k) ∧ ∀ k, k < 3 → ξ 89 k = σ 3 k
def tOk (T : Nat → Prop) (n : Nat) (H : Heap) : Prop := ∀ a, T a → a < H.size ∧ ¬ bkA n 112 a
/-- what lies outside of the component's own cells -/
def xO (dC : Nat → ClassId) (dI : Nat → Nat → Nat) (dA : Nat → ClassId) (c : Nat) (T : Nat → Prop) (n many : Nat) (V V2 im : Nat → Option Nat) (A : mdT) (σ : mdT) (H : Heap) : Prop :=
  shV dC dI T many (σ 0) V H ∧ asR dC dI c T A V2 H ∧ imR dC dI dA c T n im (σ 1) (σ 2) H ∧ tOk T n H ∧ n + 112 ≤ H.size
/-- the component, whose numbers are the Model's -/
def RX (dC : Nat → ClassId) (dI : Nat → Nat → Nat) (dA : Nat → ClassId) (c n : Nat) (σ : mdT) (ab be : Int64) (H : Heap) : Prop :=
  ∃ (T : Nat → Prop) (ξ : mdT) (V V2 im : Nat → Option Nat) (many rent rd un hs ev ty : Nat), bkP dC dI n 96 (xE dA n ξ V V2 im ab be) H ∧ shR c many rent rd un hs ev (σ 0) (fun i => ξ (1 + i)) ∧ oR ty ξ σ ∧ xO dC dI dA c T n many V V2 im (fun i => ξ (44 + i)) σ H
section REL
variable {c many rent rd un hs ev : Nat} {f : Nat → Int32} {S S' : mdT}
theorem rv_snap_p (f : Nat → Int32) {r : Nat} (h : r < 6) : rv_snap f r = f (43 + 3 * r + 1) := by unfold rv_snap; rw [if_pos h]
theorem rv_snap_l (f : Nat → Int32) {v : Nat} (h : v < 6) : rv_snap f (6 + v) = f (7 + 6 * v + 4) := by unfold rv_snap; rw [if_neg (by omega), if_pos (by omega), show 6 + v - 6 = v by omega]
theorem rv_snap_h (f : Nat → Int32) (k : Nat) : rv_snap f (15 + k) = f (61 + k) := by unfold rv_snap; rw [if_neg (by omega), if_neg (by omega), if_neg (by omega), if_neg (by omega), if_neg (by omega), show 15 + k - 15 = k by omega]
theorem shR.m6 (h : shR c many rent rd un hs ev f S) : many ≤ 6 := h.1.1
theorem shR.r6 (h : shR c many rent rd un hs ev f S) : rent ≤ 6 := h.1.2.1
theorem shR.d6 (h : shR c many rent rd un hs ev f S) : rd ≤ 6 := h.1.2.2.1
theorem shR.u8 (h : shR c many rent rd un hs ev f S) : un ≤ 8 := h.1.2.2.2
theorem shR.f0 (h : shR c many rent rd un hs ev f S) : f 0 = nI many := h.2.1.1
theorem shR.f1 (h : shR c many rent rd un hs ev f S) : f 1 = nI rent := h.2.1.2.1
theorem shR.f5 (h : shR c many rent rd un hs ev f S) : f 5 = nI rd := h.2.1.2.2.1
theorem shR.f6 (h : shR c many rent rd un hs ev f S) : f 6 = nI un := h.2.1.2.2.2
theorem shR.nm (h : shR c many rent rd un hs ev f S) : S 0 0 = nI many := h.2.2.1.1
theorem shR.nr (h : shR c many rent rd un hs ev f S) : S 0 1 = nI rent := h.2.2.1.2.1
theorem shR.nd (h : shR c many rent rd un hs ev f S) : S 0 2 = nI rd := h.2.2.1.2.2.1
theorem shR.nu (h : shR c many rent rd un hs ev f S) : S 0 3 = nI un := h.2.2.1.2.2.2
theorem shR.thg (h : shR c many rent rd un hs ev f S) {v : Nat} (hv : v < many) : S 2 v = f (7 + 6 * v + 5) := h.2.2.2.1 v hv
theorem shR.wal (h : shR c many rent rd un hs ev f S) {r : Nat} (hr : r < rent) : S 3 r = f (43 + 3 * r) := (h.2.2.2.2.1 r hr).1
theorem shR.wan (h : shR c many rent rd un hs ev f S) {r : Nat} (hr : r < rent) : S 4 r = f (43 + 3 * r + 2) := (h.2.2.2.2.1 r hr).2
theorem shR.rea (h : shR c many rent rd un hs ev f S) {k : Nat} (hk : k < 3 * rd) : S 5 k = f (97 + k) := h.2.2.2.2.2.1 k hk
theorem shR.now (h : shR c many rent rd un hs ev f S) : stR c many rent (fun r => S (6 + r)) (rv_snap f) hs ev := h.2.2.2.2.2.2.1
theorem shR.was (h : shR c many rent rd un hs ev f S) {k : Nat} (hk : k < un) : ∃ hs2 ev2, stR c many rent (fun r => S (11 + 4 * k + r)) (fun j => f (115 + 51 * k + j)) hs2 ev2 := h.2.2.2.2.2.2.2 k hk
theorem shR.h12 (h : shR c many rent rd un hs ev f S) : hs ≤ 12 := h.now.1
theorem shR.evc (h : shR c many rent rd un hs ev f S) : ev ≤ c := h.now.2.1
theorem shR.f4 (h : shR c many rent rd un hs ev f S) : f 4 = nI hs := h.now.2.2.1
theorem shR.f2 (h : shR c many rent rd un hs ev f S) : f 2 = nI ev := h.now.2.2.2.1
theorem shR.tak (h : shR c many rent rd un hs ev f S) : S 6 0 = f 3 := h.now.2.2.2.2.1
theorem shR.eve (h : shR c many rent rd un hs ev f S) : S 6 1 = nI ev := h.now.2.2.2.2.2.1
theorem shR.tol (h : shR c many rent rd un hs ev f S) : S 6 2 = nI hs := h.now.2.2.2.2.2.2.1
theorem shR.pur (h : shR c many rent rd un hs ev f S) {r : Nat} (hr : r < rent) : S 7 r = f (43 + 3 * r + 1) := by
  have := h.now.2.2.2.2.2.2.2.1 r hr
  rw [rv_snap_p f (by have := h.r6; omega)] at this
  exact this
theorem shR.lt (h : shR c many rent rd un hs ev f S) {v : Nat} (hv : v < many) : S 8 v = f (7 + 6 * v + 4) := by
  have := h.now.2.2.2.2.2.2.2.2.1 v hv
  rw [rv_snap_l f (by have := h.m6; omega)] at this
  exact this
theorem shR.his (h : shR c many rent rd un hs ev f S) {k : Nat} (hk : k < 3 * hs) : S 9 k = f (61 + k) := by
  have := h.now.2.2.2.2.2.2.2.2.2.1 k hk
  rw [rv_snap_h f] at this
  exact this
theorem shR.hn (h : shR c many rent rd un hs ev f S) {k : Nat} (hk : k < hs) : f (61 + 3 * k + 2) ≠ -1 := by
  have := h.now.2.2.2.2.2.2.2.2.2.2 k hk
  rw [show 15 + 3 * k + 2 = 15 + (3 * k + 2) by omega, rv_snap_h f] at this
  exact this
theorem stR.cg {τ τ' : mdT} {g g' : Nat → Int32} {hs ev : Nat} (h : stR c many rent τ g hs ev) (ht : ∀ r, r < 4 → τ' r = τ r) (hg : ∀ j, j < 51 → g' j = g j) (hm : many ≤ 6) (hr : rent ≤ 6) : stR c many rent τ' g' hs ev := by
  obtain ⟨a1, a2, a3, a4, a5, a6, a7, a8, a9, a10, a11⟩ := h
  refine ⟨a1, a2, by rw [hg 14 (by omega)]; exact a3, by rw [hg 12 (by omega)]; exact a4, by rw [ht 0 (by omega), hg 13 (by omega)]; exact a5, by rw [ht 0 (by omega)]; exact a6, by rw [ht 0 (by omega)]; exact a7, fun r h => ?_, fun v h => ?_, fun k h => ?_, fun k h => ?_⟩
  · rw [ht 1 (by omega), hg r (by omega)]; exact a8 r h
  · rw [ht 2 (by omega), hg (6 + v) (by omega)]; exact a9 v h
  · rw [ht 3 (by omega), hg (15 + k) (by omega)]; exact a10 k h
  · rw [hg (15 + 3 * k + 2) (by omega)]; exact a11 k h
theorem stR.up {c' : Nat} {τ : mdT} {g : Nat → Int32} {hs ev : Nat} (h : stR c many rent τ g hs ev) (hc : c ≤ c') : stR c' many rent τ g hs ev := ⟨h.1, Nat.le_trans h.2.1 hc, h.2.2⟩
theorem shR.up {c' : Nat} (h : shR c many rent rd un hs ev f S) (hc : c ≤ c') : shR c' many rent rd un hs ev f S := by
  refine ⟨h.1, h.2.1, h.2.2.1, h.2.2.2.1, h.2.2.2.2.1, h.2.2.2.2.2.1, h.now.up hc, fun k hk => ?_⟩
  obtain ⟨a, b, g⟩ := h.was hk
  exact ⟨a, b, g.up hc⟩
theorem rv_snap_c {f g : Nat → Int32} (h : ∀ k, k < 115 → g k = f k) : ∀ j, j < 51 → rv_snap g j = rv_snap f j := by
  intro j hj
  unfold rv_snap
  by_cases h1 : j < 6
  · rw [if_pos h1, if_pos h1]; exact h _ (by omega)
  rw [if_neg h1, if_neg h1]
  by_cases h2 : j < 12
  · rw [if_pos h2, if_pos h2]; exact h _ (by omega)
  rw [if_neg h2, if_neg h2, h 2 (by omega), h 3 (by omega), h 4 (by omega), h (61 + (j - 15)) (by omega)]
/-- only the rows below 43 and the numbers below 523 count -/
theorem shR.cg0 {g : Nat → Int32} (h : shR c many rent rd un hs ev f S) (hS : ∀ i, i < 11 + 4 * un → S' i = S i) (hg : ∀ k, k < 523 → g k = f k) : shR c many rent rd un hs ev g S' := by
  obtain ⟨b1, b2, b3, b4⟩ := h.1
  refine ⟨h.1, ?_, ?_, ?_, ?_, ?_, ?_, ?_⟩
  · rw [hg 0 (by omega), hg 1 (by omega), hg 5 (by omega), hg 6 (by omega)]; exact h.2.1
  · rw [hS 0 (by omega)]; exact h.2.2.1
  · intro v hv; rw [hS 2 (by omega), hg _ (by omega)]; exact h.thg hv
  · intro r hr; rw [hS 3 (by omega), hS 4 (by omega), hg _ (by omega), hg _ (by omega)]; exact ⟨h.wal hr, h.wan hr⟩
  · intro k hk; rw [hS 5 (by omega), hg _ (by omega)]; exact h.rea hk
  · exact h.now.cg (fun r hr => hS (6 + r) (by omega)) (rv_snap_c (fun k hk => hg k (by omega))) b1 b2
  · intro k hk
    obtain ⟨x, y, q⟩ := h.was hk
    exact ⟨x, y, q.cg (fun r hr => hS (11 + 4 * k + r) (by omega)) (fun j hj => hg _ (by omega)) b1 b2⟩
theorem shR.cg {g : Nat → Int32} (h : shR c many rent rd un hs ev f S) (hS : ∀ i, i < 43 → S' i = S i) (hg : ∀ k, k < 523 → g k = f k) : shR c many rent rd un hs ev g S' := h.cg0 (fun i hi => hS i (by have := h.u8; omega)) hg
end REL
section RELV
variable {dC : Nat → ClassId} {dI : Nat → Nat → Nat} {dA : Nat → ClassId} {T T' : Nat → Prop} {c n many : Nat} {f g : Nat → Int32} {V V2 im : Nat → Option Nat} {H H1 : Heap} {A σ ξ : mdT}
theorem va_at.kept0 {q : Nat × va_E} (h : va_at (dC, dI) rvCl q H) (hk : H1[q.1]? = H[q.1]?) : va_at (dC, dI) rvCl q H1 := h.kept hk
theorem shV.kept (h : shV dC dI T many f V H) (hk : ∀ a, T a → H1[a]? = H[a]?) : shV dC dI T many f V H1 := by
  refine ⟨fun v hv a ha => ?_, fun v hv => ?_⟩
  · obtain ⟨h1, kd, sz, pr, we, h2, h3⟩ := h.1 v hv a ha
    exact ⟨h1, kd, sz, pr, we, h2, h3.kept0 (hk a h1)⟩
  · obtain ⟨a, kd, h1, h2, h3, h4, h5⟩ := h.2 v hv
    exact ⟨a, kd, h1, h2, h3, h4, h5.kept0 (hk a h2)⟩
theorem shV.mono (h : shV dC dI T many f V H) (hT : ∀ a, T a → T' a) : shV dC dI T' many f V H := by
  refine ⟨fun v hv a ha => ?_, fun v hv => ?_⟩
  · obtain ⟨h1, h2⟩ := h.1 v hv a ha
    exact ⟨hT a h1, h2⟩
  · obtain ⟨a, kd, h1, h2, h3⟩ := h.2 v hv
    exact ⟨a, kd, h1, hT a h2, h3⟩
theorem shV.cg (h : shV dC dI T many f V H) (hg : ∀ k, k < 43 → g k = f k) (hm : many ≤ 6) : shV dC dI T many g V H := by
  refine ⟨h.1, fun v hv => ?_⟩
  obtain ⟨a, kd, h1, h2, h3, h4, h5⟩ := h.2 v hv
  refine ⟨a, kd, h1, h2, h3, ?_, ?_⟩
  · rw [hg _ (by omega)]; exact h4
  · rw [hg _ (by omega), hg _ (by omega), hg _ (by omega)]; exact h5
theorem shV.at {H0 : Heap} {locs : List Loc} {A : Nat → Prop} (h : shV dC dI T many f V H0) (hS : va_S A H0 H locs) (hT : ∀ a, T a → a < H0.size ∧ ¬ A a) : shV dC dI T many f V H :=
  h.kept (fun a ha => hS.2.1 a (hT a ha).1 (hT a ha).2)
theorem shC.kept {b : Nat} (h : shC dC dI dA c T b f H) (hk : ∀ a, T a ∨ bkA b 43 a → H1[a]? = H[a]?) : shC dC dI dA c T b f H1 := by
  obtain ⟨S, V, many, rent, rd, un, hs, ev, h1, h2, h3⟩ := h
  exact ⟨S, V, many, rent, rd, un, hs, ev, h1.kept (fun q hq => hk q (Or.inr hq)), h2, h3.kept (fun a ha => hk a (Or.inl ha))⟩
theorem shC.mono {b : Nat} (h : shC dC dI dA c T b f H) (hT : ∀ a, T a → T' a) : shC dC dI dA c T' b f H := by
  obtain ⟨S, V, many, rent, rd, un, hs, ev, h1, h2, h3⟩ := h
  exact ⟨S, V, many, rent, rd, un, hs, ev, h1, h2, h3.mono hT⟩
theorem shC.up {c' b : Nat} (h : shC dC dI dA c T b f H) (hc : c ≤ c') : shC dC dI dA c' T b f H := by
  obtain ⟨S, V, many, rent, rd, un, hs, ev, h1, h2, h3⟩ := h
  exact ⟨S, V, many, rent, rd, un, hs, ev, h1, h2.up hc, h3⟩
theorem shC.lt {b : Nat} (h : shC dC dI dA c T b f H) : b + 43 ≤ H.size := by
  obtain ⟨S, V, many, rent, rd, un, hs, ev, h1, h2, h3⟩ := h
  exact h1.lt (by decide)
theorem asR.kept (h : asR dC dI c T A V H) (hk : ∀ a, T a → H1[a]? = H[a]?) : asR dC dI c T A V H1 := by
  obtain ⟨f, many, rent, rd, un, hs, ev, h1, h2⟩ := h
  exact ⟨f, many, rent, rd, un, hs, ev, h1, h2.kept hk⟩
theorem asR.cg {A' : mdT} (h : asR dC dI c T A V H) (hA : ∀ i, i < 43 → A' i = A i) : asR dC dI c T A' V H := by
  obtain ⟨f, many, rent, rd, un, hs, ev, h1, h2⟩ := h
  exact ⟨f, many, rent, rd, un, hs, ev, h1.cg hA (fun _ _ => rfl), h2⟩
theorem asR.mono (h : asR dC dI c T A V H) (hT : ∀ a, T a → T' a) : asR dC dI c T' A V H := by
  obtain ⟨f, many, rent, rd, un, hs, ev, h1, h2⟩ := h
  exact ⟨f, many, rent, rd, un, hs, ev, h1, h2.mono hT⟩
theorem asR.up {c' : Nat} (h : asR dC dI c T A V H) (hc : c ≤ c') : asR dC dI c' T A V H := by
  obtain ⟨f, many, rent, rd, un, hs, ev, h1, h2⟩ := h
  exact ⟨f, many, rent, rd, un, hs, ev, h1.up hc, h2⟩
theorem imR.kept {kp isk : Nat → Int32} (h : imR dC dI dA c T n im kp isk H) (hk : ∀ a, T a → H1[a]? = H[a]?) (hb : ∀ q, n + 112 ≤ q → q < H.size → H1[q]? = H[q]?) : imR dC dI dA c T n im kp isk H1 := by
  refine ⟨fun i hi => ?_, h.2⟩
  rcases h.1 i hi with h1 | ⟨b, h1, h2, h3, h4, h5⟩
  · exact Or.inl h1
  · refine Or.inr ⟨b, h1, h2, h3, h4, h5.kept (fun a ha => ?_)⟩
    rcases ha with ha | ha
    · exact hk a ha
    · exact hb a (Nat.le_trans h3 ha.1) (Nat.lt_of_lt_of_le ha.2 h5.lt)
theorem imR.up {c' : Nat} {kp isk : Nat → Int32} (h : imR dC dI dA c T n im kp isk H) (hc : c ≤ c') : imR dC dI dA c' T n im kp isk H := by
  refine ⟨fun i hi => ?_, h.2⟩
  rcases h.1 i hi with h1 | ⟨b, h1, h2, h3, h4, h5⟩
  · exact Or.inl h1
  · exact Or.inr ⟨b, h1, h2, h3, h4, h5.up hc⟩
theorem imR.mono {kp isk : Nat → Int32} (h : imR dC dI dA c T n im kp isk H) (hT : ∀ a, T a → T' a) (hN : ∀ a, T' a → ¬ T a → H.size ≤ a) : imR dC dI dA c T' n im kp isk H := by
  refine ⟨fun i hi => ?_, h.2⟩
  rcases h.1 i hi with h1 | ⟨b, h1, h2, h3, h4, h5⟩
  · exact Or.inl h1
  · refine Or.inr ⟨b, h1, h2, h3, fun a ha hb => ?_, h5.mono hT⟩
    by_cases ht : T a
    · exact h4 a ht hb
    · exact absurd (hN a ha ht) (Nat.not_le.mpr (Nat.lt_of_lt_of_le hb.2 h5.lt))
theorem xO.up {c' : Nat} (h : xO dC dI dA c T n many V V2 im A σ H) (hc : c ≤ c') : xO dC dI dA c' T n many V V2 im A σ H := ⟨h.1, h.2.1.up hc, h.2.2.1.up hc, h.2.2.2⟩
/-- what lies outside stays as it is while only the component's and the Model's cells change -/
theorem xO.kept (h : xO dC dI dA c T n many V V2 im A σ H) (hz : H.size ≤ H1.size) (hk : ∀ q, q < H.size → ¬ bkA n 112 q → H1[q]? = H[q]?) : xO dC dI dA c T n many V V2 im A σ H1 := by
  have ht : ∀ a, T a → H1[a]? = H[a]? := fun a ha => hk a (h.2.2.2.1 a ha).1 (h.2.2.2.1 a ha).2
  exact ⟨h.1.kept ht, h.2.1.kept ht, h.2.2.1.kept ht (fun q h1 h2 => hk q h2 (fun z => by have := z.2; omega)), fun a ha => ⟨Nat.lt_of_lt_of_le (h.2.2.2.1 a ha).1 hz, (h.2.2.2.1 a ha).2⟩, Nat.le_trans h.2.2.2.2 hz⟩
theorem xO.at {H0 : Heap} {locs : List Loc} (h : xO dC dI dA c T n many V V2 im A σ H0) (hS : va_S (bkA n 96) H0 H locs) : xO dC dI dA c T n many V V2 im A σ H :=
  h.kept hS.1 (fun q h1 h2 => hS.2.1 q h1 (fun z => h2 ⟨z.1, by have := z.2; omega⟩))
theorem xO.atz {H0 : Heap} {locs : List Loc} {z : Nat} (h : xO dC dI dA c T n many V V2 im A σ H0) (hS : va_S (fun q => bkA n 96 q ∨ z ≤ q) H0 H locs) (hz : H0.size = z) : xO dC dI dA c T n many V V2 im A σ H :=
  h.kept hS.1 (fun q h1 h2 => hS.2.1 q h1 (fun y => y.elim (fun z => h2 ⟨z.1, by have := z.2; omega⟩) (fun y => by omega)))
theorem xO.tbz {z : Nat} (h : xO dC dI dA c T n many V V2 im A σ H) (hz : H.size = z) : ∀ a, T a → a < H.size ∧ ¬ (bkA n 96 a ∨ z ≤ a) := fun a ha => ⟨(h.2.2.2.1 a ha).1, fun y => y.elim (fun z => (h.2.2.2.1 a ha).2 ⟨z.1, by have := z.2; omega⟩) (fun y => by have := (h.2.2.2.1 a ha).1; omega)⟩
theorem xO.cg {A' σ' : mdT} (h : xO dC dI dA c T n many V V2 im A σ H) (hA : ∀ i, i < 43 → A' i = A i) (h0 : ∀ k, k < 43 → σ' 0 k = σ 0 k) (h1 : σ' 1 = σ 1) (h2 : σ' 2 = σ 2) (hm : many ≤ 6) : xO dC dI dA c T n many V V2 im A' σ' H :=
  ⟨h.1.cg h0 hm, h.2.1.cg hA, by rw [h1, h2]; exact h.2.2.1, h.2.2.2⟩
theorem xO.tb (h : xO dC dI dA c T n many V V2 im A σ H) : ∀ a, T a → a < H.size ∧ ¬ bkA n 96 a := fun a ha => ⟨(h.2.2.2.1 a ha).1, fun z => (h.2.2.2.1 a ha).2 ⟨z.1, by have := z.2; omega⟩⟩
end RELV
