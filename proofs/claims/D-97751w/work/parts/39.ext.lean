/-! cells are what they hold below their length -/
set_option maxRecDepth 100000
theorem vp_cell_ext {cA : ClassId} {n : Nat} {f g : Nat → Int32} (h : ∀ k, k < n → f k = g k) : vp_cell cA (n, .inl f) = vp_cell cA (n, .inl g) := by
  unfold vp_cell
  simp only
  unfold arrV
  simp_all
theorem vp_cell_extQ {cA : ClassId} {n : Nat} {f g : Nat → Option Nat} (h : ∀ k, k < n → f k = g k) : vp_cell cA (n, .inr (.inr (.inr (.inr f)))) = vp_cell cA (n, .inr (.inr (.inr (.inr g)))) := by
  unfold vp_cell
  simp only
  unfold arrV
  simp_all
/-- two cells that are the same in the heap -/
def xSame (x y : va_E) : Prop := x = y ∨ (∃ (c : ClassId) (n : Nat) (f g : Nat → Int32), x = .inl (c, n, .inl f) ∧ y = .inl (c, n, .inl g) ∧ ∀ k, k < n → f k = g k) ∨ ∃ (c : ClassId) (n : Nat) (f g : Nat → Option Nat), x = .inl (c, n, .inr (.inr (.inr (.inr f)))) ∧ y = .inl (c, n, .inr (.inr (.inr (.inr g)))) ∧ ∀ k, k < n → f k = g k
theorem va_at.ext {dC : Nat → ClassId} {dI : Nat → Nat → Nat} {b : Nat} {x y : va_E} {H : Heap} (h : va_at (dC, dI) rvCl (b, x) H) (hs : xSame x y) : va_at (dC, dI) rvCl (b, y) H := by
  rcases hs with rfl | ⟨c, n, f, g, rfl, rfl, hk⟩ | ⟨c, n, f, g, rfl, rfl, hk⟩
  · exact h
  · show H[b]? = some (vp_cell c (n, .inl g))
    rw [← vp_cell_ext hk]; exact h
  · show H[b]? = some (vp_cell c (n, .inr (.inr (.inr (.inr g)))))
    rw [← vp_cell_extQ hk]; exact h
theorem bkP.ext {dC : Nat → ClassId} {dI : Nat → Nat → Nat} {b N : Nat} {E F : Nat → va_E} {H : Heap} (h : bkP dC dI b N E H) (he : ∀ j, j < N → xSame (E j) (F j)) : bkP dC dI b N F H := fun j hj => (h j hj).ext (he j hj)
theorem xSame.i {dA : Nat → ClassId} {n : Nat} {f g : Nat → Int32} (h : ∀ k, k < n → f k = g k) : xSame (xI dA n f) (xI dA n g) := Or.inr (Or.inl ⟨_, _, _, _, rfl, rfl, h⟩)
theorem xSame.q {dA : Nat → ClassId} {t n : Nat} {f g : Nat → Option Nat} (h : ∀ k, k < n → f k = g k) : xSame (xQ dA t n f) (xQ dA t n g) := Or.inr (Or.inr ⟨_, _, _, _, rfl, rfl, h⟩)
/-- how many numbers of a State's row count -/
def stL (r : Nat) : Nat := if r = 0 then 3 else if r = 3 then 36 else 6
theorem stF_same {dA : Nat → ClassId} {a r : Nat} {f g : Nat → Int32} (h : ∀ k, k < stL r → f k = g k) : xSame (stF dA a r f) (stF dA a r g) := by
  unfold stF
  by_cases h0 : r = 0
  · subst h0
    rw [if_pos rfl, if_pos rfl, h 0 (by decide), h 1 (by decide), h 2 (by decide)]
    exact Or.inl rfl
  · rw [if_neg h0, if_neg h0]
    refine xSame.i (fun k hk => h k ?_)
    unfold stL
    rw [if_neg h0]
    exact hk
theorem stE_ext {dC : Nat → ClassId} {dI : Nat → Nat → Nat} {dA : Nat → ClassId} {a : Nat} {τ u : mdT} {H : Heap} (h : bkP dC dI a 4 (stE dA a τ) H) (he : ∀ r, r < 4 → ∀ k, k < stL r → τ r k = u r k) : bkP dC dI a 4 (stE dA a u) H := h.ext (fun r hr => stF_same (he r hr))
