set_option maxRecDepth 100000
/-! the law: its start, the tables -/
theorem lw_arrP {s : State} {A : Array Value} {ty : FieldType} (h : (Cond.arrayClass ty).before A s = true) (hno : ∀ C, ty ≠ .object C) : ∃ cA, ArrOfT s cA ty ∧ va_RA s cA ty := by
  obtain ⟨cA, k, comp, h1, h2, h3⟩ := Cond.arrayClass_spec h
  refine ⟨cA, fun n z => ⟨fun k h => (by cases h), k, h2, comp, h3⟩, ?_⟩
  cases ty with
  | object C => exact absurd rfl (hno C)
  | _ => exact h1
theorem lw_arrO {s : State} {A : Array Value} {C : String} (h : (Cond.arrayOver (.object C)).before A s = true) : ∃ cA, ArrOfT s cA (.object C) ∧ va_RA s cA (.object C) := by
  obtain ⟨comp, cA, k, h1, -, h3, h4, h5⟩ := Cond.arrayOver_spec h
  exact ⟨cA, fun n z => ⟨fun k h => (by cases h), k, h3, comp, h4⟩, k, comp, h3, h4, h1, h5⟩
theorem lw_rvK {s : State} {A : Array Value} (ht : ∀ w ∈ lw_tbl, w.before A s = true) : ∃ dC dI dA, rvK dC dI dA s := by
  have hts : ∀ w ∈ lw_all, w.before A s = true := fun w h => ht w (List.mem_filter.mp h).1
  obtain ⟨c0, i0, k0⟩ := u_known (C := RX0) (T := TX0) (N := 14) hts in_X0 (hts _ q84)
  obtain ⟨c1, i1, k1⟩ := u_known (C := RX1) (T := TX1) (N := 11) hts in_X1 (hts _ q92)
  obtain ⟨c2, i2, k2⟩ := u_known (C := RX2) (T := TX2) (N := 6) hts in_X2 (hts _ q100)
  obtain ⟨c3, i3, k3⟩ := u_known (C := RX3) (T := TX3) (N := 6) hts in_X3 (hts _ q190)
  obtain ⟨c4, i4, k4⟩ := u_known (C := RX4) (T := TX4) (N := 6) hts in_X4 (hts _ q216)
  obtain ⟨c5, i5, k5⟩ := u_known (C := RX5) (T := TX5) (N := 27) hts in_X5 (hts _ q892)
  obtain ⟨c6, i6, k6⟩ := u_known (C := RX6) (T := TX6) (N := 3) hts in_X6 (hts _ q390)
  obtain ⟨c7, i7, k7⟩ := u_known (C := RX7) (T := TX7) (N := 3) hts in_X7 (hts _ q328)
  obtain ⟨c8, i8, k8⟩ := u_known (C := RX8) (T := TX8) (N := 3) hts in_X8 (hts _ q350)
  obtain ⟨c9, i9, k9⟩ := u_known (C := RX9) (T := TX9) (N := 3) hts in_X9 (hts _ q360)
  obtain ⟨c10, i10, k10⟩ := u_known (C := RX10) (T := TX10) (N := 3) hts in_X10 (hts _ q370)
  obtain ⟨c11, i11, k11⟩ := u_known (C := RX11) (T := TX11) (N := 3) hts in_X11 (hts _ q380)
  obtain ⟨c12, i12, k12⟩ := u_known (C := RX12) (T := TX12) (N := 7) hts in_X12 (hts _ q458)
  obtain ⟨a0, g0⟩ := lw_arrP (hts _ q135) (by intro C h; cases h)
  obtain ⟨a1, g1⟩ := lw_arrP (hts _ q294) (by intro C h; cases h)
  obtain ⟨a2, g2⟩ := lw_arrP (hts _ q214) (by intro C h; cases h)
  obtain ⟨a3, g3⟩ := lw_arrO (ht _ q98)
  obtain ⟨a4, g4⟩ := lw_arrO (ht _ q136)
  obtain ⟨a5, g5⟩ := lw_arrO (ht _ q188)
  refine ⟨fun k => [c0, c1, c2, c3, c4, c5, c6, c7, c8, c9, c10, c11, c12].getD k 0, fun k => [i0, i1, i2, i3, i4, i5, i6, i7, i8, i9, i10, i11, i12].getD k (fun _ => 0), fun k => [a0, a1, a2, a3, a4, a5].getD k 0, fun c q hq => ?_, fun k q hq => ?_⟩
  · match c, hq with
    | 0, hq => cases hq; exact k0
    | 1, hq => cases hq; exact k1
    | 2, hq => cases hq; exact k2
    | 3, hq => cases hq; exact k3
    | 4, hq => cases hq; exact k4
    | 5, hq => cases hq; exact k5
    | 6, hq => cases hq; exact k6
    | 7, hq => cases hq; exact k7
    | 8, hq => cases hq; exact k8
    | 9, hq => cases hq; exact k9
    | 10, hq => cases hq; exact k10
    | 11, hq => cases hq; exact k11
    | 12, hq => cases hq; exact k12
    | n + 13, hq => cases hq
  · match k, hq with
    | 0, hq => cases hq; exact g0
    | 1, hq => cases hq; exact g1
    | 2, hq => cases hq; exact g2
    | 3, hq => cases hq; exact g3
    | 4, hq => cases hq; exact g4
    | 5, hq => cases hq; exact g5
    | n + 6, hq => cases hq
theorem lw_rvN {s : State} {A : Array Value} (ht : ∀ w ∈ lw_tbl, w.before A s = true) : rvN s := by
  intro w hw hi
  have g := ht w hw
  cases w <;> first | exact absurd (show false = true from hi) Bool.false_ne_true | exact va_Nw.of rfl g | skip
  rename_i t
  cases t <;> first | exact absurd (show false = true from hi) Bool.false_ne_true | exact g
