set_option maxRecDepth 100000
/-! the Model: letting, undoing -/
def rv_let (f : Nat → Int32) (un hs j k : Nat) (v r cst : Int32) : Nat → Int32 := rv_rem (upd (upd (upd (rv_keep f un) (7 + 6 * j + 4) r) (43 + 3 * k + 1) (f (43 + 3 * k + 1) - cst)) 3 (f 3 + cst)) hs v r
def sp_let (σ : mdT) (v r : Int32) : Int32 × mdT :=
  if rv_isV σ v = true then (if rv_isR σ r = true then (if σ 0 (7 + 6 * rv_cl v + 4) = -1 then (if rv_vo (fun v => σ 0 (7 + 6 * v + 4)) r (rv_cl (σ 0 0)) = -1 then (if rv_fits (σ 0 (7 + 6 * rv_cl v)) (σ 0 (7 + 6 * rv_cl v + 1)) (σ 0 (43 + 3 * rv_cl r)) = true then (if rv_cost (σ 0 (7 + 6 * rv_cl v)) (σ 0 (7 + 6 * rv_cl v + 2)) ≤ σ 0 (43 + 3 * rv_cl r + 1) then
    (rv_cost (σ 0 (7 + 6 * rv_cl v)) (σ 0 (7 + 6 * rv_cl v + 2)), mdN σ (rv_let (σ 0) (rv_cl (σ 0 6)) (rv_cl (σ 0 4)) (rv_cl v) (rv_cl r) v r (rv_cost (σ 0 (7 + 6 * rv_cl v)) (σ 0 (7 + 6 * rv_cl v + 2)))))
    else sNo σ) else sNo σ) else sNo σ) else sNo σ) else sBad (-2) σ) else sBad (-2) σ
theorem mdQ.S {τ u : mdT} (h : mdQ τ u) (a k : Nat) (v w : Int32) (hv : v = w) : mdQ (mdS τ a k v) (mdS u a k w) := by
  obtain ⟨h1, h2, h3, h4, h5, h6⟩ := h
  subst hv
  have key : ∀ b, u b = τ b → mdS u a k v b = mdS τ a k v b := fun b e => by
    funext j
    rw [mdS_at, mdS_at, e]
  refine ⟨key 0 h1, key 1 h2, key 2 h3, key 3 h4, key 12 h5, ?_⟩
  rw [mdS_at, mdS_at, h6]
theorem mdQ.N {τ u : mdT} (h : mdQ τ u) (f g : Nat → Int32) (hf : ∀ k, f k = g k) : mdQ (mdN τ f) (mdN u g) := by
  obtain ⟨h1, h2, h3, h4, h5, h6⟩ := h
  refine ⟨(funext hf).symm, ?_, ?_, ?_, ?_, ?_⟩
  · rw [mdN_ne _ _ (by decide), mdN_ne _ _ (by decide)]; exact h2
  · rw [mdN_ne _ _ (by decide), mdN_ne _ _ (by decide)]; exact h3
  · rw [mdN_ne _ _ (by decide), mdN_ne _ _ (by decide)]; exact h4
  · rw [mdN_ne _ _ (by decide), mdN_ne _ _ (by decide)]; exact h5
  · rw [mdN_ne _ _ (by decide), mdN_ne _ _ (by decide)]; exact h6
theorem mdQ.bad {τ u : mdT} (h : mdQ τ u) (t : Int32) : mdQ (sBad t τ).2 (mdS u 3 0 (u 3 0 + nI 1)) := h.S _ _ _ _ (by rw [h.2.2.2.1])
theorem mdQ.no {τ u : mdT} (h : mdQ τ u) : mdQ (sNo τ).2 (mdS u 3 1 (u 3 1 + nI 1)) := h.S _ _ _ _ (by rw [h.2.2.2.1])
set_option maxHeartbeats 4000000 in
theorem met_undo (l : Launch) (dC : Nat → ClassId) (dI : Nat → Nat → Nat) (dA : Nat → ClassId) (n : Nat) (σ : mdT) (ab be : Int64) (un : Nat) (h6 : σ 0 6 = nI un) (hu8 : un ≤ 8) : Met l yX5_undo (ws_ yX5_undo cX5_undo 3 (some .int)) { frames := 2, cells := 0, slots := 0, locals := 120 } (mdPc dC dI dA n σ ab be [.ref n]) (va_Qi (fun r_ u => r_ = (sp_undo σ ).1 ∧ u = (sp_undo σ ).2) (mdB dC dI dA n ab be) (mdA n)) 0 0 (mdA n) := by
  refine md_in (by decide) rfl (Nat.le_of_ble_eq_true rfl) (lv := [(0, .ref n)]) rfl ?_
  intro p e s m below meth c C hr hlk hP ls hl
  have hx := C.1
  have hb := C.2.1
  have hown := C.2.2.2.1
  have hts := C.2.2.2.2.1
  have hS : va_S (mdA n) s.heap s.heap [] := va_S.rf
  have K147 : ∀ (k147_ : Nat) (i : Nat) (σ2 : mdT) (H : Heap) (locs : List Loc), 36 - i = k147_ → (i ≤ 36) → (un ≠ 0) → (σ2 = mdN σ (fun k => if k = 6 then nI (un - 1) else if k = 2 then σ 0 (115 + 51 * (un - 1) + 12) else if k = 3 then σ 0 (115 + 51 * (un - 1) + 13) else if k = 4 then σ 0 (115 + 51 * (un - 1) + 14) else if 43 ≤ k ∧ k < 61 ∧ (k - 43) % 3 = 1 then σ 0 (115 + 51 * (un - 1) + (k - 43) / 3) else if 7 ≤ k ∧ k < 43 ∧ (k - 7) % 6 = 4 then σ 0 (115 + 51 * (un - 1) + 6 + (k - 7) / 6) else if 61 ≤ k ∧ k < 61 + i then σ 0 (115 + 51 * (un - 1) + 15 + (k - 61)) else σ 0 k)) → mdP dC dI dA n σ2 ab be H → va_S (mdA n) s.heap H locs → ∀ ls, lv_has ls 3 [(0, .ref n), (1, .int (nI (115 + 51 * (un - 1)))), (2, .int (nI i))] → W p l e { frames := 2, cells := 0, slots := 0, locals := 120 } s m [.ref n].toArray below meth c H locs 0 0 (MQ below (va_Qi (fun r_ u => r_ = (sp_undo σ ).1 ∧ u = (sp_undo σ ).2) (mdB dC dI dA n ab be) (mdA n)) [.ref n].toArray s 0 0 (mdA n)) (F0 m 147 ls []) := by
    intro k147_
    induction k147_ using Nat.strongRecOn with
    | _ k147_ ih147 =>
      intro i σ2 H locs hm147_ hi hu0 hs hP hS ls hl
      refine lv_iload_n hx hb dX5_undo_147 rfl (lv_at hl 2 rfl) ?_
      refine lv_bipush (v := nI 36) hx hb dX5_undo_148 rfl ?_
      refine rn_icmp_ge (tgt := 179) hx hb (by omega) (by omega) dX5_undo_150 (by decide) (fun c_150 => ?_) (fun c_150 => ?_)
      · refine lv_aload_n hx hb dX5_undo_179 rfl (lv_at hl 0 rfl) ?_
        refine md_g0 C hP dX5_undo_180 ?_
        refine lv_iconst (v := nI 3) hx hb dX5_undo_183 rfl ?_
        refine md_l0 C hP (by omega) dX5_undo_184 ?_
        exact md_ri C hr hlk hP hS dX5_undo_185 (by have ei : i = 36 := (by omega); subst ei; rw [sp_undo, if_neg (by rw [h6]; exact nI_ne0 (by omega) (by omega)), h6, rv_cln (by omega)]; exact ⟨by rw [hs, mdN_0]; rfl, by rw [hs]; refine mdN_f (fun k => ?_); clear ih147; grind [rv_undo]⟩)
      · refine lv_aload_n hx hb dX5_undo_153 rfl (lv_at hl 0 rfl) ?_
        refine md_g0 C hP dX5_undo_154 ?_
        refine lv_bipush (v := nI 61) hx hb dX5_undo_157 rfl ?_
        refine lv_iload_n hx hb dX5_undo_159 rfl (lv_at hl 2 rfl) ?_
        refine rn_iadd hx hb dX5_undo_160 ?_
        refine lv_aload_n hx hb dX5_undo_161 rfl (lv_at hl 0 rfl) ?_
        refine md_g0 C hP dX5_undo_162 ?_
        refine lv_iload_n hx hb dX5_undo_165 rfl (lv_at hl 1 rfl) ?_
        refine lv_bipush (v := nI 15) hx hb dX5_undo_166 rfl ?_
        refine rn_iadd hx hb dX5_undo_168 ?_
        refine lv_iload_n hx hb dX5_undo_169 rfl (lv_at hl 2 rfl) ?_
        refine rn_iadd hx hb dX5_undo_170 ?_
        refine md_l0 C hP (by omega) dX5_undo_171 ?_
        refine md_s0 C hP hS (by omega) dX5_undo_172 (fun H locs hP hS => ?_)
        refine rn_iinc (lv' := [(2, .int (nI (i + 1))), (0, .ref n), (1, .int (nI (115 + 51 * (un - 1))))]) hx hb dX5_undo_173 hl (k := 2) rfl (by decide) rfl (fun ls hl => ?_)
        refine lv_goto (tgt := 147) hx hb dX5_undo_176 (by decide) ?_
        exact ih147 _ (by omega) (i + 1) (mdS σ2 0 (61 + i) (σ2 0 (((115 + 51 * (un - 1)) + 15) + i))) _ _ rfl (by omega) hu0 (by rw [hs, mdN_S]; refine mdN_f (fun k => ?_); simp only [upd, mdN_0]; clear ih147; grind) hP hS ls (lv_sub hl [1, 2, 0] rfl)
  have K42 : ∀ (k42_ : Nat) (i : Nat) (σ1 : mdT) (H : Heap) (locs : List Loc), 6 - i = k42_ → (i ≤ 6) → (un ≠ 0) → (σ1 = mdN σ (fun k => if k = 6 then nI (un - 1) else if 43 ≤ k ∧ k < 61 ∧ (k - 43) % 3 = 1 ∧ (k - 43) / 3 < i then σ 0 (115 + 51 * (un - 1) + (k - 43) / 3) else if 7 ≤ k ∧ k < 43 ∧ (k - 7) % 6 = 4 ∧ (k - 7) / 6 < i then σ 0 (115 + 51 * (un - 1) + 6 + (k - 7) / 6) else σ 0 k)) → mdP dC dI dA n σ1 ab be H → va_S (mdA n) s.heap H locs → ∀ ls, lv_has ls 3 [(0, .ref n), (1, .int (nI (115 + 51 * (un - 1)))), (2, .int (nI i))] → W p l e { frames := 2, cells := 0, slots := 0, locals := 120 } s m [.ref n].toArray below meth c H locs 0 0 (MQ below (va_Qi (fun r_ u => r_ = (sp_undo σ ).1 ∧ u = (sp_undo σ ).2) (mdB dC dI dA n ab be) (mdA n)) [.ref n].toArray s 0 0 (mdA n)) (F0 m 42 ls []) := by
    intro k42_
    induction k42_ using Nat.strongRecOn with
    | _ k42_ ih42 =>
      intro i σ1 H locs hm42_ hi hu0 hs hP hS ls hl
      refine lv_iload_n hx hb dX5_undo_42 rfl (lv_at hl 2 rfl) ?_
      refine lv_bipush (v := nI 6) hx hb dX5_undo_43 rfl ?_
      refine rn_icmp_ge (tgt := 100) hx hb (by omega) (by omega) dX5_undo_45 (by decide) (fun c_45 => ?_) (fun c_45 => ?_)
      · refine lv_aload_n hx hb dX5_undo_100 rfl (lv_at hl 0 rfl) ?_
        refine md_g0 C hP dX5_undo_101 ?_
        refine lv_iconst (v := nI 2) hx hb dX5_undo_104 rfl ?_
        refine lv_aload_n hx hb dX5_undo_105 rfl (lv_at hl 0 rfl) ?_
        refine md_g0 C hP dX5_undo_106 ?_
        refine lv_iload_n hx hb dX5_undo_109 rfl (lv_at hl 1 rfl) ?_
        refine lv_bipush (v := nI 12) hx hb dX5_undo_110 rfl ?_
        refine rn_iadd hx hb dX5_undo_112 ?_
        refine md_l0 C hP (by omega) dX5_undo_113 ?_
        refine md_s0 C hP hS (by omega) dX5_undo_114 (fun H locs hP hS => ?_)
        refine lv_aload_n hx hb dX5_undo_115 rfl (lv_at hl 0 rfl) ?_
        refine md_g0 C hP dX5_undo_116 ?_
        refine lv_iconst (v := nI 3) hx hb dX5_undo_119 rfl ?_
        refine lv_aload_n hx hb dX5_undo_120 rfl (lv_at hl 0 rfl) ?_
        refine md_g0 C hP dX5_undo_121 ?_
        refine lv_iload_n hx hb dX5_undo_124 rfl (lv_at hl 1 rfl) ?_
        refine lv_bipush (v := nI 13) hx hb dX5_undo_125 rfl ?_
        refine rn_iadd hx hb dX5_undo_127 ?_
        refine md_l0 C hP (by omega) dX5_undo_128 ?_
        refine md_s0 C hP hS (by omega) dX5_undo_129 (fun H locs hP hS => ?_)
        refine lv_aload_n hx hb dX5_undo_130 rfl (lv_at hl 0 rfl) ?_
        refine md_g0 C hP dX5_undo_131 ?_
        refine lv_iconst (v := nI 4) hx hb dX5_undo_134 rfl ?_
        refine lv_aload_n hx hb dX5_undo_135 rfl (lv_at hl 0 rfl) ?_
        refine md_g0 C hP dX5_undo_136 ?_
        refine lv_iload_n hx hb dX5_undo_139 rfl (lv_at hl 1 rfl) ?_
        refine lv_bipush (v := nI 14) hx hb dX5_undo_140 rfl ?_
        refine rn_iadd hx hb dX5_undo_142 ?_
        refine md_l0 C hP (by omega) dX5_undo_143 ?_
        refine md_s0 C hP hS (by omega) dX5_undo_144 (fun H locs hP hS => ?_)
        refine lv_iconst (v := nI 0) hx hb dX5_undo_145 rfl ?_
        refine lv_istore_n (lv' := [(2, .int (nI 0)), (0, .ref n), (1, .int (nI (115 + 51 * (un - 1))))]) hx hb dX5_undo_146 rfl hl (by decide) rfl (fun ls hl => ?_)
        exact K147 _ 0 (mdS (mdS (mdS σ1 0 2 (σ1 0 ((115 + 51 * (un - 1)) + 12))) 0 3 ((mdS σ1 0 2 (σ1 0 ((115 + 51 * (un - 1)) + 12))) 0 ((115 + 51 * (un - 1)) + 13))) 0 4 ((mdS (mdS σ1 0 2 (σ1 0 ((115 + 51 * (un - 1)) + 12))) 0 3 ((mdS σ1 0 2 (σ1 0 ((115 + 51 * (un - 1)) + 12))) 0 ((115 + 51 * (un - 1)) + 13))) 0 ((115 + 51 * (un - 1)) + 14))) _ _ rfl (by omega) hu0 (by have ei : i = 6 := (by omega); subst ei; rw [hs, mdN_S, mdN_S, mdN_S]; refine mdN_f (fun k => ?_); simp only [upd, mdN_0]; clear ih42; grind) hP hS ls (lv_sub hl [1, 2, 0] rfl)
      · refine lv_aload_n hx hb dX5_undo_48 rfl (lv_at hl 0 rfl) ?_
        refine md_g0 C hP dX5_undo_49 ?_
        refine lv_bipush (v := nI 43) hx hb dX5_undo_52 rfl ?_
        refine lv_iconst (v := nI 3) hx hb dX5_undo_54 rfl ?_
        refine lv_iload_n hx hb dX5_undo_55 rfl (lv_at hl 2 rfl) ?_
        refine rn_imul hx hb dX5_undo_56 ?_
        refine rn_iadd hx hb dX5_undo_57 ?_
        refine lv_iconst (v := nI 1) hx hb dX5_undo_58 rfl ?_
        refine rn_iadd hx hb dX5_undo_59 ?_
        refine lv_aload_n hx hb dX5_undo_60 rfl (lv_at hl 0 rfl) ?_
        refine md_g0 C hP dX5_undo_61 ?_
        refine lv_iload_n hx hb dX5_undo_64 rfl (lv_at hl 1 rfl) ?_
        refine lv_iload_n hx hb dX5_undo_65 rfl (lv_at hl 2 rfl) ?_
        refine rn_iadd hx hb dX5_undo_66 ?_
        refine md_l0 C hP (by omega) dX5_undo_67 ?_
        refine md_s0 C hP hS (by omega) dX5_undo_68 (fun H locs hP hS => ?_)
        refine lv_aload_n hx hb dX5_undo_69 rfl (lv_at hl 0 rfl) ?_
        refine md_g0 C hP dX5_undo_70 ?_
        refine lv_bipush (v := nI 7) hx hb dX5_undo_73 rfl ?_
        refine lv_bipush (v := nI 6) hx hb dX5_undo_75 rfl ?_
        refine lv_iload_n hx hb dX5_undo_77 rfl (lv_at hl 2 rfl) ?_
        refine rn_imul hx hb dX5_undo_78 ?_
        refine rn_iadd hx hb dX5_undo_79 ?_
        refine lv_iconst (v := nI 4) hx hb dX5_undo_80 rfl ?_
        refine rn_iadd hx hb dX5_undo_81 ?_
        refine lv_aload_n hx hb dX5_undo_82 rfl (lv_at hl 0 rfl) ?_
        refine md_g0 C hP dX5_undo_83 ?_
        refine lv_iload_n hx hb dX5_undo_86 rfl (lv_at hl 1 rfl) ?_
        refine lv_bipush (v := nI 6) hx hb dX5_undo_87 rfl ?_
        refine rn_iadd hx hb dX5_undo_89 ?_
        refine lv_iload_n hx hb dX5_undo_90 rfl (lv_at hl 2 rfl) ?_
        refine rn_iadd hx hb dX5_undo_91 ?_
        refine md_l0 C hP (by omega) dX5_undo_92 ?_
        refine md_s0 C hP hS (by omega) dX5_undo_93 (fun H locs hP hS => ?_)
        refine rn_iinc (lv' := [(2, .int (nI (i + 1))), (0, .ref n), (1, .int (nI (115 + 51 * (un - 1))))]) hx hb dX5_undo_94 hl (k := 2) rfl (by decide) rfl (fun ls hl => ?_)
        refine lv_goto (tgt := 42) hx hb dX5_undo_97 (by decide) ?_
        exact ih42 _ (by omega) (i + 1) (mdS (mdS σ1 0 ((43 + (3 * i)) + 1) (σ1 0 ((115 + 51 * (un - 1)) + i))) 0 ((7 + (6 * i)) + 4) ((mdS σ1 0 ((43 + (3 * i)) + 1) (σ1 0 ((115 + 51 * (un - 1)) + i))) 0 (((115 + 51 * (un - 1)) + 6) + i))) _ _ rfl (by omega) hu0 (by rw [hs, mdN_S, mdN_S]; refine mdN_f (fun k => ?_); simp only [upd, mdN_0]; clear ih42; grind) hP hS ls (lv_sub hl [1, 2, 0] rfl)
  refine lv_aload_n hx hb dX5_undo_0 rfl (lv_at hl 0 rfl) ?_
  refine md_g0 C hP dX5_undo_1 ?_
  refine lv_bipush (v := nI 6) hx hb dX5_undo_4 rfl ?_
  refine md_l0 C hP (by omega) dX5_undo_6 ?_
  refine rn_co (y := nI un) h6 ?_
  refine rn_if_ne (tgt := 15) hx hb (by omega) dX5_undo_7 (by decide) (fun c_7 => ?_) (fun c_7 => ?_)
  · refine lv_aload_n hx hb dX5_undo_15 rfl (lv_at hl 0 rfl) ?_
    refine md_g0 C hP dX5_undo_16 ?_
    refine lv_bipush (v := nI 6) hx hb dX5_undo_19 rfl ?_
    refine lv_dup2_11 hx hb dX5_undo_21 rfl rfl ?_
    refine md_l0 C hP (by omega) dX5_undo_22 ?_
    refine rn_co (y := nI un) h6 ?_
    refine lv_iconst (v := nI 1) hx hb dX5_undo_23 rfl ?_
    refine rn_isub hx hb (by omega) dX5_undo_24 ?_
    refine md_s0 C hP hS (by omega) dX5_undo_25 (fun H locs hP hS => ?_)
    refine lv_bipush (v := nI 115) hx hb dX5_undo_26 rfl ?_
    refine lv_bipush (v := nI 51) hx hb dX5_undo_28 rfl ?_
    refine lv_aload_n hx hb dX5_undo_30 rfl (lv_at hl 0 rfl) ?_
    refine md_g0 C hP dX5_undo_31 ?_
    refine lv_bipush (v := nI 6) hx hb dX5_undo_34 rfl ?_
    refine md_l0 C hP (by omega) dX5_undo_36 ?_
    refine rn_co (y := nI (un - 1)) (mdS_eq _ _ _ _) ?_
    refine rn_imul hx hb dX5_undo_37 ?_
    refine rn_iadd hx hb dX5_undo_38 ?_
    refine lv_istore_n (lv' := [(1, .int (nI (115 + (51 * (un - 1))))), (0, .ref n)]) hx hb dX5_undo_39 rfl hl (by decide) rfl (fun ls hl => ?_)
    refine lv_iconst (v := nI 0) hx hb dX5_undo_40 rfl ?_
    refine lv_istore_n (lv' := [(2, .int (nI 0)), (1, .int (nI (115 + (51 * (un - 1))))), (0, .ref n)]) hx hb dX5_undo_41 rfl hl (by decide) rfl (fun ls hl => ?_)
    exact K42 _ 0 (mdS σ 0 6 (nI (un - 1))) _ _ rfl (by omega) c_7 (by rw [mdN_s]; refine mdN_f (fun k => ?_); simp only [upd]; grind) hP hS ls (lv_sub hl [2, 1, 0] rfl)
  · refine lv_aload_n hx hb dX5_undo_10 rfl (lv_at hl 0 rfl) ?_
    refine md_cWe (As := []) (rest := []) C hP hS (met_no l dC dI dA n σ ab be) card_no rfl rfl ⟨Nat.le_of_ble_eq_true rfl, Nat.le_of_ble_eq_true rfl⟩ hl.1 (Nat.le_of_ble_eq_true rfl) dX5_undo_11 (fun H locs hP hS => ?_)
    exact md_ri C hr hlk hP hS dX5_undo_14 (by rw [sp_undo, if_pos (by rw [h6, c_7]; rfl)]; exact ⟨rfl, rfl⟩)
set_option maxHeartbeats 4000000 in
theorem met_let (l : Launch) (dC : Nat → ClassId) (dI : Nat → Nat → Nat) (dA : Nat → ClassId) (n : Nat) (σ : mdT) (ab be : Int64) (v : Int32) (r : Int32) (many : Nat) (h0 : σ 0 0 = nI many) (hm : many ≤ 6) (rent : Nat) (h1 : σ 0 1 = nI rent) (hr6 : rent ≤ 6) (un : Nat) (h6 : σ 0 6 = nI un) (hu8 : un ≤ 8) (hs_ : Nat) (h4 : σ 0 4 = nI hs_) (hs12 : hs_ ≤ 12) : Met l yX5_let (ws_ yX5_let cX5_let 4 (some .int)) { frames := 3, cells := 0, slots := 0, locals := 180 } (mdPc dC dI dA n σ ab be [.ref n, .int v, .int r]) (va_Qi (fun r_ u => r_ = (sp_let σ v r).1 ∧ mdQ (sp_let σ v r).2 u) (mdB dC dI dA n ab be) (mdA n)) 0 0 (mdA n) := by
  refine md_in (by decide) rfl (Nat.le_of_ble_eq_true rfl) (lv := [(0, .ref n), (1, .int v), (2, .int r)]) rfl ?_
  intro p e s m below meth c C hr hlk hP ls hl
  have hx := C.1
  have hb := C.2.1
  have hown := C.2.2.2.1
  have hts := C.2.2.2.2.1
  have hS : va_S (mdA n) s.heap s.heap [] := va_S.rf
  refine lv_aload_n hx hb dX5_let_0 rfl (lv_at hl 0 rfl) ?_
  refine lv_iload_n hx hb dX5_let_1 rfl (lv_at hl 1 rfl) ?_
  refine md_cSe (As := [.int v]) (rest := []) C hP (met_isView l dC dI dA n σ ab be v) card_isView rfl rfl ⟨Nat.le_of_ble_eq_true rfl, Nat.le_of_ble_eq_true rfl⟩ hl.1 (Nat.le_of_ble_eq_true rfl) dX5_let_2 ?_
  refine rn_zt (tgt := 16) hx hb dX5_let_5 (by decide) (fun c_5 => ?_) (fun c_5 => ?_)
  · refine lv_aload_n hx hb dX5_let_16 rfl (lv_at hl 0 rfl) ?_
    refine lv_bipush (v := (-2)) hx hb dX5_let_17 rfl ?_
    refine md_cWe (As := [.int (-2)]) (rest := []) C hP hS (met_bad l dC dI dA n σ ab be (-2)) card_bad rfl rfl ⟨Nat.le_of_ble_eq_true rfl, Nat.le_of_ble_eq_true rfl⟩ hl.1 (Nat.le_of_ble_eq_true rfl) dX5_let_19 (fun H locs hP hS => ?_)
    exact md_ri C hr hlk hP hS dX5_let_22 (by first | (rw [sp_let, if_neg (rv_nf c_5)]; exact ⟨rfl, (mdQ.rf σ).bad _⟩) | (rw [sp_let, if_pos c_5, if_neg (rv_nf c_13)]; exact ⟨rfl, (mdQ.rf σ).bad _⟩))
  · obtain ⟨j, hj, hv⟩ := rv_isx h0 hm c_5
    refine lv_aload_n hx hb dX5_let_8 rfl (lv_at hl 0 rfl) ?_
    refine lv_iload_n hx hb dX5_let_9 rfl (lv_at hl 2 rfl) ?_
    refine md_cSe (As := [.int r]) (rest := []) C hP (met_isRenter l dC dI dA n σ ab be r) card_isRenter rfl rfl ⟨Nat.le_of_ble_eq_true rfl, Nat.le_of_ble_eq_true rfl⟩ hl.1 (Nat.le_of_ble_eq_true rfl) dX5_let_10 ?_
    refine rn_zf (tgt := 23) hx hb dX5_let_13 (by decide) (fun c_13 => ?_) (fun c_13 => ?_)
    · obtain ⟨k, hk, hr_⟩ := rv_isx h1 hr6 c_13
      have hkv := hv
      have hkr := hr_
      refine lv_aload_n hx hb dX5_let_23 rfl (lv_at hl 0 rfl) ?_
      refine md_cWv (As := []) (rest := []) C hP hS (met_layHand l dC dI dA n σ ab be many h0 hm rent h1 hr6) card_layHand rfl rfl ⟨Nat.le_of_ble_eq_true rfl, Nat.le_of_ble_eq_true rfl⟩ hl.1 (Nat.le_of_ble_eq_true rfl) dX5_let_24 (fun s24 H locs hs24 hP hS => ?_)
      have e0 : s24 0 = σ 0 := hs24.Q.1
      have h0s : s24 0 0 = nI many := by rw [e0]; exact h0
      have h6s : s24 0 6 = nI un := by rw [e0]; exact h6
      have hc := hs24.2.2.2.1 j hj
      obtain ⟨w5, w6, w7⟩ := hs24.2.2.2.2 k hk
      have U : sp_let σ v r = sp_let σ v r := rfl
      conv at U => rhs; rw [sp_let, if_pos c_5, if_pos c_13, hkv, hkr, rv_cln (show j < 2 ^ 31 by omega), rv_cln (show k < 2 ^ 31 by omega), h0, h6, h4, rv_cln (show many < 2 ^ 31 by omega), rv_cln (show un < 2 ^ 31 by omega), rv_cln (show hs_ < 2 ^ 31 by omega)]
      rw [← hkv, ← hkr] at U
      refine lv_aload_n hx hb dX5_let_27 rfl (lv_at hl 0 rfl) ?_
      refine lv_iload_n hx hb dX5_let_28 rfl (lv_at hl 1 rfl) ?_
      refine rn_co (y := nI j) hv ?_
      refine lv_iconst (v := nI 4) hx hb dX5_let_29 rfl ?_
      refine md_cSe (As := [.int (nI j), .int (nI 4)]) (rest := []) C hP (met_viewHas l dC dI dA n s24 ab be j 4 (by omega) (by omega)) card_viewHas rfl rfl ⟨Nat.le_of_ble_eq_true rfl, Nat.le_of_ble_eq_true rfl⟩ hl.1 (Nat.le_of_ble_eq_true rfl) dX5_let_30 ?_
      refine lv_iconst (v := (-1)) hx hb dX5_let_33 rfl ?_
      refine lv_icmp_ne (tgt := 50) hx hb dX5_let_34 (by decide) (fun (c_34 : ¬ s24 0 (7 + 6 * j + 4) = (-1)) => ?_) (fun (c_34 : s24 0 (7 + 6 * j + 4) = (-1)) => ?_)
      · refine lv_iconst (v := nI 0) hx hb dX5_let_50 rfl ?_
        refine lv_istore_n (lv' := [(3, .int (nI 0)), (0, .ref n), (1, .int v), (2, .int r)]) hx hb dX5_let_51 rfl hl (by decide) rfl (fun ls hl => ?_)
        refine lv_iload_n hx hb dX5_let_52 rfl (lv_at hl 0 rfl) ?_
        refine rn_if_eq (tgt := 85) hx hb (by omega) dX5_let_53 (by decide) (fun c_53 => ?_) (fun c_53 => ?_)
        · refine lv_aload_n hx hb dX5_let_85 rfl (lv_at hl 1 rfl) ?_
          refine md_cWe (As := []) (rest := []) C hP hS (met_no l dC dI dA n s24 ab be) card_no rfl rfl ⟨Nat.le_of_ble_eq_true rfl, Nat.le_of_ble_eq_true rfl⟩ hl.1 (Nat.le_of_ble_eq_true rfl) dX5_let_86 (fun H locs hP hS => ?_)
          exact md_ri C hr hlk hP hS dX5_let_89 (by first | (rw [e0] at c_34; rw [U, if_neg c_34]; exact ⟨rfl, hs24.Q.no⟩) | (rw [e0] at c_34 c_43; rw [← hkr] at c_43; rw [U, if_pos c_34, if_neg c_43]; exact ⟨rfl, hs24.Q.no⟩) | (rw [e0] at c_34 c_43 c_67; rw [← hkr] at c_43; rw [w5] at c_67; rw [U, if_pos c_34, if_pos c_43, if_neg (rv_nf c_67)]; exact ⟨rfl, hs24.Q.no⟩) | (rw [e0] at c_34 c_43 c_67; rw [← hkr] at c_43; rw [w5] at c_67; rw [hc, w6] at c_82; rw [U, if_pos c_34, if_pos c_43, if_pos c_67, if_neg c_82]; exact ⟨rfl, hs24.Q.no⟩))
        · exact absurd c_53 (by decide)
      · refine lv_aload_n hx hb dX5_let_37 rfl (lv_at hl 0 rfl) ?_
        refine lv_iload_n hx hb dX5_let_38 rfl (lv_at hl 2 rfl) ?_
        refine rn_co (y := nI k) hr_ ?_
        refine md_cSe (As := [.int (nI k)]) (rest := []) C hP (met_viewOf l dC dI dA n s24 ab be (nI k) many h0s hm) card_viewOf rfl rfl ⟨Nat.le_of_ble_eq_true rfl, Nat.le_of_ble_eq_true rfl⟩ hl.1 (Nat.le_of_ble_eq_true rfl) dX5_let_39 ?_
        refine lv_iconst (v := (-1)) hx hb dX5_let_42 rfl ?_
        refine lv_icmp_ne (tgt := 50) hx hb dX5_let_43 (by decide) (fun (c_43 : ¬ rv_vo (fun v => s24 0 (7 + 6 * v + 4)) (nI k) many = (-1)) => ?_) (fun (c_43 : rv_vo (fun v => s24 0 (7 + 6 * v + 4)) (nI k) many = (-1)) => ?_)
        · refine lv_iconst (v := nI 0) hx hb dX5_let_50 rfl ?_
          refine lv_istore_n (lv' := [(3, .int (nI 0)), (0, .ref n), (1, .int v), (2, .int r)]) hx hb dX5_let_51 rfl hl (by decide) rfl (fun ls hl => ?_)
          refine lv_iload_n hx hb dX5_let_52 rfl (lv_at hl 0 rfl) ?_
          refine rn_if_eq (tgt := 85) hx hb (by omega) dX5_let_53 (by decide) (fun c_53 => ?_) (fun c_53 => ?_)
          · refine lv_aload_n hx hb dX5_let_85 rfl (lv_at hl 1 rfl) ?_
            refine md_cWe (As := []) (rest := []) C hP hS (met_no l dC dI dA n s24 ab be) card_no rfl rfl ⟨Nat.le_of_ble_eq_true rfl, Nat.le_of_ble_eq_true rfl⟩ hl.1 (Nat.le_of_ble_eq_true rfl) dX5_let_86 (fun H locs hP hS => ?_)
            exact md_ri C hr hlk hP hS dX5_let_89 (by first | (rw [e0] at c_34; rw [U, if_neg c_34]; exact ⟨rfl, hs24.Q.no⟩) | (rw [e0] at c_34 c_43; rw [← hkr] at c_43; rw [U, if_pos c_34, if_neg c_43]; exact ⟨rfl, hs24.Q.no⟩) | (rw [e0] at c_34 c_43 c_67; rw [← hkr] at c_43; rw [w5] at c_67; rw [U, if_pos c_34, if_pos c_43, if_neg (rv_nf c_67)]; exact ⟨rfl, hs24.Q.no⟩) | (rw [e0] at c_34 c_43 c_67; rw [← hkr] at c_43; rw [w5] at c_67; rw [hc, w6] at c_82; rw [U, if_pos c_34, if_pos c_43, if_pos c_67, if_neg c_82]; exact ⟨rfl, hs24.Q.no⟩))
          · exact absurd c_53 (by decide)
        · refine lv_iconst (v := nI 1) hx hb dX5_let_46 rfl ?_
          refine lv_goto (tgt := 51) hx hb dX5_let_47 (by decide) ?_
          refine lv_istore_n (lv' := [(3, .int (nI 1)), (0, .ref n), (1, .int v), (2, .int r)]) hx hb dX5_let_51 rfl hl (by decide) rfl (fun ls hl => ?_)
          refine lv_iload_n hx hb dX5_let_52 rfl (lv_at hl 0 rfl) ?_
          refine rn_if_eq (tgt := 85) hx hb (by omega) dX5_let_53 (by decide) (fun c_53 => ?_) (fun c_53 => ?_)
          · exact absurd c_53 (by decide)
          · refine lv_aload_n hx hb dX5_let_56 rfl (lv_at hl 1 rfl) ?_
            refine lv_iload_n hx hb dX5_let_57 rfl (lv_at hl 2 rfl) ?_
            refine rn_co (y := nI j) hv ?_
            refine lv_aload_n hx hb dX5_let_58 rfl (lv_at hl 1 rfl) ?_
            refine md_g8 C hP dX5_let_59 ?_
            refine lv_iload_n hx hb dX5_let_62 rfl (lv_at hl 3 rfl) ?_
            refine rn_co (y := nI k) hr_ ?_
            refine md_l5 C hP (by omega) dX5_let_63 ?_
            refine md_cSe (As := [.int (nI j), .int (s24 5 k)]) (rest := []) C hP (met_fits l dC dI dA n s24 ab be j (s24 5 k) (by omega)) card_fits rfl rfl ⟨Nat.le_of_ble_eq_true rfl, Nat.le_of_ble_eq_true rfl⟩ hl.1 (Nat.le_of_ble_eq_true rfl) dX5_let_64 ?_
            refine rn_zt (tgt := 85) hx hb dX5_let_67 (by decide) (fun c_67 => ?_) (fun c_67 => ?_)
            · refine lv_aload_n hx hb dX5_let_85 rfl (lv_at hl 1 rfl) ?_
              refine md_cWe (As := []) (rest := []) C hP hS (met_no l dC dI dA n s24 ab be) card_no rfl rfl ⟨Nat.le_of_ble_eq_true rfl, Nat.le_of_ble_eq_true rfl⟩ hl.1 (Nat.le_of_ble_eq_true rfl) dX5_let_86 (fun H locs hP hS => ?_)
              exact md_ri C hr hlk hP hS dX5_let_89 (by first | (rw [e0] at c_34; rw [U, if_neg c_34]; exact ⟨rfl, hs24.Q.no⟩) | (rw [e0] at c_34 c_43; rw [← hkr] at c_43; rw [U, if_pos c_34, if_neg c_43]; exact ⟨rfl, hs24.Q.no⟩) | (rw [e0] at c_34 c_43 c_67; rw [← hkr] at c_43; rw [w5] at c_67; rw [U, if_pos c_34, if_pos c_43, if_neg (rv_nf c_67)]; exact ⟨rfl, hs24.Q.no⟩) | (rw [e0] at c_34 c_43 c_67; rw [← hkr] at c_43; rw [w5] at c_67; rw [hc, w6] at c_82; rw [U, if_pos c_34, if_pos c_43, if_pos c_67, if_neg c_82]; exact ⟨rfl, hs24.Q.no⟩))
            · refine lv_aload_n hx hb dX5_let_70 rfl (lv_at hl 1 rfl) ?_
              refine md_g6 C hP dX5_let_71 ?_
              refine lv_iload_n hx hb dX5_let_74 rfl (lv_at hl 2 rfl) ?_
              refine rn_co (y := nI j) hv ?_
              refine md_l4 C hP (by omega) dX5_let_75 ?_
              refine lv_aload_n hx hb dX5_let_76 rfl (lv_at hl 1 rfl) ?_
              refine md_g9 C hP dX5_let_77 ?_
              refine lv_iload_n hx hb dX5_let_80 rfl (lv_at hl 3 rfl) ?_
              refine rn_co (y := nI k) hr_ ?_
              refine md_l6 C hP (by omega) dX5_let_81 ?_
              refine lv_icmp_le (tgt := 90) hx hb dX5_let_82 (by decide) (fun (c_82 : s24 4 j ≤ s24 6 k) => ?_) (fun (c_82 : ¬ s24 4 j ≤ s24 6 k) => ?_)
              · refine lv_aload_n hx hb dX5_let_90 rfl (lv_at hl 1 rfl) ?_
                refine md_cWv (As := []) (rest := []) C hP hS (met_keep l dC dI dA n s24 ab be un h6s hu8) card_keep rfl rfl ⟨Nat.le_of_ble_eq_true rfl, Nat.le_of_ble_eq_true rfl⟩ hl.1 (Nat.le_of_ble_eq_true rfl) dX5_let_91 (fun s91 H locs hs91 hP hS => ?_)
                refine lv_aload_n hx hb dX5_let_94 rfl (lv_at hl 1 rfl) ?_
                refine md_g0 C hP dX5_let_95 ?_
                refine lv_bipush (v := nI 7) hx hb dX5_let_98 rfl ?_
                refine lv_bipush (v := nI 6) hx hb dX5_let_100 rfl ?_
                refine lv_iload_n hx hb dX5_let_102 rfl (lv_at hl 2 rfl) ?_
                refine rn_co (y := nI j) hv ?_
                refine rn_imul hx hb dX5_let_103 ?_
                refine rn_iadd hx hb dX5_let_104 ?_
                refine lv_iconst (v := nI 4) hx hb dX5_let_105 rfl ?_
                refine rn_iadd hx hb dX5_let_106 ?_
                refine lv_iload_n hx hb dX5_let_107 rfl (lv_at hl 3 rfl) ?_
                refine rn_co (y := nI k) hr_ ?_
                refine md_s0 C hP hS (by omega) dX5_let_108 (fun H locs hP hS => ?_)
                refine lv_aload_n hx hb dX5_let_109 rfl (lv_at hl 1 rfl) ?_
                refine md_g0 C hP dX5_let_110 ?_
                refine lv_bipush (v := nI 43) hx hb dX5_let_113 rfl ?_
                refine lv_iconst (v := nI 3) hx hb dX5_let_115 rfl ?_
                refine lv_iload_n hx hb dX5_let_116 rfl (lv_at hl 3 rfl) ?_
                refine rn_co (y := nI k) hr_ ?_
                refine rn_imul hx hb dX5_let_117 ?_
                refine rn_iadd hx hb dX5_let_118 ?_
                refine lv_iconst (v := nI 1) hx hb dX5_let_119 rfl ?_
                refine rn_iadd hx hb dX5_let_120 ?_
                refine lv_dup2_11 hx hb dX5_let_121 rfl rfl ?_
                refine md_l0 C hP (by omega) dX5_let_122 ?_
                refine lv_aload_n hx hb dX5_let_123 rfl (lv_at hl 1 rfl) ?_
                refine md_g6 C hP dX5_let_124 ?_
                refine lv_iload_n hx hb dX5_let_127 rfl (lv_at hl 2 rfl) ?_
                refine rn_co (y := nI j) hv ?_
                refine md_l4 C hP (by omega) dX5_let_128 ?_
                refine lv_isub hx hb dX5_let_129 ?_
                refine md_s0 C hP hS (by omega) dX5_let_130 (fun H locs hP hS => ?_)
                refine lv_aload_n hx hb dX5_let_131 rfl (lv_at hl 1 rfl) ?_
                refine md_g0 C hP dX5_let_132 ?_
                refine lv_iconst (v := nI 3) hx hb dX5_let_135 rfl ?_
                refine lv_dup2_11 hx hb dX5_let_136 rfl rfl ?_
                refine md_l0 C hP (by omega) dX5_let_137 ?_
                refine lv_aload_n hx hb dX5_let_138 rfl (lv_at hl 1 rfl) ?_
                refine md_g6 C hP dX5_let_139 ?_
                refine lv_iload_n hx hb dX5_let_142 rfl (lv_at hl 2 rfl) ?_
                refine rn_co (y := nI j) hv ?_
                refine md_l4 C hP (by omega) dX5_let_143 ?_
                refine lv_iadd hx hb dX5_let_144 ?_
                refine md_s0 C hP hS (by omega) dX5_let_145 (fun H locs hP hS => ?_)
                have h4s : mdS (mdS (mdS s91 0 ((7 + (6 * j)) + 4) (nI k)) 0 ((43 + (3 * k)) + 1) (((mdS s91 0 ((7 + (6 * j)) + 4) (nI k)) 0 ((43 + (3 * k)) + 1)) - ((mdS s91 0 ((7 + (6 * j)) + 4) (nI k)) 4 j))) 0 3 (((mdS (mdS s91 0 ((7 + (6 * j)) + 4) (nI k)) 0 ((43 + (3 * k)) + 1) (((mdS s91 0 ((7 + (6 * j)) + 4) (nI k)) 0 ((43 + (3 * k)) + 1)) - ((mdS s91 0 ((7 + (6 * j)) + 4) (nI k)) 4 j))) 0 3) + ((mdS (mdS s91 0 ((7 + (6 * j)) + 4) (nI k)) 0 ((43 + (3 * k)) + 1) (((mdS s91 0 ((7 + (6 * j)) + 4) (nI k)) 0 ((43 + (3 * k)) + 1)) - ((mdS s91 0 ((7 + (6 * j)) + 4) (nI k)) 4 j))) 4 j)) 0 4 = nI hs_ := by rw [mdS_ne (by omega), mdS_ne (by omega), mdS_ne (by omega), hs91, mdN_0, e0, ← h4]; grind [rv_keep, rv_shift]
                refine lv_aload_n hx hb dX5_let_146 rfl (lv_at hl 1 rfl) ?_
                refine lv_iload_n hx hb dX5_let_147 rfl (lv_at hl 2 rfl) ?_
                refine rn_co (y := nI j) hv ?_
                refine lv_iload_n hx hb dX5_let_148 rfl (lv_at hl 3 rfl) ?_
                refine rn_co (y := nI k) hr_ ?_
                refine md_cWv (As := [.int (nI j), .int (nI k)]) (rest := []) C hP hS (met_remember l dC dI dA n (mdS (mdS (mdS s91 0 ((7 + (6 * j)) + 4) (nI k)) 0 ((43 + (3 * k)) + 1) (((mdS s91 0 ((7 + (6 * j)) + 4) (nI k)) 0 ((43 + (3 * k)) + 1)) - ((mdS s91 0 ((7 + (6 * j)) + 4) (nI k)) 4 j))) 0 3 (((mdS (mdS s91 0 ((7 + (6 * j)) + 4) (nI k)) 0 ((43 + (3 * k)) + 1) (((mdS s91 0 ((7 + (6 * j)) + 4) (nI k)) 0 ((43 + (3 * k)) + 1)) - ((mdS s91 0 ((7 + (6 * j)) + 4) (nI k)) 4 j))) 0 3) + ((mdS (mdS s91 0 ((7 + (6 * j)) + 4) (nI k)) 0 ((43 + (3 * k)) + 1) (((mdS s91 0 ((7 + (6 * j)) + 4) (nI k)) 0 ((43 + (3 * k)) + 1)) - ((mdS s91 0 ((7 + (6 * j)) + 4) (nI k)) 4 j))) 4 j))) ab be (nI j) (nI k) hs_ h4s hs12) card_remember rfl rfl ⟨Nat.le_of_ble_eq_true rfl, Nat.le_of_ble_eq_true rfl⟩ hl.1 (Nat.le_of_ble_eq_true rfl) dX5_let_149 (fun s149 H locs hs149 hP hS => ?_)
                refine lv_aload_n hx hb dX5_let_152 rfl (lv_at hl 1 rfl) ?_
                refine md_g6 C hP dX5_let_153 ?_
                refine lv_iload_n hx hb dX5_let_156 rfl (lv_at hl 2 rfl) ?_
                refine rn_co (y := nI j) hv ?_
                refine md_l4 C hP (by omega) dX5_let_157 ?_
                exact md_ri C hr hlk hP hS dX5_let_158 (by rw [e0] at c_34 c_43 c_67; rw [← hkr] at c_43; rw [w5] at c_67; rw [hc, w6] at c_82; rw [U, if_pos c_34, if_pos c_43, if_pos c_67, if_pos c_82]; rw [hs91, mdN_S, mdN_S, mdN_S, mdN_N] at hs149; refine ⟨by rw [hs149, mdN_ne _ _ (by decide)]; exact hc, ?_⟩; rw [hs149]; refine hs24.Q.N _ _ (fun q => ?_); show rv_rem _ hs_ v r q = rv_rem _ hs_ _ _ q; rw [hkv, hkr]; congr 1; funext q; have k1 : rv_keep (σ 0) un (43 + 3 * k + 1) = σ 0 (43 + 3 * k + 1) := (by grind [rv_keep, rv_shift]); have k3 : rv_keep (σ 0) un 3 = σ 0 3 := (by grind [rv_keep, rv_shift]); simp only [upd, mdN_0, e0, mdN_ne _ _ (show 4 ≠ 0 by decide), hc]; grind)
              · refine lv_aload_n hx hb dX5_let_85 rfl (lv_at hl 1 rfl) ?_
                refine md_cWe (As := []) (rest := []) C hP hS (met_no l dC dI dA n s24 ab be) card_no rfl rfl ⟨Nat.le_of_ble_eq_true rfl, Nat.le_of_ble_eq_true rfl⟩ hl.1 (Nat.le_of_ble_eq_true rfl) dX5_let_86 (fun H locs hP hS => ?_)
                exact md_ri C hr hlk hP hS dX5_let_89 (by first | (rw [e0] at c_34; rw [U, if_neg c_34]; exact ⟨rfl, hs24.Q.no⟩) | (rw [e0] at c_34 c_43; rw [← hkr] at c_43; rw [U, if_pos c_34, if_neg c_43]; exact ⟨rfl, hs24.Q.no⟩) | (rw [e0] at c_34 c_43 c_67; rw [← hkr] at c_43; rw [w5] at c_67; rw [U, if_pos c_34, if_pos c_43, if_neg (rv_nf c_67)]; exact ⟨rfl, hs24.Q.no⟩) | (rw [e0] at c_34 c_43 c_67; rw [← hkr] at c_43; rw [w5] at c_67; rw [hc, w6] at c_82; rw [U, if_pos c_34, if_pos c_43, if_pos c_67, if_neg c_82]; exact ⟨rfl, hs24.Q.no⟩))
    · refine lv_aload_n hx hb dX5_let_16 rfl (lv_at hl 0 rfl) ?_
      refine lv_bipush (v := (-2)) hx hb dX5_let_17 rfl ?_
      refine md_cWe (As := [.int (-2)]) (rest := []) C hP hS (met_bad l dC dI dA n σ ab be (-2)) card_bad rfl rfl ⟨Nat.le_of_ble_eq_true rfl, Nat.le_of_ble_eq_true rfl⟩ hl.1 (Nat.le_of_ble_eq_true rfl) dX5_let_19 (fun H locs hP hS => ?_)
      exact md_ri C hr hlk hP hS dX5_let_22 (by first | (rw [sp_let, if_neg (rv_nf c_5)]; exact ⟨rfl, (mdQ.rf σ).bad _⟩) | (rw [sp_let, if_pos c_5, if_neg (rv_nf c_13)]; exact ⟨rfl, (mdQ.rf σ).bad _⟩))
