set_option maxRecDepth 100000
/-! the Model: evenings -/
/-- what is kept of an evening, by its place -/
def rv_snap (f : Nat → Int32) (j : Nat) : Int32 := if j < 6 then f (43 + 3 * j + 1) else if j < 12 then f (7 + 6 * (j - 6) + 4) else if j = 12 then f 2 else if j = 13 then f 3 else if j = 14 then f 4 else f (61 + (j - 15))
/-- the kept ones moved where all eight places are taken -/
def rv_shift (f : Nat → Int32) (un : Nat) (k : Nat) : Int32 := if un = 8 ∧ 115 ≤ k ∧ k < 472 then f (k + 51) else f k
def rv_m7 (un : Nat) : Nat := if un = 8 then 7 else un
def rv_keep (f : Nat → Int32) (un : Nat) (k : Nat) : Int32 := if k = 6 then nI (rv_m7 un + 1) else if 115 + 51 * rv_m7 un ≤ k ∧ k < 115 + 51 * rv_m7 un + 51 then rv_snap f (k - (115 + 51 * rv_m7 un)) else rv_shift f un k
theorem mdN_f {σ : mdT} {f g : Nat → Int32} (h : ∀ k, f k = g k) : mdN σ f = mdN σ g := congrArg (mdN σ) (funext h)
set_option maxHeartbeats 2000000 in
theorem met_keep (l : Launch) (dC : Nat → ClassId) (dI : Nat → Nat → Nat) (dA : Nat → ClassId) (n : Nat) (σ : mdT) (ab be : Int64) (un : Nat) (h6 : σ 0 6 = nI un) (hu8 : un ≤ 8) : Met l yX5_keep (ws_ yX5_keep cX5_keep 3 none) { frames := 2, cells := 0, slots := 0, locals := 120 } (mdPc dC dI dA n σ ab be [.ref n]) (va_Qv (fun u => u = mdN σ (rv_keep (σ 0) un)) (mdB dC dI dA n ab be) (mdA n)) 0 0 (mdA n) := by
  refine md_in (by decide) rfl (Nat.le_of_ble_eq_true rfl) (lv := [(0, .ref n)]) rfl ?_
  intro p e s m below meth c C hr hlk hP ls hl
  have hx := C.1
  have hb := C.2.1
  have hown := C.2.2.2.1
  have hts := C.2.2.2.2.1
  have hS : va_S (mdA n) s.heap s.heap [] := va_S.rf
  have K161 : ∀ (k161_ : Nat) (m_ : Nat) (i : Nat) (σ7 : mdT) (H : Heap) (locs : List Loc), 36 - i = k161_ → (m_ = rv_m7 un ∧ m_ ≤ 7) → (i ≤ 36) → (σ7 = mdN σ (fun k => if 115 + 51 * m_ ≤ k ∧ k < 115 + 51 * m_ + 15 + i then rv_snap (σ 0) (k - (115 + 51 * m_)) else if k = 6 then nI m_ else rv_shift (σ 0) un k)) → mdP dC dI dA n σ7 ab be H → va_S (mdA n) s.heap H locs → ∀ ls, lv_has ls 3 [(0, .ref n), (1, .int (nI (115 + 51 * m_))), (2, .int (nI i))] → W p l e { frames := 2, cells := 0, slots := 0, locals := 120 } s m [.ref n].toArray below meth c H locs 0 0 (MQ below (va_Qv (fun u => u = mdN σ (rv_keep (σ 0) un)) (mdB dC dI dA n ab be) (mdA n)) [.ref n].toArray s 0 0 (mdA n)) (F0 m 161 ls []) := by
    intro k161_
    induction k161_ using Nat.strongRecOn with
    | _ k161_ ih161 =>
      intro m_ i σ7 H locs hm161_ hm7 hi hs hP hS ls hl
      refine lv_iload_n hx hb dX5_keep_161 rfl (lv_at hl 2 rfl) ?_
      refine lv_bipush (v := nI 36) hx hb dX5_keep_162 rfl ?_
      refine rn_icmp_ge (tgt := 193) hx hb (by omega) (by omega) dX5_keep_164 (by decide) (fun c_164 => ?_) (fun c_164 => ?_)
      · refine lv_aload_n hx hb dX5_keep_193 rfl (lv_at hl 0 rfl) ?_
        refine md_g0 C hP dX5_keep_194 ?_
        refine lv_bipush (v := nI 6) hx hb dX5_keep_197 rfl ?_
        refine lv_dup2_11 hx hb dX5_keep_199 rfl rfl ?_
        refine md_l0 C hP (by omega) dX5_keep_200 ?_
        refine lv_iconst (v := nI 1) hx hb dX5_keep_201 rfl ?_
        refine lv_iadd hx hb dX5_keep_202 ?_
        refine md_s0 C hP hS (by omega) dX5_keep_203 (fun H locs hP hS => ?_)
        exact md_rv C hr hlk hP hS dX5_keep_204 (by rw [hs, mdN_S]; refine mdN_f (fun k => ?_); simp only [upd, mdN_0]; obtain ⟨e1, e2⟩ := hm7; subst e1; have := nI_add (rv_m7 un) 1; clear ih161; grind [rv_keep])
      · refine lv_aload_n hx hb dX5_keep_167 rfl (lv_at hl 0 rfl) ?_
        refine md_g0 C hP dX5_keep_168 ?_
        refine lv_iload_n hx hb dX5_keep_171 rfl (lv_at hl 1 rfl) ?_
        refine lv_bipush (v := nI 15) hx hb dX5_keep_172 rfl ?_
        refine rn_iadd hx hb dX5_keep_174 ?_
        refine lv_iload_n hx hb dX5_keep_175 rfl (lv_at hl 2 rfl) ?_
        refine rn_iadd hx hb dX5_keep_176 ?_
        refine lv_aload_n hx hb dX5_keep_177 rfl (lv_at hl 0 rfl) ?_
        refine md_g0 C hP dX5_keep_178 ?_
        refine lv_bipush (v := nI 61) hx hb dX5_keep_181 rfl ?_
        refine lv_iload_n hx hb dX5_keep_183 rfl (lv_at hl 2 rfl) ?_
        refine rn_iadd hx hb dX5_keep_184 ?_
        refine md_l0 C hP (by omega) dX5_keep_185 ?_
        refine md_s0 C hP hS (by omega) dX5_keep_186 (fun H locs hP hS => ?_)
        refine rn_iinc (lv' := [(2, .int (nI (i + 1))), (0, .ref n), (1, .int (nI (115 + 51 * m_)))]) hx hb dX5_keep_187 hl (k := 2) rfl (by decide) rfl (fun ls hl => ?_)
        refine lv_goto (tgt := 161) hx hb dX5_keep_190 (by decide) ?_
        exact ih161 _ (by omega) m_ (i + 1) (mdS σ7 0 (((115 + 51 * m_) + 15) + i) (σ7 0 (61 + i))) _ _ rfl hm7 (by omega) (by rw [hs, mdN_S]; refine mdN_f (fun k => ?_); simp only [upd, mdN_0]; grind [rv_snap, rv_shift]) hP hS ls (lv_sub hl [1, 2, 0] rfl)
  have K71 : ∀ (k71_ : Nat) (m_ : Nat) (i : Nat) (σ6 : mdT) (H : Heap) (locs : List Loc), 6 - i = k71_ → (m_ = rv_m7 un ∧ m_ ≤ 7) → (i ≤ 6) → (σ6 = mdN σ (fun k => if 115 + 51 * m_ ≤ k ∧ k < 115 + 51 * m_ + i then rv_snap (σ 0) (k - (115 + 51 * m_)) else if 115 + 51 * m_ + 6 ≤ k ∧ k < 115 + 51 * m_ + 6 + i then rv_snap (σ 0) (k - (115 + 51 * m_)) else if k = 6 then nI m_ else rv_shift (σ 0) un k)) → mdP dC dI dA n σ6 ab be H → va_S (mdA n) s.heap H locs → ∀ ls, lv_has ls 3 [(0, .ref n), (1, .int (nI (115 + 51 * m_))), (2, .int (nI i))] → W p l e { frames := 2, cells := 0, slots := 0, locals := 120 } s m [.ref n].toArray below meth c H locs 0 0 (MQ below (va_Qv (fun u => u = mdN σ (rv_keep (σ 0) un)) (mdB dC dI dA n ab be) (mdA n)) [.ref n].toArray s 0 0 (mdA n)) (F0 m 71 ls []) := by
    intro k71_
    induction k71_ using Nat.strongRecOn with
    | _ k71_ ih71 =>
      intro m_ i σ6 H locs hm71_ hm7 hi hs hP hS ls hl
      refine lv_iload_n hx hb dX5_keep_71 rfl (lv_at hl 2 rfl) ?_
      refine lv_bipush (v := nI 6) hx hb dX5_keep_72 rfl ?_
      refine rn_icmp_ge (tgt := 114) hx hb (by omega) (by omega) dX5_keep_74 (by decide) (fun c_74 => ?_) (fun c_74 => ?_)
      · refine lv_aload_n hx hb dX5_keep_114 rfl (lv_at hl 0 rfl) ?_
        refine md_g0 C hP dX5_keep_115 ?_
        refine lv_iload_n hx hb dX5_keep_118 rfl (lv_at hl 1 rfl) ?_
        refine lv_bipush (v := nI 12) hx hb dX5_keep_119 rfl ?_
        refine rn_iadd hx hb dX5_keep_121 ?_
        refine lv_aload_n hx hb dX5_keep_122 rfl (lv_at hl 0 rfl) ?_
        refine md_g0 C hP dX5_keep_123 ?_
        refine lv_iconst (v := nI 2) hx hb dX5_keep_126 rfl ?_
        refine md_l0 C hP (by omega) dX5_keep_127 ?_
        refine md_s0 C hP hS (by omega) dX5_keep_128 (fun H locs hP hS => ?_)
        refine lv_aload_n hx hb dX5_keep_129 rfl (lv_at hl 0 rfl) ?_
        refine md_g0 C hP dX5_keep_130 ?_
        refine lv_iload_n hx hb dX5_keep_133 rfl (lv_at hl 1 rfl) ?_
        refine lv_bipush (v := nI 13) hx hb dX5_keep_134 rfl ?_
        refine rn_iadd hx hb dX5_keep_136 ?_
        refine lv_aload_n hx hb dX5_keep_137 rfl (lv_at hl 0 rfl) ?_
        refine md_g0 C hP dX5_keep_138 ?_
        refine lv_iconst (v := nI 3) hx hb dX5_keep_141 rfl ?_
        refine md_l0 C hP (by omega) dX5_keep_142 ?_
        refine md_s0 C hP hS (by omega) dX5_keep_143 (fun H locs hP hS => ?_)
        refine lv_aload_n hx hb dX5_keep_144 rfl (lv_at hl 0 rfl) ?_
        refine md_g0 C hP dX5_keep_145 ?_
        refine lv_iload_n hx hb dX5_keep_148 rfl (lv_at hl 1 rfl) ?_
        refine lv_bipush (v := nI 14) hx hb dX5_keep_149 rfl ?_
        refine rn_iadd hx hb dX5_keep_151 ?_
        refine lv_aload_n hx hb dX5_keep_152 rfl (lv_at hl 0 rfl) ?_
        refine md_g0 C hP dX5_keep_153 ?_
        refine lv_iconst (v := nI 4) hx hb dX5_keep_156 rfl ?_
        refine md_l0 C hP (by omega) dX5_keep_157 ?_
        refine md_s0 C hP hS (by omega) dX5_keep_158 (fun H locs hP hS => ?_)
        refine lv_iconst (v := nI 0) hx hb dX5_keep_159 rfl ?_
        refine lv_istore_n (lv' := [(2, .int (nI 0)), (0, .ref n), (1, .int (nI (115 + 51 * m_)))]) hx hb dX5_keep_160 rfl hl (by decide) rfl (fun ls hl => ?_)
        exact K161 _ m_ 0 (mdS (mdS (mdS σ6 0 ((115 + 51 * m_) + 12) (σ6 0 2)) 0 ((115 + 51 * m_) + 13) ((mdS σ6 0 ((115 + 51 * m_) + 12) (σ6 0 2)) 0 3)) 0 ((115 + 51 * m_) + 14) ((mdS (mdS σ6 0 ((115 + 51 * m_) + 12) (σ6 0 2)) 0 ((115 + 51 * m_) + 13) ((mdS σ6 0 ((115 + 51 * m_) + 12) (σ6 0 2)) 0 3)) 0 4)) _ _ rfl hm7 (by omega) (by rw [hs, mdN_S, mdN_S, mdN_S]; refine mdN_f (fun k => ?_); simp only [upd, mdN_0]; grind [rv_snap, rv_shift]) hP hS ls (lv_sub hl [1, 2, 0] rfl)
      · refine lv_aload_n hx hb dX5_keep_77 rfl (lv_at hl 0 rfl) ?_
        refine md_g0 C hP dX5_keep_78 ?_
        refine lv_iload_n hx hb dX5_keep_81 rfl (lv_at hl 1 rfl) ?_
        refine lv_iload_n hx hb dX5_keep_82 rfl (lv_at hl 2 rfl) ?_
        refine rn_iadd hx hb dX5_keep_83 ?_
        refine lv_aload_n hx hb dX5_keep_84 rfl (lv_at hl 0 rfl) ?_
        refine lv_iload_n hx hb dX5_keep_85 rfl (lv_at hl 2 rfl) ?_
        refine lv_iconst (v := nI 1) hx hb dX5_keep_86 rfl ?_
        refine md_cSe (As := [.int (nI i), .int (nI 1)]) (rest := [.int (nI ((115 + 51 * m_) + i)), .ref (n + 1)]) C hP (met_renterHas l dC dI dA n σ6 ab be i 1 (by omega) (by omega)) card_renterHas rfl rfl ⟨Nat.le_of_ble_eq_true rfl, Nat.le_of_ble_eq_true rfl⟩ hl.1 (Nat.le_of_ble_eq_true rfl) dX5_keep_87 ?_
        refine md_s0 C hP hS (by omega) dX5_keep_90 (fun H locs hP hS => ?_)
        refine lv_aload_n hx hb dX5_keep_91 rfl (lv_at hl 0 rfl) ?_
        refine md_g0 C hP dX5_keep_92 ?_
        refine lv_iload_n hx hb dX5_keep_95 rfl (lv_at hl 1 rfl) ?_
        refine lv_bipush (v := nI 6) hx hb dX5_keep_96 rfl ?_
        refine rn_iadd hx hb dX5_keep_98 ?_
        refine lv_iload_n hx hb dX5_keep_99 rfl (lv_at hl 2 rfl) ?_
        refine rn_iadd hx hb dX5_keep_100 ?_
        refine lv_aload_n hx hb dX5_keep_101 rfl (lv_at hl 0 rfl) ?_
        refine lv_iload_n hx hb dX5_keep_102 rfl (lv_at hl 2 rfl) ?_
        refine lv_iconst (v := nI 4) hx hb dX5_keep_103 rfl ?_
        refine md_cSe (As := [.int (nI i), .int (nI 4)]) (rest := [.int (nI (((115 + 51 * m_) + 6) + i)), .ref (n + 1)]) C hP (met_viewHas l dC dI dA n (mdS σ6 0 ((115 + 51 * m_) + i) (σ6 0 (43 + 3 * i + 1))) ab be i 4 (by omega) (by omega)) card_viewHas rfl rfl ⟨Nat.le_of_ble_eq_true rfl, Nat.le_of_ble_eq_true rfl⟩ hl.1 (Nat.le_of_ble_eq_true rfl) dX5_keep_104 ?_
        refine md_s0 C hP hS (by omega) dX5_keep_107 (fun H locs hP hS => ?_)
        refine rn_iinc (lv' := [(2, .int (nI (i + 1))), (0, .ref n), (1, .int (nI (115 + 51 * m_)))]) hx hb dX5_keep_108 hl (k := 2) rfl (by decide) rfl (fun ls hl => ?_)
        refine lv_goto (tgt := 71) hx hb dX5_keep_111 (by decide) ?_
        exact ih71 _ (by omega) m_ (i + 1) (mdS (mdS σ6 0 ((115 + 51 * m_) + i) (σ6 0 (43 + 3 * i + 1))) 0 (((115 + 51 * m_) + 6) + i) ((mdS σ6 0 ((115 + 51 * m_) + i) (σ6 0 (43 + 3 * i + 1))) 0 (7 + 6 * i + 4))) _ _ rfl hm7 (by omega) (by rw [hs, mdN_S, mdN_S]; refine mdN_f (fun k => ?_); simp only [upd, mdN_0]; grind [rv_snap, rv_shift]) hP hS ls (lv_sub hl [1, 2, 0] rfl)
  have K55 : ∀ (m_ : Nat) (σ5 : mdT) (H : Heap) (locs : List Loc), (m_ = rv_m7 un ∧ m_ ≤ 7) → (σ5 = mdN σ (fun k => if k = 6 then nI m_ else rv_shift (σ 0) un k)) → mdP dC dI dA n σ5 ab be H → va_S (mdA n) s.heap H locs → ∀ ls, lv_has ls 3 [(0, .ref n)] → W p l e { frames := 2, cells := 0, slots := 0, locals := 120 } s m [.ref n].toArray below meth c H locs 0 0 (MQ below (va_Qv (fun u => u = mdN σ (rv_keep (σ 0) un)) (mdB dC dI dA n ab be) (mdA n)) [.ref n].toArray s 0 0 (mdA n)) (F0 m 55 ls []) := by
    intro m_ σ5 H locs hm7 hs hP hS ls hl
    have h6a : σ5 0 6 = nI m_ := by rw [hs, mdN_0]; exact if_pos rfl
    refine lv_bipush (v := nI 115) hx hb dX5_keep_55 rfl ?_
    refine lv_bipush (v := nI 51) hx hb dX5_keep_57 rfl ?_
    refine lv_aload_n hx hb dX5_keep_59 rfl (lv_at hl 0 rfl) ?_
    refine md_g0 C hP dX5_keep_60 ?_
    refine lv_bipush (v := nI 6) hx hb dX5_keep_63 rfl ?_
    refine md_l0 C hP (by omega) dX5_keep_65 ?_
    refine rn_co (y := nI m_) h6a ?_
    refine rn_imul hx hb dX5_keep_66 ?_
    refine rn_iadd hx hb dX5_keep_67 ?_
    refine lv_istore_n (lv' := [(1, .int (nI (115 + (51 * m_)))), (0, .ref n)]) hx hb dX5_keep_68 rfl hl (by decide) rfl (fun ls hl => ?_)
    refine lv_iconst (v := nI 0) hx hb dX5_keep_69 rfl ?_
    refine lv_istore_n (lv' := [(2, .int (nI 0)), (1, .int (nI (115 + (51 * m_)))), (0, .ref n)]) hx hb dX5_keep_70 rfl hl (by decide) rfl (fun ls hl => ?_)
    exact K71 _ m_ 0 σ5 _ _ rfl hm7 (by omega) (by rw [hs]; refine mdN_f (fun k => ?_); grind) hP hS ls (lv_sub hl [2, 1, 0] rfl)
  have K14 : ∀ (k14_ : Nat) (i : Nat) (σ4 : mdT) (H : Heap) (locs : List Loc), 357 - i = k14_ → (i ≤ 357) → (un = 8) → (σ4 = mdN σ (fun k => if 115 ≤ k ∧ k < 115 + i then σ 0 (k + 51) else σ 0 k)) → mdP dC dI dA n σ4 ab be H → va_S (mdA n) s.heap H locs → ∀ ls, lv_has ls 3 [(0, .ref n), (1, .int (nI i))] → W p l e { frames := 2, cells := 0, slots := 0, locals := 120 } s m [.ref n].toArray below meth c H locs 0 0 (MQ below (va_Qv (fun u => u = mdN σ (rv_keep (σ 0) un)) (mdB dC dI dA n ab be) (mdA n)) [.ref n].toArray s 0 0 (mdA n)) (F0 m 14 ls []) := by
    intro k14_
    induction k14_ using Nat.strongRecOn with
    | _ k14_ ih14 =>
      intro i σ4 H locs hm14_ hi h8 hs hP hS ls hl
      refine lv_iload_n hx hb dX5_keep_14 rfl (lv_at hl 1 rfl) ?_
      refine lv_sipush (v := nI 357) hx hb dX5_keep_15 rfl ?_
      refine rn_icmp_ge (tgt := 46) hx hb (by omega) (by omega) dX5_keep_18 (by decide) (fun c_18 => ?_) (fun c_18 => ?_)
      · refine lv_aload_n hx hb dX5_keep_46 rfl (lv_at hl 0 rfl) ?_
        refine md_g0 C hP dX5_keep_47 ?_
        refine lv_bipush (v := nI 6) hx hb dX5_keep_50 rfl ?_
        refine lv_bipush (v := nI 7) hx hb dX5_keep_52 rfl ?_
        refine md_s0 C hP hS (by omega) dX5_keep_54 (fun H locs hP hS => ?_)
        exact K55 7 (mdS σ4 0 6 (nI 7)) _ _ ⟨by rw [rv_m7, if_pos h8], by omega⟩ (by rw [hs, mdN_S]; refine mdN_f (fun k => ?_); simp only [upd]; grind [rv_shift]) hP hS ls (lv_sub hl [0] rfl)
      · refine lv_aload_n hx hb dX5_keep_21 rfl (lv_at hl 0 rfl) ?_
        refine md_g0 C hP dX5_keep_22 ?_
        refine lv_bipush (v := nI 115) hx hb dX5_keep_25 rfl ?_
        refine lv_iload_n hx hb dX5_keep_27 rfl (lv_at hl 1 rfl) ?_
        refine rn_iadd hx hb dX5_keep_28 ?_
        refine lv_aload_n hx hb dX5_keep_29 rfl (lv_at hl 0 rfl) ?_
        refine md_g0 C hP dX5_keep_30 ?_
        refine lv_sipush (v := nI 166) hx hb dX5_keep_33 rfl ?_
        refine lv_iload_n hx hb dX5_keep_36 rfl (lv_at hl 1 rfl) ?_
        refine rn_iadd hx hb dX5_keep_37 ?_
        refine md_l0 C hP (by omega) dX5_keep_38 ?_
        refine md_s0 C hP hS (by omega) dX5_keep_39 (fun H locs hP hS => ?_)
        refine rn_iinc (lv' := [(1, .int (nI (i + 1))), (0, .ref n)]) hx hb dX5_keep_40 hl (k := 1) rfl (by decide) rfl (fun ls hl => ?_)
        refine lv_goto (tgt := 14) hx hb dX5_keep_43 (by decide) ?_
        exact ih14 _ (by omega) (i + 1) (mdS σ4 0 (115 + i) (σ4 0 (166 + i))) _ _ rfl (by omega) h8 (by rw [hs, mdN_S]; refine mdN_f (fun k => ?_); simp only [upd, mdN_0]; grind) hP hS ls (lv_sub hl [1, 0] rfl)
  refine lv_aload_n hx hb dX5_keep_0 rfl (lv_at hl 0 rfl) ?_
  refine md_g0 C hP dX5_keep_1 ?_
  refine lv_bipush (v := nI 6) hx hb dX5_keep_4 rfl ?_
  refine md_l0 C hP (by omega) dX5_keep_6 ?_
  refine rn_co (y := nI un) h6 ?_
  refine lv_bipush (v := nI 8) hx hb dX5_keep_7 rfl ?_
  refine rn_icmp_ne (tgt := 55) hx hb (by omega) (by omega) dX5_keep_9 (by decide) (fun c_9 => ?_) (fun c_9 => ?_)
  · exact K55 un σ _ _ ⟨by rw [rv_m7, if_neg c_9], by omega⟩ (by refine (mdN_self σ).symm.trans (mdN_f (fun k => ?_)); grind [rv_shift]) hP hS ls (lv_sub hl [0] rfl)
  · refine lv_iconst (v := nI 0) hx hb dX5_keep_12 rfl ?_
    refine lv_istore_n (lv' := [(1, .int (nI 0)), (0, .ref n)]) hx hb dX5_keep_13 rfl hl (by decide) rfl (fun ls hl => ?_)
    exact K14 _ 0 σ _ _ rfl (by omega) c_9 (by refine (mdN_self σ).symm.trans (mdN_f (fun k => ?_)); grind) hP hS ls (lv_sub hl [1, 0] rfl)
/-- a letting told: view, renter, evening; the oldest of twelve falls out -/
def rv_m11 (hs : Nat) : Nat := if hs = 12 then 11 else hs
def rv_rem (f : Nat → Int32) (hs : Nat) (v r : Int32) (k : Nat) : Int32 := if k = 4 then nI (rv_m11 hs + 1) else if k = 61 + 3 * rv_m11 hs then v else if k = 61 + 3 * rv_m11 hs + 1 then r else if k = 61 + 3 * rv_m11 hs + 2 then f 2 else if hs = 12 ∧ 61 ≤ k ∧ k < 94 then f (k + 3) else f k
/-- an evening kept comes back -/
def rv_undo (f : Nat → Int32) (m : Nat) (k : Nat) : Int32 := if k = 6 then nI m else if k = 2 then f (115 + 51 * m + 12) else if k = 3 then f (115 + 51 * m + 13) else if k = 4 then f (115 + 51 * m + 14) else if 43 ≤ k ∧ k < 61 ∧ (k - 43) % 3 = 1 then f (115 + 51 * m + (k - 43) / 3) else if 7 ≤ k ∧ k < 43 ∧ (k - 7) % 6 = 4 then f (115 + 51 * m + 6 + (k - 7) / 6) else if 61 ≤ k ∧ k < 97 then f (115 + 51 * m + 15 + (k - 61)) else f k
/-- nobody has a view -/
def rv_free (f : Nat → Int32) (many : Nat) (k : Nat) : Int32 := if 7 ≤ k ∧ k < 7 + 6 * many ∧ (k - 7) % 6 = 4 then -1 else f k
def rv_night (f : Nat → Int32) (un many : Nat) (k : Nat) : Int32 := if k = 2 then f 2 + 1 else rv_free (rv_keep f un) many k
def sp_night (σ : mdT) : Int32 × mdT := (σ 0 2 + 1, mdN σ (rv_night (σ 0) (rv_cl (σ 0 6)) (rv_cl (σ 0 0))))
def sp_undo (σ : mdT) : Int32 × mdT := if σ 0 6 = 0 then sNo σ else (σ 0 (115 + 51 * (rv_cl (σ 0 6) - 1) + 13), mdN σ (rv_undo (σ 0) (rv_cl (σ 0 6) - 1)))
set_option maxHeartbeats 2000000 in
theorem met_remember (l : Launch) (dC : Nat → ClassId) (dI : Nat → Nat → Nat) (dA : Nat → ClassId) (n : Nat) (σ : mdT) (ab be : Int64) (v : Int32) (r : Int32) (hs_ : Nat) (h4 : σ 0 4 = nI hs_) (hs12 : hs_ ≤ 12) : Met l yX5_remember (ws_ yX5_remember cX5_remember 4 none) { frames := 1, cells := 0, slots := 0, locals := 60 } (mdPc dC dI dA n σ ab be [.ref n, .int v, .int r]) (va_Qv (fun u => u = mdN σ (rv_rem (σ 0) hs_ v r)) (mdB dC dI dA n ab be) (mdA n)) 0 0 (mdA n) := by
  refine md_in (by decide) rfl (Nat.le_of_ble_eq_true rfl) (lv := [(0, .ref n), (1, .int v), (2, .int r)]) rfl ?_
  intro p e s m below meth c C hr hlk hP ls hl
  have hx := C.1
  have hb := C.2.1
  have hown := C.2.2.2.1
  have hts := C.2.2.2.2.1
  have hS : va_S (mdA n) s.heap s.heap [] := va_S.rf
  have K53 : ∀ (m_ : Nat) (σ5 : mdT) (H : Heap) (locs : List Loc), (m_ = rv_m11 hs_ ∧ m_ ≤ 11) → (σ5 = mdN σ (fun k => if k = 4 then nI m_ else if hs_ = 12 ∧ 61 ≤ k ∧ k < 94 then σ 0 (k + 3) else σ 0 k)) → mdP dC dI dA n σ5 ab be H → va_S (mdA n) s.heap H locs → ∀ ls, lv_has ls 4 [(0, .ref n), (1, .int v), (2, .int r)] → W p l e { frames := 1, cells := 0, slots := 0, locals := 60 } s m [.ref n, .int v, .int r].toArray below meth c H locs 0 0 (MQ below (va_Qv (fun u => u = mdN σ (rv_rem (σ 0) hs_ v r)) (mdB dC dI dA n ab be) (mdA n)) [.ref n, .int v, .int r].toArray s 0 0 (mdA n)) (F0 m 53 ls []) := by
    intro m_ σ5 H locs hm7 hs hP hS ls hl
    have h4a : σ5 0 4 = nI m_ := by rw [hs, mdN_0]; exact if_pos rfl
    refine lv_bipush (v := nI 61) hx hb dX5_remember_53 rfl ?_
    refine lv_iconst (v := nI 3) hx hb dX5_remember_55 rfl ?_
    refine lv_aload_n hx hb dX5_remember_56 rfl (lv_at hl 0 rfl) ?_
    refine md_g0 C hP dX5_remember_57 ?_
    refine lv_iconst (v := nI 4) hx hb dX5_remember_60 rfl ?_
    refine md_l0 C hP (by omega) dX5_remember_61 ?_
    refine rn_co (y := nI m_) h4a ?_
    refine rn_imul hx hb dX5_remember_62 ?_
    refine rn_iadd hx hb dX5_remember_63 ?_
    refine lv_istore_n (lv' := [(3, .int (nI (61 + (3 * m_)))), (0, .ref n), (1, .int v), (2, .int r)]) hx hb dX5_remember_64 rfl hl (by decide) rfl (fun ls hl => ?_)
    refine lv_aload_n hx hb dX5_remember_65 rfl (lv_at hl 1 rfl) ?_
    refine md_g0 C hP dX5_remember_66 ?_
    refine lv_iload_n hx hb dX5_remember_69 rfl (lv_at hl 0 rfl) ?_
    refine lv_iload_n hx hb dX5_remember_70 rfl (lv_at hl 2 rfl) ?_
    refine md_s0 C hP hS (by omega) dX5_remember_71 (fun H locs hP hS => ?_)
    refine lv_aload_n hx hb dX5_remember_72 rfl (lv_at hl 1 rfl) ?_
    refine md_g0 C hP dX5_remember_73 ?_
    refine lv_iload_n hx hb dX5_remember_76 rfl (lv_at hl 0 rfl) ?_
    refine lv_iconst (v := nI 1) hx hb dX5_remember_77 rfl ?_
    refine rn_iadd hx hb dX5_remember_78 ?_
    refine lv_iload_n hx hb dX5_remember_79 rfl (lv_at hl 3 rfl) ?_
    refine md_s0 C hP hS (by omega) dX5_remember_80 (fun H locs hP hS => ?_)
    refine lv_aload_n hx hb dX5_remember_81 rfl (lv_at hl 1 rfl) ?_
    refine md_g0 C hP dX5_remember_82 ?_
    refine lv_iload_n hx hb dX5_remember_85 rfl (lv_at hl 0 rfl) ?_
    refine lv_iconst (v := nI 2) hx hb dX5_remember_86 rfl ?_
    refine rn_iadd hx hb dX5_remember_87 ?_
    refine lv_aload_n hx hb dX5_remember_88 rfl (lv_at hl 1 rfl) ?_
    refine md_g0 C hP dX5_remember_89 ?_
    refine lv_iconst (v := nI 2) hx hb dX5_remember_92 rfl ?_
    refine md_l0 C hP (by omega) dX5_remember_93 ?_
    refine md_s0 C hP hS (by omega) dX5_remember_94 (fun H locs hP hS => ?_)
    refine lv_aload_n hx hb dX5_remember_95 rfl (lv_at hl 1 rfl) ?_
    refine md_g0 C hP dX5_remember_96 ?_
    refine lv_iconst (v := nI 4) hx hb dX5_remember_99 rfl ?_
    refine lv_dup2_11 hx hb dX5_remember_100 rfl rfl ?_
    refine md_l0 C hP (by omega) dX5_remember_101 ?_
    refine lv_iconst (v := nI 1) hx hb dX5_remember_102 rfl ?_
    refine lv_iadd hx hb dX5_remember_103 ?_
    refine md_s0 C hP hS (by omega) dX5_remember_104 (fun H locs hP hS => ?_)
    exact md_rv C hr hlk hP hS dX5_remember_105 (by rw [hs, mdN_S, mdN_S, mdN_S, mdN_S]; refine mdN_f (fun k => ?_); simp only [upd, mdN_0]; obtain ⟨e1, e2⟩ := hm7; subst e1; have := nI_add (rv_m11 hs_) 1; grind [rv_rem])
  have K13 : ∀ (k13_ : Nat) (i : Nat) (σ4 : mdT) (H : Heap) (locs : List Loc), 33 - i = k13_ → (i ≤ 33) → (hs_ = 12) → (σ4 = mdN σ (fun k => if 61 ≤ k ∧ k < 61 + i then σ 0 (k + 3) else σ 0 k)) → mdP dC dI dA n σ4 ab be H → va_S (mdA n) s.heap H locs → ∀ ls, lv_has ls 4 [(0, .ref n), (1, .int v), (2, .int r), (3, .int (nI i))] → W p l e { frames := 1, cells := 0, slots := 0, locals := 60 } s m [.ref n, .int v, .int r].toArray below meth c H locs 0 0 (MQ below (va_Qv (fun u => u = mdN σ (rv_rem (σ 0) hs_ v r)) (mdB dC dI dA n ab be) (mdA n)) [.ref n, .int v, .int r].toArray s 0 0 (mdA n)) (F0 m 13 ls []) := by
    intro k13_
    induction k13_ using Nat.strongRecOn with
    | _ k13_ ih13 =>
      intro i σ4 H locs hm13_ hi h8 hs hP hS ls hl
      refine lv_iload_n hx hb dX5_remember_13 rfl (lv_at hl 3 rfl) ?_
      refine lv_bipush (v := nI 33) hx hb dX5_remember_14 rfl ?_
      refine rn_icmp_ge (tgt := 45) hx hb (by omega) (by omega) dX5_remember_16 (by decide) (fun c_16 => ?_) (fun c_16 => ?_)
      · refine lv_aload_n hx hb dX5_remember_45 rfl (lv_at hl 0 rfl) ?_
        refine md_g0 C hP dX5_remember_46 ?_
        refine lv_iconst (v := nI 4) hx hb dX5_remember_49 rfl ?_
        refine lv_bipush (v := nI 11) hx hb dX5_remember_50 rfl ?_
        refine md_s0 C hP hS (by omega) dX5_remember_52 (fun H locs hP hS => ?_)
        exact K53 11 (mdS σ4 0 4 (nI 11)) _ _ ⟨by rw [rv_m11, if_pos h8], by omega⟩ (by rw [hs, mdN_S]; refine mdN_f (fun k => ?_); simp only [upd]; grind) hP hS ls (lv_sub hl [0, 1, 2] rfl)
      · refine lv_aload_n hx hb dX5_remember_19 rfl (lv_at hl 0 rfl) ?_
        refine md_g0 C hP dX5_remember_20 ?_
        refine lv_bipush (v := nI 61) hx hb dX5_remember_23 rfl ?_
        refine lv_iload_n hx hb dX5_remember_25 rfl (lv_at hl 3 rfl) ?_
        refine rn_iadd hx hb dX5_remember_26 ?_
        refine lv_aload_n hx hb dX5_remember_27 rfl (lv_at hl 0 rfl) ?_
        refine md_g0 C hP dX5_remember_28 ?_
        refine lv_bipush (v := nI 61) hx hb dX5_remember_31 rfl ?_
        refine lv_iload_n hx hb dX5_remember_33 rfl (lv_at hl 3 rfl) ?_
        refine rn_iadd hx hb dX5_remember_34 ?_
        refine lv_iconst (v := nI 3) hx hb dX5_remember_35 rfl ?_
        refine rn_iadd hx hb dX5_remember_36 ?_
        refine md_l0 C hP (by omega) dX5_remember_37 ?_
        refine md_s0 C hP hS (by omega) dX5_remember_38 (fun H locs hP hS => ?_)
        refine rn_iinc (lv' := [(3, .int (nI (i + 1))), (0, .ref n), (1, .int v), (2, .int r)]) hx hb dX5_remember_39 hl (k := 3) rfl (by decide) rfl (fun ls hl => ?_)
        refine lv_goto (tgt := 13) hx hb dX5_remember_42 (by decide) ?_
        exact ih13 _ (by omega) (i + 1) (mdS σ4 0 (61 + i) (σ4 0 ((61 + i) + 3))) _ _ rfl (by omega) h8 (by rw [hs, mdN_S]; refine mdN_f (fun k => ?_); simp only [upd, mdN_0]; grind) hP hS ls (lv_sub hl [1, 2, 3, 0] rfl)
  refine lv_aload_n hx hb dX5_remember_0 rfl (lv_at hl 0 rfl) ?_
  refine md_g0 C hP dX5_remember_1 ?_
  refine lv_iconst (v := nI 4) hx hb dX5_remember_4 rfl ?_
  refine md_l0 C hP (by omega) dX5_remember_5 ?_
  refine rn_co (y := nI hs_) h4 ?_
  refine lv_bipush (v := nI 12) hx hb dX5_remember_6 rfl ?_
  refine rn_icmp_ne (tgt := 53) hx hb (by omega) (by omega) dX5_remember_8 (by decide) (fun c_8 => ?_) (fun c_8 => ?_)
  · exact K53 hs_ σ _ _ ⟨by rw [rv_m11, if_neg c_8], by omega⟩ (by refine (mdN_self σ).symm.trans (mdN_f (fun k => ?_)); grind) hP hS ls (lv_sub hl [0, 1, 2] rfl)
  · refine lv_iconst (v := nI 0) hx hb dX5_remember_11 rfl ?_
    refine lv_istore_n (lv' := [(3, .int (nI 0)), (0, .ref n), (1, .int v), (2, .int r)]) hx hb dX5_remember_12 rfl hl (by decide) rfl (fun ls hl => ?_)
    exact K13 _ 0 σ _ _ rfl (by omega) c_8 (by refine (mdN_self σ).symm.trans (mdN_f (fun k => ?_)); grind) hP hS ls (lv_sub hl [1, 2, 3, 0] rfl)
set_option maxHeartbeats 2000000 in
theorem met_night (l : Launch) (dC : Nat → ClassId) (dI : Nat → Nat → Nat) (dA : Nat → ClassId) (n : Nat) (σ : mdT) (ab be : Int64) (many : Nat) (h0 : σ 0 0 = nI many) (hm : many ≤ 6) (un : Nat) (h6 : σ 0 6 = nI un) (hu8 : un ≤ 8) : Met l yX5_night (ws_ yX5_night cX5_night 2 (some .int)) { frames := 3, cells := 0, slots := 0, locals := 180 } (mdPc dC dI dA n σ ab be [.ref n]) (va_Qi (fun r_ u => r_ = (sp_night σ).1 ∧ u = (sp_night σ).2) (mdB dC dI dA n ab be) (mdA n)) 0 0 (mdA n) := by
  refine md_in (by decide) rfl (Nat.le_of_ble_eq_true rfl) (lv := [(0, .ref n)]) rfl ?_
  intro p e s m below meth c C hr hlk hP ls hl
  have hx := C.1
  have hb := C.2.1
  have hown := C.2.2.2.1
  have hts := C.2.2.2.2.1
  have hS : va_S (mdA n) s.heap s.heap [] := va_S.rf
  have K6 : ∀ (k6_ : Nat) (i : Nat) (σ1 : mdT) (H : Heap) (locs : List Loc), many - i = k6_ → (i ≤ many) → (σ1 = mdN σ (rv_free (rv_keep (σ 0) un) i)) → mdP dC dI dA n σ1 ab be H → va_S (mdA n) s.heap H locs → ∀ ls, lv_has ls 2 [(0, .ref n), (1, .int (nI i))] → W p l e { frames := 3, cells := 0, slots := 0, locals := 180 } s m [.ref n].toArray below meth c H locs 0 0 (MQ below (va_Qi (fun r_ u => r_ = (sp_night σ).1 ∧ u = (sp_night σ).2) (mdB dC dI dA n ab be) (mdA n)) [.ref n].toArray s 0 0 (mdA n)) (F0 m 6 ls []) := by
    intro k6_
    induction k6_ using Nat.strongRecOn with
    | _ k6_ ih6 =>
      intro i σ1 H locs hm6_ hi hs hP hS ls hl
      have hk0 : rv_keep (σ 0) un 0 = nI many := by rw [← h0]; grind [rv_keep, rv_shift]
      have hk2 : rv_keep (σ 0) un 2 = σ 0 2 := by grind [rv_keep, rv_shift]
      have h0a : σ1 0 0 = nI many := by rw [hs, mdN_0, ← hk0]; grind [rv_free]
      refine lv_iload_n hx hb dX5_night_6 rfl (lv_at hl 1 rfl) ?_
      refine lv_aload_n hx hb dX5_night_7 rfl (lv_at hl 0 rfl) ?_
      refine md_cSe (As := []) (rest := [.int (nI i)]) C hP (met_views l dC dI dA n σ1 ab be) card_views rfl rfl ⟨Nat.le_of_ble_eq_true rfl, Nat.le_of_ble_eq_true rfl⟩ hl.1 (Nat.le_of_ble_eq_true rfl) dX5_night_8 ?_
      refine rn_co (y := nI many) h0a ?_
      refine rn_icmp_ge (tgt := 35) hx hb (by omega) (by omega) dX5_night_11 (by decide) (fun c_11 => ?_) (fun c_11 => ?_)
      · refine lv_aload_n hx hb dX5_night_35 rfl (lv_at hl 0 rfl) ?_
        refine md_g0 C hP dX5_night_36 ?_
        refine lv_iconst (v := nI 2) hx hb dX5_night_39 rfl ?_
        refine lv_dup2_11 hx hb dX5_night_40 rfl rfl ?_
        refine md_l0 C hP (by omega) dX5_night_41 ?_
        refine lv_iconst (v := nI 1) hx hb dX5_night_42 rfl ?_
        refine lv_iadd hx hb dX5_night_43 ?_
        refine md_s0 C hP hS (by omega) dX5_night_44 (fun H locs hP hS => ?_)
        refine lv_aload_n hx hb dX5_night_45 rfl (lv_at hl 0 rfl) ?_
        refine md_g0 C hP dX5_night_46 ?_
        refine lv_iconst (v := nI 2) hx hb dX5_night_49 rfl ?_
        refine md_l0 C hP (by omega) dX5_night_50 ?_
        exact md_ri C hr hlk hP hS dX5_night_51 (by have e2 : σ1 0 2 = σ 0 2 := (by rw [hs, mdN_0, ← hk2]; grind [rv_free]); have ei : i = many := (by omega); subst ei; unfold sp_night; rw [h6, h0, rv_cln (by omega), rv_cln (by omega), mdS_eq, e2]; refine ⟨rfl, ?_⟩; rw [hs, mdN_S]; refine mdN_f (fun k => ?_); simp only [upd]; clear ih6; show _ = rv_night _ _ _ k; grind [rv_night, rv_free, nI])
      · refine lv_aload_n hx hb dX5_night_14 rfl (lv_at hl 0 rfl) ?_
        refine md_g0 C hP dX5_night_15 ?_
        refine lv_bipush (v := nI 7) hx hb dX5_night_18 rfl ?_
        refine lv_bipush (v := nI 6) hx hb dX5_night_20 rfl ?_
        refine lv_iload_n hx hb dX5_night_22 rfl (lv_at hl 1 rfl) ?_
        refine rn_imul hx hb dX5_night_23 ?_
        refine rn_iadd hx hb dX5_night_24 ?_
        refine lv_iconst (v := nI 4) hx hb dX5_night_25 rfl ?_
        refine rn_iadd hx hb dX5_night_26 ?_
        refine lv_iconst (v := (-1)) hx hb dX5_night_27 rfl ?_
        refine md_s0 C hP hS (by omega) dX5_night_28 (fun H locs hP hS => ?_)
        refine rn_iinc (lv' := [(1, .int (nI (i + 1))), (0, .ref n)]) hx hb dX5_night_29 hl (k := 1) rfl (by decide) rfl (fun ls hl => ?_)
        refine lv_goto (tgt := 6) hx hb dX5_night_32 (by decide) ?_
        exact ih6 _ (by omega) (i + 1) (mdS σ1 0 ((7 + (6 * i)) + 4) (-1)) _ _ rfl (by omega) (by rw [hs, mdN_S]; refine mdN_f (fun k => ?_); simp only [upd]; clear ih6; grind [rv_free]) hP hS ls (lv_sub hl [1, 0] rfl)
  refine lv_aload_n hx hb dX5_night_0 rfl (lv_at hl 0 rfl) ?_
  refine md_cWv (As := []) (rest := []) C hP hS (met_keep l dC dI dA n σ ab be un h6 hu8) card_keep rfl rfl ⟨Nat.le_of_ble_eq_true rfl, Nat.le_of_ble_eq_true rfl⟩ hl.1 (Nat.le_of_ble_eq_true rfl) dX5_night_1 (fun s1 H locs hs1 hP hS => ?_)
  refine lv_iconst (v := nI 0) hx hb dX5_night_4 rfl ?_
  refine lv_istore_n (lv' := [(1, .int (nI 0)), (0, .ref n)]) hx hb dX5_night_5 rfl hl (by decide) rfl (fun ls hl => ?_)
  exact K6 _ 0 s1 _ _ rfl (by omega) (by rw [hs1]; refine mdN_f (fun k => ?_); grind [rv_free]) hP hS ls (lv_sub hl [1, 0] rfl)
