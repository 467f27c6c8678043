set_option maxRecDepth 100000
/-! the Model: bringing a weather -/
/-- two renters' views that bring a weather, with the fewest changes -/
def rv_brM (f : Nat → Int32) (wa wb : Int32) (x y : Nat) : Bool := decide (x ≠ y) && (rv_fits (f (7 + 6 * x)) (f (7 + 6 * x + 1)) wa && rv_fits (f (7 + 6 * y)) (f (7 + 6 * y + 1)) wb)
def rv_brC (va vb : Int32) (x y : Nat) : Int32 := (if nI x = va then 0 else 1) + (if nI y = vb then 0 else 1)
def rv_brS (f : Nat → Int32) (ev wa wb va vb w : Int32) (x y : Nat) (B : Int32 × Int32) : Int32 × Int32 :=
  if rv_brM f wa wb x y = true then (if B.2 ≤ rv_brC va vb x y then B else if rv_rem6 (rv_weather (f (7 + 6 * x)) (f (7 + 6 * x + 3)) ev + rv_weather (f (7 + 6 * y)) (f (7 + 6 * y + 3)) ev) = w then (nI (10 * x + y), rv_brC va vb x y) else B) else B
def rv_brY (G : Nat → Int32 × Int32 → Int32 × Int32) : Nat → Int32 × Int32 → Int32 × Int32
  | 0, B => B
  | y + 1, B => G y (rv_brY G y B)
def rv_brX (G : Nat → Nat → Int32 × Int32 → Int32 × Int32) (many : Nat) (B : Int32 × Int32) : Nat → Int32 × Int32
  | 0 => B
  | x + 1 => rv_brY (G x) many (rv_brX G many B x)
def rv_br (σ : mdT) (many k : Nat) (w : Int32) (B : Int32 × Int32) : Int32 × Int32 := rv_brX (rv_brS (σ 0) (σ 0 2) (σ 0 (43 + 3 * k)) (σ 0 (43 + 3 * (k + 1))) (rv_vo (fun v => σ 0 (7 + 6 * v + 4)) (nI k) many) (rv_vo (fun v => σ 0 (7 + 6 * v + 4)) (nI (k + 1)) many) w) many B many
def sp_bring (σ : mdT) (r w q : Int32) : Int32 × mdT :=
  if (rv_isR σ r && rv_isR σ (r ^^^ 1)) = true then (if r - r / 2 * 2 = 1 then sBad (-2) σ else if rv_in w 0 5 = true then (if rv_inI q 0 1 = true then
    ((if (rv_br σ (rv_cl (σ 0 0)) (rv_cl r) w (-1, 1000000)).1 = -1 then -1 else if q = 0 then (rv_br σ (rv_cl (σ 0 0)) (rv_cl r) w (-1, 1000000)).2 else (rv_br σ (rv_cl (σ 0 0)) (rv_cl r) w (-1, 1000000)).1), σ)
    else sBad (-2) σ) else sBad (-2) σ) else sBad (-2) σ
theorem rv_even : ∀ k, k < 6 → nI k - nI k / 2 * 2 ≠ 1 → k % 2 = 0 := by decide
theorem rv_evx : ∀ k, k < 6 → k % 2 = 0 → nI k ^^^ 1 = nI (k + 1) := by decide
set_option maxHeartbeats 4000000 in
theorem met_bring (l : Launch) (dC : Nat → ClassId) (dI : Nat → Nat → Nat) (dA : Nat → ClassId) (n : Nat) (σ : mdT) (ab be : Int64) (r : Int32) (w : Int32) (q : Int32) (many : Nat) (h0 : σ 0 0 = nI many) (hm : many ≤ 6) (rent : Nat) (h1 : σ 0 1 = nI rent) (hr6 : rent ≤ 6) : Met l yX5_bring (ws_ yX5_bring cX5_bring 10 (some .int)) { frames := 4, cells := 0, slots := 0, locals := 240 } (mdPc dC dI dA n σ ab be [.ref n, .int r, .int w, .int q]) (va_Qi (fun r_ u => r_ = (sp_bring σ r w q).1 ∧ mdQ (sp_bring σ r w q).2 u) (mdB dC dI dA n ab be) (mdA n)) 0 0 (mdA n) := by
  refine md_in (by decide) rfl (Nat.le_of_ble_eq_true rfl) (lv := [(0, .ref n), (1, .int r), (2, .int w), (3, .int q)]) rfl ?_
  intro p e s m below meth c C hr hlk hP ls hl
  have hx := C.1
  have hb := C.2.1
  have hown := C.2.2.2.1
  have hts := C.2.2.2.2.1
  have hS : va_S (mdA n) s.heap s.heap [] := va_S.rf
  have K53 : ∀ (k53_ : Nat) (k : Nat) (b_ : Int32) (fw : Int32) (x : Nat) (σ1 : mdT) (H : Heap) (locs : List Loc), many - x = k53_ → (r = nI k) → (k + 1 < rent) → (sp_bring σ r w q = ((if (rv_br σ many k w (-1, 1000000)).1 = -1 then -1 else if q = 0 then (rv_br σ many k w (-1, 1000000)).2 else (rv_br σ many k w (-1, 1000000)).1), σ)) → (mdHandy σ many rent σ1) → (x ≤ many) → ((b_, fw) = rv_brX (rv_brS (σ 0) (σ 0 2) (σ 0 (43 + 3 * k)) (σ 0 (43 + 3 * (k + 1))) (rv_vo (fun v => σ 0 (7 + 6 * v + 4)) (nI k) many) (rv_vo (fun v => σ 0 (7 + 6 * v + 4)) (nI (k + 1)) many) w) many (-1, 1000000) x) → mdP dC dI dA n σ1 ab be H → va_S (mdA n) s.heap H locs → ∀ ls, lv_has ls 10 [(0, .ref n), (1, .int r), (2, .int w), (3, .int q), (4, .int b_), (5, .int fw), (6, .int (nI x))] → W p l e { frames := 4, cells := 0, slots := 0, locals := 240 } s m [.ref n, .int r, .int w, .int q].toArray below meth c H locs 0 0 (MQ below (va_Qi (fun r_ u => r_ = (sp_bring σ r w q).1 ∧ mdQ (sp_bring σ r w q).2 u) (mdB dC dI dA n ab be) (mdA n)) [.ref n, .int r, .int w, .int q].toArray s 0 0 (mdA n)) (F0 m 53 ls []) := by
    intro k53_
    induction k53_ using Nat.strongRecOn with
    | _ k53_ ih53 =>
      intro k b_ fw x σ1 H locs hm53_ hk hk6 U hy hx_ hB hP hS ls hl
      have e0 : σ1 0 = σ 0 := hy.1.1
      have h0a : σ1 0 0 = nI many := by rw [e0]; exact h0
      have w5 := (hy.2.2.2 k (by omega)).1
      have w5b := (hy.2.2.2 (k + 1) (by omega)).1
      have K65 : ∀ (k65_ : Nat) (b1 : Int32) (f1 : Int32) (y : Nat), many - y = k65_ → (x < many) → (y ≤ many) → ((b1, f1) = rv_brY ((rv_brS (σ 0) (σ 0 2) (σ 0 (43 + 3 * k)) (σ 0 (43 + 3 * (k + 1))) (rv_vo (fun v => σ 0 (7 + 6 * v + 4)) (nI k) many) (rv_vo (fun v => σ 0 (7 + 6 * v + 4)) (nI (k + 1)) many) w) x) y (b_, fw)) → ∀ ls, lv_has ls 10 [(0, .ref n), (1, .int r), (2, .int w), (3, .int q), (4, .int b1), (5, .int f1), (6, .int (nI x)), (7, .int (nI y))] → W p l e { frames := 4, cells := 0, slots := 0, locals := 240 } s m [.ref n, .int r, .int w, .int q].toArray below meth c H locs 0 0 (MQ below (va_Qi (fun r_ u => r_ = (sp_bring σ r w q).1 ∧ mdQ (sp_bring σ r w q).2 u) (mdB dC dI dA n ab be) (mdA n)) [.ref n, .int r, .int w, .int q].toArray s 0 0 (mdA n)) (F0 m 65 ls []) := by
        intro k65_
        induction k65_ using Nat.strongRecOn with
        | _ k65_ ih65 =>
          intro b1 f1 y hm65_ hxm hy_ hB2 ls hl
          have K155 : ∀ (mb : Bool) (ch : Int32), (y < many) → (mb = rv_brM (σ 0) (σ 0 (43 + 3 * k)) (σ 0 (43 + 3 * (k + 1))) x y) → (ch = rv_brC (rv_vo (fun v => σ 0 (7 + 6 * v + 4)) (nI k) many) (rv_vo (fun v => σ 0 (7 + 6 * v + 4)) (nI (k + 1)) many) x y) → ∀ ls, lv_has ls 10 [(0, .ref n), (1, .int r), (2, .int w), (3, .int q), (4, .int b1), (5, .int f1), (6, .int (nI x)), (7, .int (nI y)), (8, .int (rb_i mb)), (9, .int ch)] → W p l e { frames := 4, cells := 0, slots := 0, locals := 240 } s m [.ref n, .int r, .int w, .int q].toArray below meth c H locs 0 0 (MQ below (va_Qi (fun r_ u => r_ = (sp_bring σ r w q).1 ∧ mdQ (sp_bring σ r w q).2 u) (mdB dC dI dA n ab be) (mdA n)) [.ref n, .int r, .int w, .int q].toArray s 0 0 (mdA n)) (F0 m 155 ls []) := by
            intro mb ch hym hmb hch ls hl
            refine lv_iload hx hb dX5_bring_155 (lv_at hl 8 rfl) ?_
            refine rn_zt (tgt := 213) hx hb dX5_bring_157 (by decide) (fun c_157 => ?_) (fun c_157 => ?_)
            · refine rn_iinc (lv' := [(7, .int (nI (y + 1))), (0, .ref n), (1, .int r), (2, .int w), (3, .int q), (4, .int b1), (5, .int f1), (6, .int (nI x)), (8, .int (rb_i mb)), (9, .int ch)]) hx hb dX5_bring_213 hl (k := 7) rfl (by decide) rfl (fun ls hl => ?_)
              refine lv_goto (tgt := 65) hx hb dX5_bring_216 (by decide) ?_
              exact ih65 _ (by omega) b1 f1 (y + 1) rfl hxm (by omega) (by rw [rv_brY, ← hB2]; unfold rv_brS rv_rem6; rw [← hmb, ← hch]; first | (rw [if_neg (rv_nf c_157)]; done) | (rw [if_pos c_157, if_pos c_164]; done) | (rw [e0] at c_196; rw [if_pos c_157, if_neg c_164, if_neg c_196]; done) | (rw [e0] at c_196; rw [if_pos c_157, if_neg c_164, if_pos c_196]; done)) ls (lv_sub hl [1, 2, 3, 4, 5, 6, 7, 0] rfl)
            · refine lv_iload hx hb dX5_bring_160 (lv_at hl 9 rfl) ?_
              refine lv_iload hx hb dX5_bring_162 (lv_at hl 5 rfl) ?_
              refine lv_icmp_ge (tgt := 213) hx hb dX5_bring_164 (by decide) (fun (c_164 : f1 ≤ ch) => ?_) (fun (c_164 : ¬ f1 ≤ ch) => ?_)
              · refine rn_iinc (lv' := [(7, .int (nI (y + 1))), (0, .ref n), (1, .int r), (2, .int w), (3, .int q), (4, .int b1), (5, .int f1), (6, .int (nI x)), (8, .int (rb_i mb)), (9, .int ch)]) hx hb dX5_bring_213 hl (k := 7) rfl (by decide) rfl (fun ls hl => ?_)
                refine lv_goto (tgt := 65) hx hb dX5_bring_216 (by decide) ?_
                exact ih65 _ (by omega) b1 f1 (y + 1) rfl hxm (by omega) (by rw [rv_brY, ← hB2]; unfold rv_brS rv_rem6; rw [← hmb, ← hch]; first | (rw [if_neg (rv_nf c_157)]; done) | (rw [if_pos c_157, if_pos c_164]; done) | (rw [e0] at c_196; rw [if_pos c_157, if_neg c_164, if_neg c_196]; done) | (rw [e0] at c_196; rw [if_pos c_157, if_neg c_164, if_pos c_196]; done)) ls (lv_sub hl [1, 2, 3, 4, 5, 6, 7, 0] rfl)
              · refine lv_aload_n hx hb dX5_bring_167 rfl (lv_at hl 0 rfl) ?_
                refine lv_iload hx hb dX5_bring_168 (lv_at hl 6 rfl) ?_
                refine lv_aload_n hx hb dX5_bring_170 rfl (lv_at hl 0 rfl) ?_
                refine md_g0 C hP dX5_bring_171 ?_
                refine lv_iconst (v := nI 2) hx hb dX5_bring_174 rfl ?_
                refine md_l0 C hP (by omega) dX5_bring_175 ?_
                refine md_cSe (As := [.int (nI x), .int (σ1 0 2)]) (rest := []) C hP (met_showsIn l dC dI dA n σ1 ab be x (σ1 0 2) (by omega)) card_showsIn rfl rfl ⟨Nat.le_of_ble_eq_true rfl, Nat.le_of_ble_eq_true rfl⟩ hl.1 (Nat.le_of_ble_eq_true rfl) dX5_bring_176 ?_
                refine lv_aload_n hx hb dX5_bring_179 rfl (lv_at hl 0 rfl) ?_
                refine lv_iload hx hb dX5_bring_180 (lv_at hl 7 rfl) ?_
                refine lv_aload_n hx hb dX5_bring_182 rfl (lv_at hl 0 rfl) ?_
                refine md_g0 C hP dX5_bring_183 ?_
                refine lv_iconst (v := nI 2) hx hb dX5_bring_186 rfl ?_
                refine md_l0 C hP (by omega) dX5_bring_187 ?_
                refine md_cSe (As := [.int (nI y), .int (σ1 0 2)]) (rest := [.int (rv_weather (σ1 0 (7 + 6 * x)) (σ1 0 (7 + 6 * x + 3)) (σ1 0 2))]) C hP (met_showsIn l dC dI dA n σ1 ab be y (σ1 0 2) (by omega)) card_showsIn rfl rfl ⟨Nat.le_of_ble_eq_true rfl, Nat.le_of_ble_eq_true rfl⟩ hl.1 (Nat.le_of_ble_eq_true rfl) dX5_bring_188 ?_
                refine lv_iadd hx hb dX5_bring_191 ?_
                refine lv_bipush (v := nI 6) hx hb dX5_bring_192 rfl ?_
                refine lv_irem hx hb dX5_bring_194 (by decide) ?_
                refine lv_iload_n hx hb dX5_bring_195 rfl (lv_at hl 2 rfl) ?_
                refine lv_icmp_ne (tgt := 213) hx hb dX5_bring_196 (by decide) (fun (c_196 : ¬ ((rv_weather (σ1 0 (7 + 6 * x)) (σ1 0 (7 + 6 * x + 3)) (σ1 0 2)) + (rv_weather (σ1 0 (7 + 6 * y)) (σ1 0 (7 + 6 * y + 3)) (σ1 0 2))) - ((rv_weather (σ1 0 (7 + 6 * x)) (σ1 0 (7 + 6 * x + 3)) (σ1 0 2)) + (rv_weather (σ1 0 (7 + 6 * y)) (σ1 0 (7 + 6 * y + 3)) (σ1 0 2))) / 6 * 6 = w) => ?_) (fun (c_196 : ((rv_weather (σ1 0 (7 + 6 * x)) (σ1 0 (7 + 6 * x + 3)) (σ1 0 2)) + (rv_weather (σ1 0 (7 + 6 * y)) (σ1 0 (7 + 6 * y + 3)) (σ1 0 2))) - ((rv_weather (σ1 0 (7 + 6 * x)) (σ1 0 (7 + 6 * x + 3)) (σ1 0 2)) + (rv_weather (σ1 0 (7 + 6 * y)) (σ1 0 (7 + 6 * y + 3)) (σ1 0 2))) / 6 * 6 = w) => ?_)
                · refine rn_iinc (lv' := [(7, .int (nI (y + 1))), (0, .ref n), (1, .int r), (2, .int w), (3, .int q), (4, .int b1), (5, .int f1), (6, .int (nI x)), (8, .int (rb_i mb)), (9, .int ch)]) hx hb dX5_bring_213 hl (k := 7) rfl (by decide) rfl (fun ls hl => ?_)
                  refine lv_goto (tgt := 65) hx hb dX5_bring_216 (by decide) ?_
                  exact ih65 _ (by omega) b1 f1 (y + 1) rfl hxm (by omega) (by rw [rv_brY, ← hB2]; unfold rv_brS rv_rem6; rw [← hmb, ← hch]; first | (rw [if_neg (rv_nf c_157)]; done) | (rw [if_pos c_157, if_pos c_164]; done) | (rw [e0] at c_196; rw [if_pos c_157, if_neg c_164, if_neg c_196]; done) | (rw [e0] at c_196; rw [if_pos c_157, if_neg c_164, if_pos c_196]; done)) ls (lv_sub hl [1, 2, 3, 4, 5, 6, 7, 0] rfl)
                · refine lv_bipush (v := nI 10) hx hb dX5_bring_199 rfl ?_
                  refine lv_iload hx hb dX5_bring_201 (lv_at hl 6 rfl) ?_
                  refine rn_imul hx hb dX5_bring_203 ?_
                  refine lv_iload hx hb dX5_bring_204 (lv_at hl 7 rfl) ?_
                  refine rn_iadd hx hb dX5_bring_206 ?_
                  refine lv_istore (lv' := [(4, .int (nI ((10 * x) + y))), (0, .ref n), (1, .int r), (2, .int w), (3, .int q), (5, .int f1), (6, .int (nI x)), (7, .int (nI y)), (8, .int (rb_i mb)), (9, .int ch)]) hx hb dX5_bring_207 hl (by decide) rfl (fun ls hl => ?_)
                  refine lv_iload hx hb dX5_bring_209 (lv_at hl 9 rfl) ?_
                  refine lv_istore (lv' := [(5, .int ch), (4, .int (nI ((10 * x) + y))), (0, .ref n), (1, .int r), (2, .int w), (3, .int q), (6, .int (nI x)), (7, .int (nI y)), (8, .int (rb_i mb)), (9, .int ch)]) hx hb dX5_bring_211 hl (by decide) rfl (fun ls hl => ?_)
                  refine rn_iinc (lv' := [(7, .int (nI (y + 1))), (5, .int ch), (4, .int (nI ((10 * x) + y))), (0, .ref n), (1, .int r), (2, .int w), (3, .int q), (6, .int (nI x)), (8, .int (rb_i mb)), (9, .int ch)]) hx hb dX5_bring_213 hl (k := 7) rfl (by decide) rfl (fun ls hl => ?_)
                  refine lv_goto (tgt := 65) hx hb dX5_bring_216 (by decide) ?_
                  exact ih65 _ (by omega) (nI ((10 * x) + y)) ch (y + 1) rfl hxm (by omega) (by rw [rv_brY, ← hB2]; unfold rv_brS rv_rem6; rw [← hmb, ← hch]; first | (rw [if_neg (rv_nf c_157)]; done) | (rw [if_pos c_157, if_pos c_164]; done) | (rw [e0] at c_196; rw [if_pos c_157, if_neg c_164, if_neg c_196]; done) | (rw [e0] at c_196; rw [if_pos c_157, if_neg c_164, if_pos c_196]; done)) ls (lv_sub hl [3, 4, 5, 6, 2, 1, 7, 0] rfl)
          have K118 : ∀ (mb : Bool), (y < many) → (mb = rv_brM (σ 0) (σ 0 (43 + 3 * k)) (σ 0 (43 + 3 * (k + 1))) x y) → ∀ ls, lv_has ls 10 [(0, .ref n), (1, .int r), (2, .int w), (3, .int q), (4, .int b1), (5, .int f1), (6, .int (nI x)), (7, .int (nI y))] → W p l e { frames := 4, cells := 0, slots := 0, locals := 240 } s m [.ref n, .int r, .int w, .int q].toArray below meth c H locs 0 0 (MQ below (va_Qi (fun r_ u => r_ = (sp_bring σ r w q).1 ∧ mdQ (sp_bring σ r w q).2 u) (mdB dC dI dA n ab be) (mdA n)) [.ref n, .int r, .int w, .int q].toArray s 0 0 (mdA n)) (F0 m 118 ls [.int (rb_i mb)]) := by
            intro mb hym hmb ls hl
            refine lv_istore (lv' := [(8, .int (rb_i mb)), (0, .ref n), (1, .int r), (2, .int w), (3, .int q), (4, .int b1), (5, .int f1), (6, .int (nI x)), (7, .int (nI y))]) hx hb dX5_bring_118 hl (by decide) rfl (fun ls hl => ?_)
            refine lv_iload hx hb dX5_bring_120 (lv_at hl 7 rfl) ?_
            refine lv_aload_n hx hb dX5_bring_122 rfl (lv_at hl 1 rfl) ?_
            refine lv_iload_n hx hb dX5_bring_123 rfl (lv_at hl 2 rfl) ?_
            refine rn_co (y := nI k) hk ?_
            refine md_cSe (As := [.int (nI k)]) (rest := [.int (nI x)]) C hP (met_viewOf l dC dI dA n σ1 ab be (nI k) many h0a hm) card_viewOf rfl rfl ⟨Nat.le_of_ble_eq_true rfl, Nat.le_of_ble_eq_true rfl⟩ hl.1 (Nat.le_of_ble_eq_true rfl) dX5_bring_124 ?_
            refine lv_icmp_ne (tgt := 134) hx hb dX5_bring_127 (by decide) (fun (c_127 : ¬ nI x = rv_vo (fun v => σ1 0 (7 + 6 * v + 4)) (nI k) many) => ?_) (fun (c_127 : nI x = rv_vo (fun v => σ1 0 (7 + 6 * v + 4)) (nI k) many) => ?_)
            · refine lv_iconst (v := nI 1) hx hb dX5_bring_134 rfl ?_
              refine lv_iload hx hb dX5_bring_135 (lv_at hl 8 rfl) ?_
              refine lv_aload_n hx hb dX5_bring_137 rfl (lv_at hl 1 rfl) ?_
              refine lv_iload_n hx hb dX5_bring_138 rfl (lv_at hl 2 rfl) ?_
              refine rn_co (y := nI k) hk ?_
              refine lv_iconst (v := nI 1) hx hb dX5_bring_139 rfl ?_
              refine rn_iadd hx hb dX5_bring_140 ?_
              refine md_cSe (As := [.int (nI (k + 1))]) (rest := [.int (nI y), .int (nI 1)]) C hP (met_viewOf l dC dI dA n σ1 ab be (nI (k + 1)) many h0a hm) card_viewOf rfl rfl ⟨Nat.le_of_ble_eq_true rfl, Nat.le_of_ble_eq_true rfl⟩ hl.1 (Nat.le_of_ble_eq_true rfl) dX5_bring_141 ?_
              refine lv_icmp_ne (tgt := 151) hx hb dX5_bring_144 (by decide) (fun (c_144 : ¬ nI y = rv_vo (fun v => σ1 0 (7 + 6 * v + 4)) (nI (k + 1)) many) => ?_) (fun (c_144 : nI y = rv_vo (fun v => σ1 0 (7 + 6 * v + 4)) (nI (k + 1)) many) => ?_)
              · refine lv_iconst (v := nI 1) hx hb dX5_bring_151 rfl ?_
                refine rn_iadd hx hb dX5_bring_152 ?_
                refine lv_istore (lv' := [(9, .int (nI (1 + 1))), (8, .int (rb_i mb)), (0, .ref n), (1, .int r), (2, .int w), (3, .int q), (4, .int b1), (5, .int f1), (6, .int (nI x)), (7, .int (nI y))]) hx hb dX5_bring_153 hl (by decide) rfl (fun ls hl => ?_)
                exact K155 mb (nI (1 + 1)) hym hmb (by rw [e0] at c_127 c_144; unfold rv_brC; first | (rw [if_pos c_127, if_pos c_144]; rfl) | (rw [if_pos c_127, if_neg c_144]; rfl) | (rw [if_neg c_127, if_pos c_144]; rfl) | (rw [if_neg c_127, if_neg c_144]; rfl)) ls (lv_sub hl [2, 3, 4, 5, 6, 7, 8, 9, 1, 0] rfl)
              · refine lv_iconst (v := nI 0) hx hb dX5_bring_147 rfl ?_
                refine lv_goto (tgt := 152) hx hb dX5_bring_148 (by decide) ?_
                refine rn_iadd hx hb dX5_bring_152 ?_
                refine lv_istore (lv' := [(9, .int (nI (1 + 0))), (8, .int (rb_i mb)), (0, .ref n), (1, .int r), (2, .int w), (3, .int q), (4, .int b1), (5, .int f1), (6, .int (nI x)), (7, .int (nI y))]) hx hb dX5_bring_153 hl (by decide) rfl (fun ls hl => ?_)
                exact K155 mb (nI (1 + 0)) hym hmb (by rw [e0] at c_127 c_144; unfold rv_brC; first | (rw [if_pos c_127, if_pos c_144]; rfl) | (rw [if_pos c_127, if_neg c_144]; rfl) | (rw [if_neg c_127, if_pos c_144]; rfl) | (rw [if_neg c_127, if_neg c_144]; rfl)) ls (lv_sub hl [2, 3, 4, 5, 6, 7, 8, 9, 1, 0] rfl)
            · refine lv_iconst (v := nI 0) hx hb dX5_bring_130 rfl ?_
              refine lv_goto (tgt := 135) hx hb dX5_bring_131 (by decide) ?_
              refine lv_iload hx hb dX5_bring_135 (lv_at hl 8 rfl) ?_
              refine lv_aload_n hx hb dX5_bring_137 rfl (lv_at hl 1 rfl) ?_
              refine lv_iload_n hx hb dX5_bring_138 rfl (lv_at hl 2 rfl) ?_
              refine rn_co (y := nI k) hk ?_
              refine lv_iconst (v := nI 1) hx hb dX5_bring_139 rfl ?_
              refine rn_iadd hx hb dX5_bring_140 ?_
              refine md_cSe (As := [.int (nI (k + 1))]) (rest := [.int (nI y), .int (nI 0)]) C hP (met_viewOf l dC dI dA n σ1 ab be (nI (k + 1)) many h0a hm) card_viewOf rfl rfl ⟨Nat.le_of_ble_eq_true rfl, Nat.le_of_ble_eq_true rfl⟩ hl.1 (Nat.le_of_ble_eq_true rfl) dX5_bring_141 ?_
              refine lv_icmp_ne (tgt := 151) hx hb dX5_bring_144 (by decide) (fun (c_144 : ¬ nI y = rv_vo (fun v => σ1 0 (7 + 6 * v + 4)) (nI (k + 1)) many) => ?_) (fun (c_144 : nI y = rv_vo (fun v => σ1 0 (7 + 6 * v + 4)) (nI (k + 1)) many) => ?_)
              · refine lv_iconst (v := nI 1) hx hb dX5_bring_151 rfl ?_
                refine rn_iadd hx hb dX5_bring_152 ?_
                refine lv_istore (lv' := [(9, .int (nI (0 + 1))), (8, .int (rb_i mb)), (0, .ref n), (1, .int r), (2, .int w), (3, .int q), (4, .int b1), (5, .int f1), (6, .int (nI x)), (7, .int (nI y))]) hx hb dX5_bring_153 hl (by decide) rfl (fun ls hl => ?_)
                exact K155 mb (nI (0 + 1)) hym hmb (by rw [e0] at c_127 c_144; unfold rv_brC; first | (rw [if_pos c_127, if_pos c_144]; rfl) | (rw [if_pos c_127, if_neg c_144]; rfl) | (rw [if_neg c_127, if_pos c_144]; rfl) | (rw [if_neg c_127, if_neg c_144]; rfl)) ls (lv_sub hl [2, 3, 4, 5, 6, 7, 8, 9, 1, 0] rfl)
              · refine lv_iconst (v := nI 0) hx hb dX5_bring_147 rfl ?_
                refine lv_goto (tgt := 152) hx hb dX5_bring_148 (by decide) ?_
                refine rn_iadd hx hb dX5_bring_152 ?_
                refine lv_istore (lv' := [(9, .int (nI (0 + 0))), (8, .int (rb_i mb)), (0, .ref n), (1, .int r), (2, .int w), (3, .int q), (4, .int b1), (5, .int f1), (6, .int (nI x)), (7, .int (nI y))]) hx hb dX5_bring_153 hl (by decide) rfl (fun ls hl => ?_)
                exact K155 mb (nI (0 + 0)) hym hmb (by rw [e0] at c_127 c_144; unfold rv_brC; first | (rw [if_pos c_127, if_pos c_144]; rfl) | (rw [if_pos c_127, if_neg c_144]; rfl) | (rw [if_neg c_127, if_pos c_144]; rfl) | (rw [if_neg c_127, if_neg c_144]; rfl)) ls (lv_sub hl [2, 3, 4, 5, 6, 7, 8, 9, 1, 0] rfl)
          refine lv_iload hx hb dX5_bring_65 (lv_at hl 7 rfl) ?_
          refine lv_aload_n hx hb dX5_bring_67 rfl (lv_at hl 0 rfl) ?_
          refine md_cSe (As := []) (rest := [.int (nI y)]) C hP (met_views l dC dI dA n σ1 ab be) card_views rfl rfl ⟨Nat.le_of_ble_eq_true rfl, Nat.le_of_ble_eq_true rfl⟩ hl.1 (Nat.le_of_ble_eq_true rfl) dX5_bring_68 ?_
          refine rn_co (y := nI many) h0a ?_
          refine rn_icmp_ge (tgt := 219) hx hb (by omega) (by omega) dX5_bring_71 (by decide) (fun c_71 => ?_) (fun c_71 => ?_)
          · refine rn_iinc (lv' := [(6, .int (nI (x + 1))), (0, .ref n), (1, .int r), (2, .int w), (3, .int q), (4, .int b1), (5, .int f1), (7, .int (nI y))]) hx hb dX5_bring_219 hl (k := 6) rfl (by decide) rfl (fun ls hl => ?_)
            refine lv_goto (tgt := 53) hx hb dX5_bring_222 (by decide) ?_
            exact ih53 _ (by omega) k b1 f1 (x + 1) σ1 _ _ rfl hk hk6 U hy (by omega) (by rw [rv_brX, ← hB, hB2, show y = many by omega]) hP hS ls (lv_sub hl [1, 2, 3, 4, 5, 6, 0] rfl)
          · refine lv_iload hx hb dX5_bring_74 (lv_at hl 6 rfl) ?_
            refine lv_iload hx hb dX5_bring_76 (lv_at hl 7 rfl) ?_
            refine rn_icmp_eq (tgt := 117) hx hb (by omega) (by omega) dX5_bring_78 (by decide) (fun c_78 => ?_) (fun c_78 => ?_)
            · refine lv_iconst (v := nI 0) hx hb dX5_bring_117 rfl ?_
              exact K118 false c_71 (by unfold rv_brM; first | (rw [e0, w5] at c_93; rw [e0, w5b] at c_110; simp [c_78, c_93, c_110]; done) | (rw [e0, w5] at c_93; simp [c_78, c_93]; done) | (simp [c_78]; done)) ls (lv_sub hl [0, 1, 2, 3, 4, 5, 6, 7] rfl)
            · refine lv_aload_n hx hb dX5_bring_81 rfl (lv_at hl 0 rfl) ?_
              refine lv_iload hx hb dX5_bring_82 (lv_at hl 6 rfl) ?_
              refine lv_aload_n hx hb dX5_bring_84 rfl (lv_at hl 0 rfl) ?_
              refine md_g8 C hP dX5_bring_85 ?_
              refine lv_iload_n hx hb dX5_bring_88 rfl (lv_at hl 1 rfl) ?_
              refine rn_co (y := nI k) hk ?_
              refine md_l5 C hP (by omega) dX5_bring_89 ?_
              refine md_cSe (As := [.int (nI x), .int (σ1 5 k)]) (rest := []) C hP (met_fits l dC dI dA n σ1 ab be x (σ1 5 k) (by omega)) card_fits rfl rfl ⟨Nat.le_of_ble_eq_true rfl, Nat.le_of_ble_eq_true rfl⟩ hl.1 (Nat.le_of_ble_eq_true rfl) dX5_bring_90 ?_
              refine rn_zt (tgt := 117) hx hb dX5_bring_93 (by decide) (fun c_93 => ?_) (fun c_93 => ?_)
              · refine lv_iconst (v := nI 0) hx hb dX5_bring_117 rfl ?_
                exact K118 false c_71 (by unfold rv_brM; first | (rw [e0, w5] at c_93; rw [e0, w5b] at c_110; simp [c_78, c_93, c_110]; done) | (rw [e0, w5] at c_93; simp [c_78, c_93]; done) | (simp [c_78]; done)) ls (lv_sub hl [0, 1, 2, 3, 4, 5, 6, 7] rfl)
              · refine lv_aload_n hx hb dX5_bring_96 rfl (lv_at hl 0 rfl) ?_
                refine lv_iload hx hb dX5_bring_97 (lv_at hl 7 rfl) ?_
                refine lv_aload_n hx hb dX5_bring_99 rfl (lv_at hl 0 rfl) ?_
                refine md_g8 C hP dX5_bring_100 ?_
                refine lv_iload_n hx hb dX5_bring_103 rfl (lv_at hl 1 rfl) ?_
                refine rn_co (y := nI k) hk ?_
                refine lv_iconst (v := nI 1) hx hb dX5_bring_104 rfl ?_
                refine rn_iadd hx hb dX5_bring_105 ?_
                refine md_l5 C hP (by omega) dX5_bring_106 ?_
                refine md_cSe (As := [.int (nI y), .int (σ1 5 (k + 1))]) (rest := []) C hP (met_fits l dC dI dA n σ1 ab be y (σ1 5 (k + 1)) (by omega)) card_fits rfl rfl ⟨Nat.le_of_ble_eq_true rfl, Nat.le_of_ble_eq_true rfl⟩ hl.1 (Nat.le_of_ble_eq_true rfl) dX5_bring_107 ?_
                refine rn_zt (tgt := 117) hx hb dX5_bring_110 (by decide) (fun c_110 => ?_) (fun c_110 => ?_)
                · refine lv_iconst (v := nI 0) hx hb dX5_bring_117 rfl ?_
                  exact K118 false c_71 (by unfold rv_brM; first | (rw [e0, w5] at c_93; rw [e0, w5b] at c_110; simp [c_78, c_93, c_110]; done) | (rw [e0, w5] at c_93; simp [c_78, c_93]; done) | (simp [c_78]; done)) ls (lv_sub hl [0, 1, 2, 3, 4, 5, 6, 7] rfl)
                · refine lv_iconst (v := nI 1) hx hb dX5_bring_113 rfl ?_
                  refine lv_goto (tgt := 118) hx hb dX5_bring_114 (by decide) ?_
                  exact K118 true c_71 (by unfold rv_brM; first | (rw [e0, w5] at c_93; rw [e0, w5b] at c_110; simp [c_78, c_93, c_110]; done) | (rw [e0, w5] at c_93; simp [c_78, c_93]; done) | (simp [c_78]; done)) ls (lv_sub hl [0, 1, 2, 3, 4, 5, 6, 7] rfl)
      refine lv_iload hx hb dX5_bring_53 (lv_at hl 6 rfl) ?_
      refine lv_aload_n hx hb dX5_bring_55 rfl (lv_at hl 0 rfl) ?_
      refine md_cSe (As := []) (rest := [.int (nI x)]) C hP (met_views l dC dI dA n σ1 ab be) card_views rfl rfl ⟨Nat.le_of_ble_eq_true rfl, Nat.le_of_ble_eq_true rfl⟩ hl.1 (Nat.le_of_ble_eq_true rfl) dX5_bring_56 ?_
      refine rn_co (y := nI many) h0a ?_
      refine rn_icmp_ge (tgt := 225) hx hb (by omega) (by omega) dX5_bring_59 (by decide) (fun c_59 => ?_) (fun c_59 => ?_)
      · refine lv_iload hx hb dX5_bring_225 (lv_at hl 4 rfl) ?_
        refine lv_iconst (v := (-1)) hx hb dX5_bring_227 rfl ?_
        refine lv_icmp_ne (tgt := 235) hx hb dX5_bring_228 (by decide) (fun (c_228 : ¬ b_ = (-1)) => ?_) (fun (c_228 : b_ = (-1)) => ?_)
        · refine lv_iload_n hx hb dX5_bring_235 rfl (lv_at hl 3 rfl) ?_
          refine lv_if_ne (tgt := 244) hx hb dX5_bring_236 (by decide) (fun (c_236 : ¬ q = 0) => ?_) (fun (c_236 : q = 0) => ?_)
          · refine lv_iload hx hb dX5_bring_244 (lv_at hl 4 rfl) ?_
            exact md_ri C hr hlk hP hS dX5_bring_246 (by have ex : x = many := (by omega); subst ex; rw [U, rv_br, ← hB]; first | (rw [if_pos c_228]; exact ⟨rfl, hy.1⟩) | (rw [if_neg c_228, if_pos c_236]; exact ⟨rfl, hy.1⟩) | (rw [if_neg c_228, if_neg c_236]; exact ⟨rfl, hy.1⟩))
          · refine lv_iload hx hb dX5_bring_239 (lv_at hl 5 rfl) ?_
            refine lv_goto (tgt := 246) hx hb dX5_bring_241 (by decide) ?_
            exact md_ri C hr hlk hP hS dX5_bring_246 (by have ex : x = many := (by omega); subst ex; rw [U, rv_br, ← hB]; first | (rw [if_pos c_228]; exact ⟨rfl, hy.1⟩) | (rw [if_neg c_228, if_pos c_236]; exact ⟨rfl, hy.1⟩) | (rw [if_neg c_228, if_neg c_236]; exact ⟨rfl, hy.1⟩))
        · refine lv_iconst (v := (-1)) hx hb dX5_bring_231 rfl ?_
          refine lv_goto (tgt := 246) hx hb dX5_bring_232 (by decide) ?_
          exact md_ri C hr hlk hP hS dX5_bring_246 (by have ex : x = many := (by omega); subst ex; rw [U, rv_br, ← hB]; first | (rw [if_pos c_228]; exact ⟨rfl, hy.1⟩) | (rw [if_neg c_228, if_pos c_236]; exact ⟨rfl, hy.1⟩) | (rw [if_neg c_228, if_neg c_236]; exact ⟨rfl, hy.1⟩))
      · refine lv_iconst (v := nI 0) hx hb dX5_bring_62 rfl ?_
        refine lv_istore (lv' := [(7, .int (nI 0)), (0, .ref n), (1, .int r), (2, .int w), (3, .int q), (4, .int b_), (5, .int fw), (6, .int (nI x))]) hx hb dX5_bring_63 hl (by decide) rfl (fun ls hl => ?_)
        exact K65 _ b_ fw 0 rfl c_59 (by omega) rfl ls (lv_sub hl [1, 2, 3, 4, 5, 6, 7, 0] rfl)
  refine lv_aload_n hx hb dX5_bring_0 rfl (lv_at hl 0 rfl) ?_
  refine lv_iload_n hx hb dX5_bring_1 rfl (lv_at hl 1 rfl) ?_
  refine md_cSe (As := [.int r]) (rest := []) C hP (met_areOpposite l dC dI dA n σ ab be r) card_areOpposite rfl rfl ⟨Nat.le_of_ble_eq_true rfl, Nat.le_of_ble_eq_true rfl⟩ hl.1 (Nat.le_of_ble_eq_true rfl) dX5_bring_2 ?_
  refine rn_zt (tgt := 32) hx hb dX5_bring_5 (by decide) (fun c_5 => ?_) (fun c_5 => ?_)
  · refine lv_aload_n hx hb dX5_bring_32 rfl (lv_at hl 0 rfl) ?_
    refine lv_bipush (v := (-2)) hx hb dX5_bring_33 rfl ?_
    refine md_cWe (As := [.int (-2)]) (rest := []) C hP hS (met_bad l dC dI dA n σ ab be (-2)) card_bad rfl rfl ⟨Nat.le_of_ble_eq_true rfl, Nat.le_of_ble_eq_true rfl⟩ hl.1 (Nat.le_of_ble_eq_true rfl) dX5_bring_35 (fun H locs hP hS => ?_)
    exact md_ri C hr hlk hP hS dX5_bring_38 (by first | (rw [sp_bring, if_neg (rv_nf c_5)]; exact ⟨rfl, (mdQ.rf σ).bad _⟩) | (rw [sp_bring, if_pos c_5, if_pos c_12]; exact ⟨rfl, (mdQ.rf σ).bad _⟩) | (rw [sp_bring, if_pos c_5, if_neg c_12, if_neg (rv_nf c_19)]; exact ⟨rfl, (mdQ.rf σ).bad _⟩) | (rw [sp_bring, if_pos c_5, if_neg c_12, if_pos c_19, if_neg (rv_nf c_29)]; exact ⟨rfl, (mdQ.rf σ).bad _⟩))
  · refine lv_iload_n hx hb dX5_bring_8 rfl (lv_at hl 1 rfl) ?_
    refine lv_iconst (v := nI 2) hx hb dX5_bring_9 rfl ?_
    refine lv_irem hx hb dX5_bring_10 (by decide) ?_
    refine lv_iconst (v := nI 1) hx hb dX5_bring_11 rfl ?_
    refine lv_icmp_eq (tgt := 32) hx hb dX5_bring_12 (by decide) (fun (c_12 : r - r / 2 * 2 = 1) => ?_) (fun (c_12 : ¬ r - r / 2 * 2 = 1) => ?_)
    · refine lv_aload_n hx hb dX5_bring_32 rfl (lv_at hl 0 rfl) ?_
      refine lv_bipush (v := (-2)) hx hb dX5_bring_33 rfl ?_
      refine md_cWe (As := [.int (-2)]) (rest := []) C hP hS (met_bad l dC dI dA n σ ab be (-2)) card_bad rfl rfl ⟨Nat.le_of_ble_eq_true rfl, Nat.le_of_ble_eq_true rfl⟩ hl.1 (Nat.le_of_ble_eq_true rfl) dX5_bring_35 (fun H locs hP hS => ?_)
      exact md_ri C hr hlk hP hS dX5_bring_38 (by first | (rw [sp_bring, if_neg (rv_nf c_5)]; exact ⟨rfl, (mdQ.rf σ).bad _⟩) | (rw [sp_bring, if_pos c_5, if_pos c_12]; exact ⟨rfl, (mdQ.rf σ).bad _⟩) | (rw [sp_bring, if_pos c_5, if_neg c_12, if_neg (rv_nf c_19)]; exact ⟨rfl, (mdQ.rf σ).bad _⟩) | (rw [sp_bring, if_pos c_5, if_neg c_12, if_pos c_19, if_neg (rv_nf c_29)]; exact ⟨rfl, (mdQ.rf σ).bad _⟩))
    · refine lv_iload_n hx hb dX5_bring_15 rfl (lv_at hl 2 rfl) ?_
      refine md_sSe (As := [.int w]) (rest := []) C (met_isWeather l w) card_isWeather rfl rfl ⟨Nat.le_of_ble_eq_true rfl, Nat.le_of_ble_eq_true rfl⟩ hl.1 (Nat.le_of_ble_eq_true rfl) dX5_bring_16 ?_
      refine rn_zt (tgt := 32) hx hb dX5_bring_19 (by decide) (fun c_19 => ?_) (fun c_19 => ?_)
      · refine lv_aload_n hx hb dX5_bring_32 rfl (lv_at hl 0 rfl) ?_
        refine lv_bipush (v := (-2)) hx hb dX5_bring_33 rfl ?_
        refine md_cWe (As := [.int (-2)]) (rest := []) C hP hS (met_bad l dC dI dA n σ ab be (-2)) card_bad rfl rfl ⟨Nat.le_of_ble_eq_true rfl, Nat.le_of_ble_eq_true rfl⟩ hl.1 (Nat.le_of_ble_eq_true rfl) dX5_bring_35 (fun H locs hP hS => ?_)
        exact md_ri C hr hlk hP hS dX5_bring_38 (by first | (rw [sp_bring, if_neg (rv_nf c_5)]; exact ⟨rfl, (mdQ.rf σ).bad _⟩) | (rw [sp_bring, if_pos c_5, if_pos c_12]; exact ⟨rfl, (mdQ.rf σ).bad _⟩) | (rw [sp_bring, if_pos c_5, if_neg c_12, if_neg (rv_nf c_19)]; exact ⟨rfl, (mdQ.rf σ).bad _⟩) | (rw [sp_bring, if_pos c_5, if_neg c_12, if_pos c_19, if_neg (rv_nf c_29)]; exact ⟨rfl, (mdQ.rf σ).bad _⟩))
      · refine lv_iload_n hx hb dX5_bring_22 rfl (lv_at hl 3 rfl) ?_
        refine lv_i2l hx hb dX5_bring_23 rfl ?_
        refine lv_lconst (v := 0) hx hb dX5_bring_24 rfl ?_
        refine lv_lconst (v := 1) hx hb dX5_bring_25 rfl ?_
        refine md_sSe (As := [.long (Int32.toInt64 q), .long 0, .long 1]) (rest := []) C (met_in l (Int32.toInt64 q) 0 1) card_in rfl rfl ⟨Nat.le_of_ble_eq_true rfl, Nat.le_of_ble_eq_true rfl⟩ hl.1 (Nat.le_of_ble_eq_true rfl) dX5_bring_26 ?_
        refine rn_zf (tgt := 39) hx hb dX5_bring_29 (by decide) (fun c_29 => ?_) (fun c_29 => ?_)
        · obtain ⟨k, hk6, hk⟩ := rv_isx h1 hr6 (Bool.and_eq_true _ _ ▸ c_5 : _ ∧ _).1
          have hke := rv_even k (by omega) (by rw [← hk]; exact c_12)
          have hk6 : k + 1 < rent := by
            obtain ⟨k2, g1, g2⟩ := rv_isx h1 hr6 (Bool.and_eq_true _ _ ▸ c_5 : _ ∧ _).2
            rw [hk, rv_evx k (by omega) hke] at g2
            have := (nI_eq (by omega) (by omega)).mp g2
            omega
          have U : sp_bring σ r w q = ((if (rv_br σ many k w (-1, 1000000)).1 = -1 then -1 else if q = 0 then (rv_br σ many k w (-1, 1000000)).2 else (rv_br σ many k w (-1, 1000000)).1), σ) := by rw [sp_bring, if_pos c_5, if_neg c_12, if_pos c_19, if_pos c_29, h0, hk, rv_cln (by omega), rv_cln (by omega)]
          refine lv_iconst (v := (-1)) hx hb dX5_bring_39 rfl ?_
          refine lv_istore (lv' := [(4, .int (-1)), (0, .ref n), (1, .int r), (2, .int w), (3, .int q)]) hx hb dX5_bring_40 hl (by decide) rfl (fun ls hl => ?_)
          refine lv_ldc (v := 1000000) hx hb hown (hts _ q1190) dX5_bring_42 ?_
          refine lv_istore (lv' := [(5, .int (nI 1000000)), (4, .int (-1)), (0, .ref n), (1, .int r), (2, .int w), (3, .int q)]) hx hb dX5_bring_44 hl (by decide) rfl (fun ls hl => ?_)
          refine lv_aload_n hx hb dX5_bring_46 rfl (lv_at hl 2 rfl) ?_
          refine md_cWv (As := []) (rest := []) C hP hS (met_layHand l dC dI dA n σ ab be many h0 hm rent h1 hr6) card_layHand rfl rfl ⟨Nat.le_of_ble_eq_true rfl, Nat.le_of_ble_eq_true rfl⟩ hl.1 (Nat.le_of_ble_eq_true rfl) dX5_bring_47 (fun s47 H locs hs47 hP hS => ?_)
          refine lv_iconst (v := nI 0) hx hb dX5_bring_50 rfl ?_
          refine lv_istore (lv' := [(6, .int (nI 0)), (5, .int (nI 1000000)), (4, .int (-1)), (0, .ref n), (1, .int r), (2, .int w), (3, .int q)]) hx hb dX5_bring_51 hl (by decide) rfl (fun ls hl => ?_)
          exact K53 _ k (-1) (nI 1000000) 0 s47 _ _ rfl hk hk6 U hs47.y (by omega) rfl hP hS ls (lv_sub hl [3, 4, 5, 6, 2, 1, 0] rfl)
        · refine lv_aload_n hx hb dX5_bring_32 rfl (lv_at hl 0 rfl) ?_
          refine lv_bipush (v := (-2)) hx hb dX5_bring_33 rfl ?_
          refine md_cWe (As := [.int (-2)]) (rest := []) C hP hS (met_bad l dC dI dA n σ ab be (-2)) card_bad rfl rfl ⟨Nat.le_of_ble_eq_true rfl, Nat.le_of_ble_eq_true rfl⟩ hl.1 (Nat.le_of_ble_eq_true rfl) dX5_bring_35 (fun H locs hP hS => ?_)
          exact md_ri C hr hlk hP hS dX5_bring_38 (by first | (rw [sp_bring, if_neg (rv_nf c_5)]; exact ⟨rfl, (mdQ.rf σ).bad _⟩) | (rw [sp_bring, if_pos c_5, if_pos c_12]; exact ⟨rfl, (mdQ.rf σ).bad _⟩) | (rw [sp_bring, if_pos c_5, if_neg c_12, if_neg (rv_nf c_19)]; exact ⟨rfl, (mdQ.rf σ).bad _⟩) | (rw [sp_bring, if_pos c_5, if_neg c_12, if_pos c_19, if_neg (rv_nf c_29)]; exact ⟨rfl, (mdQ.rf σ).bad _⟩))
