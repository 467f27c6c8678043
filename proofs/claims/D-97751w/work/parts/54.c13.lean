set_option maxRecDepth 100000
/-! the component: bringing a weather -/
def rv_r6 (B B' : Int32 × Int32) : Prop := B = B' ∨ (B = (-1, 6) ∧ B' = (-1, 1000000))
theorem rv_brC_lt (va vb : Int32) (x y : Nat) : ¬ (6 : Int32) ≤ rv_brC va vb x y ∧ ¬ (1000000 : Int32) ≤ rv_brC va vb x y := by
  unfold rv_brC
  by_cases a : nI x = va <;> by_cases b : nI y = vb <;> simp only [a, b, if_true, if_false] <;> decide
theorem rv_brS6 {f : Nat → Int32} {ev wa wb va vb w : Int32} {x y : Nat} {B B' : Int32 × Int32} (h : rv_r6 B B') : rv_r6 (rv_brS f ev wa wb va vb w x y B) (rv_brS f ev wa wb va vb w x y B') := by
  rcases h with rfl | ⟨rfl, rfl⟩
  · exact Or.inl rfl
  · have hc := rv_brC_lt va vb x y
    unfold rv_brS
    by_cases hM : rv_brM f wa wb x y = true
    · rw [if_pos hM, if_pos hM, if_neg hc.1, if_neg hc.2]
      by_cases hw : rv_rem6 (rv_weather (f (7 + 6 * x)) (f (7 + 6 * x + 3)) ev + rv_weather (f (7 + 6 * y)) (f (7 + 6 * y + 3)) ev) = w
      · rw [if_pos hw, if_pos hw]; exact Or.inl rfl
      · rw [if_neg hw, if_neg hw]; exact Or.inr ⟨rfl, rfl⟩
    · rw [if_neg hM, if_neg hM]; exact Or.inr ⟨rfl, rfl⟩
theorem rv_brY6 {f : Nat → Int32} {ev wa wb va vb w : Int32} {x : Nat} : ∀ (y : Nat) {B B' : Int32 × Int32}, rv_r6 B B' → rv_r6 (rv_brY (rv_brS f ev wa wb va vb w x) y B) (rv_brY (rv_brS f ev wa wb va vb w x) y B')
  | 0, _, _, h => h
  | y + 1, _, _, h => rv_brS6 (rv_brY6 y h)
theorem rv_brX6 {f : Nat → Int32} {ev wa wb va vb w : Int32} {many : Nat} {B B' : Int32 × Int32} (h : rv_r6 B B') : ∀ x : Nat, rv_r6 (rv_brX (rv_brS f ev wa wb va vb w) many B x) (rv_brX (rv_brS f ev wa wb va vb w) many B' x)
  | 0 => h
  | x + 1 => rv_brY6 many (rv_brX6 h x)
theorem rv_r6_u {B B' : Int32 × Int32} {q : Int32} (h : rv_r6 B B') : (if B'.1 = -1 then (-1 : Int32) else if q = 0 then B'.2 else B'.1) = if B.1 = -1 then -1 else if q = 0 then B.2 else B.1 := by
  rcases h with rfl | ⟨rfl, rfl⟩
  · rfl
  · rfl
set_option maxHeartbeats 4000000 in
theorem x_X0_bring (l : Launch) (dC : Nat → ClassId) (dI : Nat → Nat → Nat) (dA : Nat → ClassId) (n c : Nat) (σ : mdT) (ab be : Int64) (r : Int32) (w : Int32) (q : Int32) : Met l yX0_bring (ws_ yX0_bring cX0_bring 12 (some .int)) { frames := 5, cells := 0, slots := 0, locals := 300 } (xPc dC dI dA (RX dC dI dA c n σ ab be) [.ref n, .int r, .int w, .int q]) (xQi (S := Unit) (fun r_ _ => r_ = (sp_bring σ r w q).1) (fun _ => (RX dC dI dA c n (sp_bring σ r w q).2 ab be)) (bkA n 96)) 0 0 (bkA n 96) := by
  refine x_in (by decide) rfl (Nat.le_of_ble_eq_true rfl) (lv := [(0, .ref n), (1, .int r), (2, .int w), (3, .int q)]) rfl ?_
  intro p e s m below meth c_ X hN hnm hr hlk hP ls hl
  obtain ⟨T, ξ, V, V2, im, many, rent, rd, un, hs, ev, ty, hP, hR, ho, hO⟩ := hP
  have ho0 := ho
  have hR0 := hR
  have hV := hO.1
  have hT := hO.tb
  have hm := hR.m6
  have hr6 := hR.r6
  have hd6 := hR.d6
  have hu8 := hR.u8
  have hs12 := hR.h12
  have hS : va_S (bkA n 96) s.heap s.heap [] := va_S.rf
  have K79 : ∀ (k79_ : Nat) (k : Nat) (b_ : Int32) (fw : Int32) (x : Nat), many - x = k79_ → (r = nI k) → (k + 1 < rent) → (sp_bring σ r w q = ((if (rv_br σ many k w (-1, 1000000)).1 = -1 then -1 else if q = 0 then (rv_br σ many k w (-1, 1000000)).2 else (rv_br σ many k w (-1, 1000000)).1), σ)) → (x ≤ many) → ((b_, fw) = rv_brX (rv_brS (σ 0) (σ 0 2) (σ 0 (43 + 3 * k)) (σ 0 (43 + 3 * (k + 1))) (rv_vo (fun v => σ 0 (7 + 6 * v + 4)) (nI k) many) (rv_vo (fun v => σ 0 (7 + 6 * v + 4)) (nI (k + 1)) many) w) many (-1, 6) x) → ∀ ls, lv_has ls 12 [(0, .ref n), (1, .int r), (2, .int w), (3, .int q), (4, .int (rv_vo (fun v => σ 0 (7 + 6 * v + 4)) (nI k) many)), (5, .int (rv_vo (fun v => σ 0 (7 + 6 * v + 4)) (nI (k + 1)) many)), (6, .int fw), (7, .int b_), (8, .int (nI x))] → W p l e { frames := 5, cells := 0, slots := 0, locals := 300 } s m [.ref n, .int r, .int w, .int q].toArray below meth c_ s.heap [] 0 0 (MQ below (xQi (S := Unit) (fun r_ _ => r_ = (sp_bring σ r w q).1) (fun _ => (RX dC dI dA c n (sp_bring σ r w q).2 ab be)) (bkA n 96)) [.ref n, .int r, .int w, .int q].toArray s 0 0 (bkA n 96)) (F0 m 79 ls []) := by
    intro k79_
    induction k79_ using Nat.strongRecOn with
    | _ k79_ ih79 =>
      intro k b_ fw x hm79_ hk hk6 U hx_ hB ls hl
      have K94 : ∀ (k94_ : Nat) (b1 : Int32) (f1 : Int32) (y : Nat), many - y = k94_ → (x < many) → (y ≤ many) → ((b1, f1) = rv_brY ((rv_brS (σ 0) (σ 0 2) (σ 0 (43 + 3 * k)) (σ 0 (43 + 3 * (k + 1))) (rv_vo (fun v => σ 0 (7 + 6 * v + 4)) (nI k) many) (rv_vo (fun v => σ 0 (7 + 6 * v + 4)) (nI (k + 1)) many) w) x) y (b_, fw)) → ∀ ls, lv_has ls 12 [(0, .ref n), (1, .int r), (2, .int w), (3, .int q), (4, .int (rv_vo (fun v => σ 0 (7 + 6 * v + 4)) (nI k) many)), (5, .int (rv_vo (fun v => σ 0 (7 + 6 * v + 4)) (nI (k + 1)) many)), (6, .int f1), (7, .int b1), (8, .int (nI x)), (9, .int (nI y))] → W p l e { frames := 5, cells := 0, slots := 0, locals := 300 } s m [.ref n, .int r, .int w, .int q].toArray below meth c_ s.heap [] 0 0 (MQ below (xQi (S := Unit) (fun r_ _ => r_ = (sp_bring σ r w q).1) (fun _ => (RX dC dI dA c n (sp_bring σ r w q).2 ab be)) (bkA n 96)) [.ref n, .int r, .int w, .int q].toArray s 0 0 (bkA n 96)) (F0 m 94 ls []) := by
        intro k94_
        induction k94_ using Nat.strongRecOn with
        | _ k94_ ih94 =>
          intro b1 f1 y hm94_ hxm hy_ hB2 ls hl
          have K199 : ∀ (mb : Bool) (ch : Int32), (y < many) → (mb = rv_brM (σ 0) (σ 0 (43 + 3 * k)) (σ 0 (43 + 3 * (k + 1))) x y) → (ch = rv_brC (rv_vo (fun v => σ 0 (7 + 6 * v + 4)) (nI k) many) (rv_vo (fun v => σ 0 (7 + 6 * v + 4)) (nI (k + 1)) many) x y) → ∀ ls, lv_has ls 12 [(0, .ref n), (1, .int r), (2, .int w), (3, .int q), (4, .int (rv_vo (fun v => σ 0 (7 + 6 * v + 4)) (nI k) many)), (5, .int (rv_vo (fun v => σ 0 (7 + 6 * v + 4)) (nI (k + 1)) many)), (6, .int f1), (7, .int b1), (8, .int (nI x)), (9, .int (nI y)), (10, .int (rb_i mb)), (11, .int ch)] → W p l e { frames := 5, cells := 0, slots := 0, locals := 300 } s m [.ref n, .int r, .int w, .int q].toArray below meth c_ s.heap [] 0 0 (MQ below (xQi (S := Unit) (fun r_ _ => r_ = (sp_bring σ r w q).1) (fun _ => (RX dC dI dA c n (sp_bring σ r w q).2 ab be)) (bkA n 96)) [.ref n, .int r, .int w, .int q].toArray s 0 0 (bkA n 96)) (F0 m 199 ls []) := by
            intro mb ch hym hmb hch ls hl
            refine lv_iload X.1 X.2.1 dX0_bring_199 (lv_at hl 10 rfl) ?_
            refine rn_zt (tgt := 237) X.1 X.2.1 dX0_bring_201 (by decide) (fun c_201 => ?_) (fun c_201 => ?_)
            · refine rn_iinc (lv' := [(9, .int (nI (y + 1))), (0, .ref n), (1, .int r), (2, .int w), (3, .int q), (4, .int (rv_vo (fun v => σ 0 (7 + 6 * v + 4)) (nI k) many)), (5, .int (rv_vo (fun v => σ 0 (7 + 6 * v + 4)) (nI (k + 1)) many)), (6, .int f1), (7, .int b1), (8, .int (nI x)), (10, .int (rb_i mb)), (11, .int ch)]) X.1 X.2.1 dX0_bring_237 hl (k := 9) rfl (by decide) rfl (fun ls hl => ?_)
              refine lv_goto (tgt := 94) X.1 X.2.1 dX0_bring_240 (by decide) ?_
              exact ih94 _ (by omega) b1 f1 (y + 1) rfl hxm (by omega) (by rw [rv_brY, ← hB2]; unfold rv_brS; rw [← hmb, ← hch]; first | (rw [if_neg (rv_nf c_201)]; done) | (rw [if_pos c_201, if_neg c_213]; split <;> rfl) | (rw [if_pos c_201, if_pos c_220]; done) | (rw [if_pos c_201, if_neg c_220, if_pos c_213]; done)) ls (lv_sub hl [1, 2, 3, 4, 5, 6, 7, 8, 9, 0] rfl)
            · refine lv_aload_n X.1 X.2.1 dX0_bring_204 rfl (lv_at hl 0 rfl) ?_
              refine lv_iload X.1 X.2.1 dX0_bring_205 (lv_at hl 8 rfl) ?_
              refine lv_iload X.1 X.2.1 dX0_bring_207 (lv_at hl 9 rfl) ?_
              refine x_cSe (x_runV X hN ⟨hP, (hV.at hS hT)⟩ (As := [.int (nI x), .int (nI y)]) (rest := []) (x_X0_airOf l dC dI dA n ξ V V2 im ab be (nI x) (nI y) c many rent rd un hs ev (σ 0) hR T (Or.inr ⟨x, by omega, rfl⟩) (Or.inr ⟨y, by omega, rfl⟩)) xkv_X0_279 (x_recv (ci := 0) X.2.2.2.2.2 hP (j := 0) (by decide) (xe_x0 ..) rfl) rfl rfl ⟨Nat.le_of_ble_eq_true rfl, Nat.le_of_ble_eq_true rfl⟩ hl.1 (Nat.le_of_ble_eq_true rfl) dX0_bring_209 ⟨Nat.le_of_ble_eq_true rfl, Nat.le_of_ble_eq_true rfl⟩) ?_
              refine rn_co (y := rv_rem6 (rv_weather (σ 0 (7 + 6 * x)) (σ 0 (7 + 6 * x + 3)) (σ 0 2) + rv_weather (σ 0 (7 + 6 * y)) (σ 0 (7 + 6 * y + 3)) (σ 0 2))) (by rw [if_neg (rv_nIne x (by omega)), if_neg (rv_nIne y (by omega)), rv_cln (by omega), rv_cln (by omega)]) ?_
              refine lv_iload_n X.1 X.2.1 dX0_bring_212 rfl (lv_at hl 2 rfl) ?_
              refine lv_icmp_ne (tgt := 237) X.1 X.2.1 dX0_bring_213 (by decide) (fun (c_213 : ¬ rv_rem6 (rv_weather (σ 0 (7 + 6 * x)) (σ 0 (7 + 6 * x + 3)) (σ 0 2) + rv_weather (σ 0 (7 + 6 * y)) (σ 0 (7 + 6 * y + 3)) (σ 0 2)) = w) => ?_) (fun (c_213 : rv_rem6 (rv_weather (σ 0 (7 + 6 * x)) (σ 0 (7 + 6 * x + 3)) (σ 0 2) + rv_weather (σ 0 (7 + 6 * y)) (σ 0 (7 + 6 * y + 3)) (σ 0 2)) = w) => ?_)
              · refine rn_iinc (lv' := [(9, .int (nI (y + 1))), (0, .ref n), (1, .int r), (2, .int w), (3, .int q), (4, .int (rv_vo (fun v => σ 0 (7 + 6 * v + 4)) (nI k) many)), (5, .int (rv_vo (fun v => σ 0 (7 + 6 * v + 4)) (nI (k + 1)) many)), (6, .int f1), (7, .int b1), (8, .int (nI x)), (10, .int (rb_i mb)), (11, .int ch)]) X.1 X.2.1 dX0_bring_237 hl (k := 9) rfl (by decide) rfl (fun ls hl => ?_)
                refine lv_goto (tgt := 94) X.1 X.2.1 dX0_bring_240 (by decide) ?_
                exact ih94 _ (by omega) b1 f1 (y + 1) rfl hxm (by omega) (by rw [rv_brY, ← hB2]; unfold rv_brS; rw [← hmb, ← hch]; first | (rw [if_neg (rv_nf c_201)]; done) | (rw [if_pos c_201, if_neg c_213]; split <;> rfl) | (rw [if_pos c_201, if_pos c_220]; done) | (rw [if_pos c_201, if_neg c_220, if_pos c_213]; done)) ls (lv_sub hl [1, 2, 3, 4, 5, 6, 7, 8, 9, 0] rfl)
              · refine lv_iload X.1 X.2.1 dX0_bring_216 (lv_at hl 11 rfl) ?_
                refine lv_iload X.1 X.2.1 dX0_bring_218 (lv_at hl 6 rfl) ?_
                refine lv_icmp_ge (tgt := 237) X.1 X.2.1 dX0_bring_220 (by decide) (fun (c_220 : f1 ≤ ch) => ?_) (fun (c_220 : ¬ f1 ≤ ch) => ?_)
                · refine rn_iinc (lv' := [(9, .int (nI (y + 1))), (0, .ref n), (1, .int r), (2, .int w), (3, .int q), (4, .int (rv_vo (fun v => σ 0 (7 + 6 * v + 4)) (nI k) many)), (5, .int (rv_vo (fun v => σ 0 (7 + 6 * v + 4)) (nI (k + 1)) many)), (6, .int f1), (7, .int b1), (8, .int (nI x)), (10, .int (rb_i mb)), (11, .int ch)]) X.1 X.2.1 dX0_bring_237 hl (k := 9) rfl (by decide) rfl (fun ls hl => ?_)
                  refine lv_goto (tgt := 94) X.1 X.2.1 dX0_bring_240 (by decide) ?_
                  exact ih94 _ (by omega) b1 f1 (y + 1) rfl hxm (by omega) (by rw [rv_brY, ← hB2]; unfold rv_brS; rw [← hmb, ← hch]; first | (rw [if_neg (rv_nf c_201)]; done) | (rw [if_pos c_201, if_neg c_213]; split <;> rfl) | (rw [if_pos c_201, if_pos c_220]; done) | (rw [if_pos c_201, if_neg c_220, if_pos c_213]; done)) ls (lv_sub hl [1, 2, 3, 4, 5, 6, 7, 8, 9, 0] rfl)
                · refine lv_iload X.1 X.2.1 dX0_bring_223 (lv_at hl 11 rfl) ?_
                  refine lv_istore (lv' := [(6, .int ch), (0, .ref n), (1, .int r), (2, .int w), (3, .int q), (4, .int (rv_vo (fun v => σ 0 (7 + 6 * v + 4)) (nI k) many)), (5, .int (rv_vo (fun v => σ 0 (7 + 6 * v + 4)) (nI (k + 1)) many)), (7, .int b1), (8, .int (nI x)), (9, .int (nI y)), (10, .int (rb_i mb)), (11, .int ch)]) X.1 X.2.1 dX0_bring_225 hl (by decide) rfl (fun ls hl => ?_)
                  refine lv_bipush (v := nI 10) X.1 X.2.1 dX0_bring_227 rfl ?_
                  refine lv_iload X.1 X.2.1 dX0_bring_229 (lv_at hl 8 rfl) ?_
                  refine rn_imul X.1 X.2.1 dX0_bring_231 ?_
                  refine lv_iload X.1 X.2.1 dX0_bring_232 (lv_at hl 9 rfl) ?_
                  refine rn_iadd X.1 X.2.1 dX0_bring_234 ?_
                  refine lv_istore (lv' := [(7, .int (nI ((10 * x) + y))), (6, .int ch), (0, .ref n), (1, .int r), (2, .int w), (3, .int q), (4, .int (rv_vo (fun v => σ 0 (7 + 6 * v + 4)) (nI k) many)), (5, .int (rv_vo (fun v => σ 0 (7 + 6 * v + 4)) (nI (k + 1)) many)), (8, .int (nI x)), (9, .int (nI y)), (10, .int (rb_i mb)), (11, .int ch)]) X.1 X.2.1 dX0_bring_235 hl (by decide) rfl (fun ls hl => ?_)
                  refine rn_iinc (lv' := [(9, .int (nI (y + 1))), (7, .int (nI ((10 * x) + y))), (6, .int ch), (0, .ref n), (1, .int r), (2, .int w), (3, .int q), (4, .int (rv_vo (fun v => σ 0 (7 + 6 * v + 4)) (nI k) many)), (5, .int (rv_vo (fun v => σ 0 (7 + 6 * v + 4)) (nI (k + 1)) many)), (8, .int (nI x)), (10, .int (rb_i mb)), (11, .int ch)]) X.1 X.2.1 dX0_bring_237 hl (k := 9) rfl (by decide) rfl (fun ls hl => ?_)
                  refine lv_goto (tgt := 94) X.1 X.2.1 dX0_bring_240 (by decide) ?_
                  exact ih94 _ (by omega) (nI ((10 * x) + y)) ch (y + 1) rfl hxm (by omega) (by rw [rv_brY, ← hB2]; unfold rv_brS; rw [← hmb, ← hch]; first | (rw [if_neg (rv_nf c_201)]; done) | (rw [if_pos c_201, if_neg c_213]; split <;> rfl) | (rw [if_pos c_201, if_pos c_220]; done) | (rw [if_pos c_201, if_neg c_220, if_pos c_213]; done)) ls (lv_sub hl [3, 4, 5, 6, 7, 8, 2, 1, 9, 0] rfl)
          have K170 : ∀ (mb : Bool), (y < many) → (mb = rv_brM (σ 0) (σ 0 (43 + 3 * k)) (σ 0 (43 + 3 * (k + 1))) x y) → ∀ ls, lv_has ls 12 [(0, .ref n), (1, .int r), (2, .int w), (3, .int q), (4, .int (rv_vo (fun v => σ 0 (7 + 6 * v + 4)) (nI k) many)), (5, .int (rv_vo (fun v => σ 0 (7 + 6 * v + 4)) (nI (k + 1)) many)), (6, .int f1), (7, .int b1), (8, .int (nI x)), (9, .int (nI y))] → W p l e { frames := 5, cells := 0, slots := 0, locals := 300 } s m [.ref n, .int r, .int w, .int q].toArray below meth c_ s.heap [] 0 0 (MQ below (xQi (S := Unit) (fun r_ _ => r_ = (sp_bring σ r w q).1) (fun _ => (RX dC dI dA c n (sp_bring σ r w q).2 ab be)) (bkA n 96)) [.ref n, .int r, .int w, .int q].toArray s 0 0 (bkA n 96)) (F0 m 170 ls [.int (rb_i mb)]) := by
            intro mb hym hmb ls hl
            refine lv_istore (lv' := [(10, .int (rb_i mb)), (0, .ref n), (1, .int r), (2, .int w), (3, .int q), (4, .int (rv_vo (fun v => σ 0 (7 + 6 * v + 4)) (nI k) many)), (5, .int (rv_vo (fun v => σ 0 (7 + 6 * v + 4)) (nI (k + 1)) many)), (6, .int f1), (7, .int b1), (8, .int (nI x)), (9, .int (nI y))]) X.1 X.2.1 dX0_bring_170 hl (by decide) rfl (fun ls hl => ?_)
            refine lv_iload X.1 X.2.1 dX0_bring_172 (lv_at hl 9 rfl) ?_
            refine lv_iload X.1 X.2.1 dX0_bring_174 (lv_at hl 5 rfl) ?_
            refine lv_icmp_ne (tgt := 183) X.1 X.2.1 dX0_bring_176 (by decide) (fun (c_176 : ¬ nI x = (rv_vo (fun v => σ 0 (7 + 6 * v + 4)) (nI k) many)) => ?_) (fun (c_176 : nI x = (rv_vo (fun v => σ 0 (7 + 6 * v + 4)) (nI k) many)) => ?_)
            · refine lv_iconst (v := nI 1) X.1 X.2.1 dX0_bring_183 rfl ?_
              refine lv_iload X.1 X.2.1 dX0_bring_184 (lv_at hl 10 rfl) ?_
              refine lv_iload X.1 X.2.1 dX0_bring_186 (lv_at hl 6 rfl) ?_
              refine lv_icmp_ne (tgt := 195) X.1 X.2.1 dX0_bring_188 (by decide) (fun (c_188 : ¬ nI y = (rv_vo (fun v => σ 0 (7 + 6 * v + 4)) (nI (k + 1)) many)) => ?_) (fun (c_188 : nI y = (rv_vo (fun v => σ 0 (7 + 6 * v + 4)) (nI (k + 1)) many)) => ?_)
              · refine lv_iconst (v := nI 1) X.1 X.2.1 dX0_bring_195 rfl ?_
                refine rn_iadd X.1 X.2.1 dX0_bring_196 ?_
                refine lv_istore (lv' := [(11, .int (nI (1 + 1))), (10, .int (rb_i mb)), (0, .ref n), (1, .int r), (2, .int w), (3, .int q), (4, .int (rv_vo (fun v => σ 0 (7 + 6 * v + 4)) (nI k) many)), (5, .int (rv_vo (fun v => σ 0 (7 + 6 * v + 4)) (nI (k + 1)) many)), (6, .int f1), (7, .int b1), (8, .int (nI x)), (9, .int (nI y))]) X.1 X.2.1 dX0_bring_197 hl (by decide) rfl (fun ls hl => ?_)
                exact K199 mb (nI (1 + 1)) hym hmb (by unfold rv_brC; first | (rw [if_pos c_176, if_pos c_188]; rfl) | (rw [if_pos c_176, if_neg c_188]; rfl) | (rw [if_neg c_176, if_pos c_188]; rfl) | (rw [if_neg c_176, if_neg c_188]; rfl)) ls (lv_sub hl [2, 3, 4, 5, 6, 7, 8, 9, 10, 11, 1, 0] rfl)
              · refine lv_iconst (v := nI 0) X.1 X.2.1 dX0_bring_191 rfl ?_
                refine lv_goto (tgt := 196) X.1 X.2.1 dX0_bring_192 (by decide) ?_
                refine rn_iadd X.1 X.2.1 dX0_bring_196 ?_
                refine lv_istore (lv' := [(11, .int (nI (1 + 0))), (10, .int (rb_i mb)), (0, .ref n), (1, .int r), (2, .int w), (3, .int q), (4, .int (rv_vo (fun v => σ 0 (7 + 6 * v + 4)) (nI k) many)), (5, .int (rv_vo (fun v => σ 0 (7 + 6 * v + 4)) (nI (k + 1)) many)), (6, .int f1), (7, .int b1), (8, .int (nI x)), (9, .int (nI y))]) X.1 X.2.1 dX0_bring_197 hl (by decide) rfl (fun ls hl => ?_)
                exact K199 mb (nI (1 + 0)) hym hmb (by unfold rv_brC; first | (rw [if_pos c_176, if_pos c_188]; rfl) | (rw [if_pos c_176, if_neg c_188]; rfl) | (rw [if_neg c_176, if_pos c_188]; rfl) | (rw [if_neg c_176, if_neg c_188]; rfl)) ls (lv_sub hl [2, 3, 4, 5, 6, 7, 8, 9, 10, 11, 1, 0] rfl)
            · refine lv_iconst (v := nI 0) X.1 X.2.1 dX0_bring_179 rfl ?_
              refine lv_goto (tgt := 184) X.1 X.2.1 dX0_bring_180 (by decide) ?_
              refine lv_iload X.1 X.2.1 dX0_bring_184 (lv_at hl 10 rfl) ?_
              refine lv_iload X.1 X.2.1 dX0_bring_186 (lv_at hl 6 rfl) ?_
              refine lv_icmp_ne (tgt := 195) X.1 X.2.1 dX0_bring_188 (by decide) (fun (c_188 : ¬ nI y = (rv_vo (fun v => σ 0 (7 + 6 * v + 4)) (nI (k + 1)) many)) => ?_) (fun (c_188 : nI y = (rv_vo (fun v => σ 0 (7 + 6 * v + 4)) (nI (k + 1)) many)) => ?_)
              · refine lv_iconst (v := nI 1) X.1 X.2.1 dX0_bring_195 rfl ?_
                refine rn_iadd X.1 X.2.1 dX0_bring_196 ?_
                refine lv_istore (lv' := [(11, .int (nI (0 + 1))), (10, .int (rb_i mb)), (0, .ref n), (1, .int r), (2, .int w), (3, .int q), (4, .int (rv_vo (fun v => σ 0 (7 + 6 * v + 4)) (nI k) many)), (5, .int (rv_vo (fun v => σ 0 (7 + 6 * v + 4)) (nI (k + 1)) many)), (6, .int f1), (7, .int b1), (8, .int (nI x)), (9, .int (nI y))]) X.1 X.2.1 dX0_bring_197 hl (by decide) rfl (fun ls hl => ?_)
                exact K199 mb (nI (0 + 1)) hym hmb (by unfold rv_brC; first | (rw [if_pos c_176, if_pos c_188]; rfl) | (rw [if_pos c_176, if_neg c_188]; rfl) | (rw [if_neg c_176, if_pos c_188]; rfl) | (rw [if_neg c_176, if_neg c_188]; rfl)) ls (lv_sub hl [2, 3, 4, 5, 6, 7, 8, 9, 10, 11, 1, 0] rfl)
              · refine lv_iconst (v := nI 0) X.1 X.2.1 dX0_bring_191 rfl ?_
                refine lv_goto (tgt := 196) X.1 X.2.1 dX0_bring_192 (by decide) ?_
                refine rn_iadd X.1 X.2.1 dX0_bring_196 ?_
                refine lv_istore (lv' := [(11, .int (nI (0 + 0))), (10, .int (rb_i mb)), (0, .ref n), (1, .int r), (2, .int w), (3, .int q), (4, .int (rv_vo (fun v => σ 0 (7 + 6 * v + 4)) (nI k) many)), (5, .int (rv_vo (fun v => σ 0 (7 + 6 * v + 4)) (nI (k + 1)) many)), (6, .int f1), (7, .int b1), (8, .int (nI x)), (9, .int (nI y))]) X.1 X.2.1 dX0_bring_197 hl (by decide) rfl (fun ls hl => ?_)
                exact K199 mb (nI (0 + 0)) hym hmb (by unfold rv_brC; first | (rw [if_pos c_176, if_pos c_188]; rfl) | (rw [if_pos c_176, if_neg c_188]; rfl) | (rw [if_neg c_176, if_pos c_188]; rfl) | (rw [if_neg c_176, if_neg c_188]; rfl)) ls (lv_sub hl [2, 3, 4, 5, 6, 7, 8, 9, 10, 11, 1, 0] rfl)
          refine lv_iload X.1 X.2.1 dX0_bring_94 (lv_at hl 9 rfl) ?_
          refine lv_aload_n X.1 X.2.1 dX0_bring_96 rfl (lv_at hl 0 rfl) ?_
          refine xb_get (C := RX0) (T := TX0) (v := .ref (n + 1)) X in_X0 (ci := 0) rfl hP (j := 0) (by decide) (xe_x0 ..) 0 (by decide) q248 rfl rfl dX0_bring_97 ?_
          refine xb_getN (host := "RentedViews") (C := RX1) (T := TX1) (v := .int (ξ 1 0)) X in_X1 (ci := 1) rfl hP (j := 1) (by decide) (xe_x1 ..) 2 (by decide) (x_nest hN q145 rfl) rfl rfl dX0_bring_100 ?_
          refine rn_co (y := nI many) hR.nm ?_
          refine rn_icmp_ge (tgt := 243) X.1 X.2.1 (by omega) (by omega) dX0_bring_103 (by decide) (fun c_103 => ?_) (fun c_103 => ?_)
          · refine rn_iinc (lv' := [(8, .int (nI (x + 1))), (0, .ref n), (1, .int r), (2, .int w), (3, .int q), (4, .int (rv_vo (fun v => σ 0 (7 + 6 * v + 4)) (nI k) many)), (5, .int (rv_vo (fun v => σ 0 (7 + 6 * v + 4)) (nI (k + 1)) many)), (6, .int f1), (7, .int b1), (9, .int (nI y))]) X.1 X.2.1 dX0_bring_243 hl (k := 8) rfl (by decide) rfl (fun ls hl => ?_)
            refine lv_goto (tgt := 79) X.1 X.2.1 dX0_bring_246 (by decide) ?_
            exact ih79 _ (by omega) k b1 f1 (x + 1) rfl hk hk6 U (by omega) (by rw [rv_brX, ← hB, hB2, show y = many by omega]) ls (lv_sub hl [1, 2, 3, 4, 5, 6, 7, 8, 0] rfl)
          · refine lv_iload X.1 X.2.1 dX0_bring_106 (lv_at hl 8 rfl) ?_
            refine lv_iload X.1 X.2.1 dX0_bring_108 (lv_at hl 9 rfl) ?_
            refine rn_icmp_eq (tgt := 169) X.1 X.2.1 (by omega) (by omega) dX0_bring_110 (by decide) (fun c_110 => ?_) (fun c_110 => ?_)
            · refine lv_iconst (v := nI 0) X.1 X.2.1 dX0_bring_169 rfl ?_
              exact K170 false c_103 (by unfold rv_brM; first | (simp [c_110, c_135, c_162]; done) | (simp [c_110, c_135]; done) | (simp [c_110]; done)) ls (lv_sub hl [0, 1, 2, 3, 4, 5, 6, 7, 8, 9] rfl)
            · refine lv_aload_n X.1 X.2.1 dX0_bring_113 rfl (lv_at hl 0 rfl) ?_
              refine xb_get (C := RX0) (T := TX0) (v := .ref (n + 1)) X in_X0 (ci := 0) rfl hP (j := 0) (by decide) (xe_x0 ..) 0 (by decide) q248 rfl rfl dX0_bring_114 ?_
              refine xb_getN (host := "RentedViews") (C := RX1) (T := TX1) (v := .ref (n + 2)) X in_X1 (ci := 1) rfl hP (j := 1) (by decide) (xe_x1 ..) 0 (by decide) (x_nest hN q139 rfl) rfl rfl dX0_bring_117 ?_
              refine lv_iload X.1 X.2.1 dX0_bring_120 (lv_at hl 8 rfl) ?_
              obtain ⟨a122, kd122, hVa122, hTa122, hk122, hf122, hv122⟩ := hV.2 x (by omega)
              refine xb_aald X hP (j := 2) (by decide) (t := 3) (C := RX6) (f := V) rfl rfl (by omega) (by decide) dX0_bring_122 ?_
              refine x_vq hVa122 ?_
              refine lv_aload_n X.1 X.2.1 dX0_bring_123 rfl (lv_at hl 0 rfl) ?_
              refine xb_get (C := RX0) (T := TX0) (v := .ref (n + 1)) X in_X0 (ci := 0) rfl hP (j := 0) (by decide) (xe_x0 ..) 0 (by decide) q248 rfl rfl dX0_bring_124 ?_
              refine xb_getN (host := "RentedViews") (C := RX1) (T := TX1) (v := .ref (n + 4)) X in_X1 (ci := 1) rfl hP (j := 1) (by decide) (xe_x1 ..) 3 (by decide) (x_nest hN q148 rfl) rfl rfl dX0_bring_127 ?_
              refine lv_iload_n X.1 X.2.1 dX0_bring_130 rfl (lv_at hl 1 rfl) ?_
              refine rn_co (y := nI k) hk ?_
              refine xb_iald X hP (j := 4) (by decide) (n := 6) (f := ξ 4) rfl (by omega) (by decide) dX0_bring_131 ?_
              refine rn_co (y := (σ 0) (43 + 3 * k)) (hR.wal (by omega)) ?_
              refine vd_X0_fits ((σ 0) (43 + 3 * k)) X hN hk122 (vw_at hv122 hS (hT _ hTa122)) (rest := []) ⟨Nat.le_of_ble_eq_true rfl, Nat.le_of_ble_eq_true rfl⟩ hl.1 (Nat.le_of_ble_eq_true rfl) dX0_bring_132 ⟨Nat.le_of_ble_eq_true rfl, Nat.le_of_ble_eq_true rfl⟩ ?_
              refine rn_co (y := rb_i (rv_fits ((σ 0) (7 + 6 * x)) ((σ 0) (7 + 6 * x + 1)) ((σ 0) (43 + 3 * k)))) (by rw [hf122]) ?_
              refine rn_zt (tgt := 169) X.1 X.2.1 dX0_bring_135 (by decide) (fun c_135 => ?_) (fun c_135 => ?_)
              · refine lv_iconst (v := nI 0) X.1 X.2.1 dX0_bring_169 rfl ?_
                exact K170 false c_103 (by unfold rv_brM; first | (simp [c_110, c_135, c_162]; done) | (simp [c_110, c_135]; done) | (simp [c_110]; done)) ls (lv_sub hl [0, 1, 2, 3, 4, 5, 6, 7, 8, 9] rfl)
              · refine lv_aload_n X.1 X.2.1 dX0_bring_138 rfl (lv_at hl 0 rfl) ?_
                refine xb_get (C := RX0) (T := TX0) (v := .ref (n + 1)) X in_X0 (ci := 0) rfl hP (j := 0) (by decide) (xe_x0 ..) 0 (by decide) q248 rfl rfl dX0_bring_139 ?_
                refine xb_getN (host := "RentedViews") (C := RX1) (T := TX1) (v := .ref (n + 2)) X in_X1 (ci := 1) rfl hP (j := 1) (by decide) (xe_x1 ..) 0 (by decide) (x_nest hN q139 rfl) rfl rfl dX0_bring_142 ?_
                refine lv_iload X.1 X.2.1 dX0_bring_145 (lv_at hl 9 rfl) ?_
                obtain ⟨a147, kd147, hVa147, hTa147, hk147, hf147, hv147⟩ := hV.2 y (by omega)
                refine xb_aald X hP (j := 2) (by decide) (t := 3) (C := RX6) (f := V) rfl rfl (by omega) (by decide) dX0_bring_147 ?_
                refine x_vq hVa147 ?_
                refine lv_aload_n X.1 X.2.1 dX0_bring_148 rfl (lv_at hl 0 rfl) ?_
                refine xb_get (C := RX0) (T := TX0) (v := .ref (n + 1)) X in_X0 (ci := 0) rfl hP (j := 0) (by decide) (xe_x0 ..) 0 (by decide) q248 rfl rfl dX0_bring_149 ?_
                refine xb_getN (host := "RentedViews") (C := RX1) (T := TX1) (v := .ref (n + 4)) X in_X1 (ci := 1) rfl hP (j := 1) (by decide) (xe_x1 ..) 3 (by decide) (x_nest hN q148 rfl) rfl rfl dX0_bring_152 ?_
                refine lv_iload_n X.1 X.2.1 dX0_bring_155 rfl (lv_at hl 1 rfl) ?_
                refine rn_co (y := nI k) hk ?_
                refine lv_iconst (v := nI 1) X.1 X.2.1 dX0_bring_156 rfl ?_
                refine rn_iadd X.1 X.2.1 dX0_bring_157 ?_
                refine xb_iald X hP (j := 4) (by decide) (n := 6) (f := ξ 4) rfl (by omega) (by decide) dX0_bring_158 ?_
                refine rn_co (y := (σ 0) (43 + 3 * (k + 1))) (hR.wal (by omega)) ?_
                refine vd_X0_fits ((σ 0) (43 + 3 * (k + 1))) X hN hk147 (vw_at hv147 hS (hT _ hTa147)) (rest := []) ⟨Nat.le_of_ble_eq_true rfl, Nat.le_of_ble_eq_true rfl⟩ hl.1 (Nat.le_of_ble_eq_true rfl) dX0_bring_159 ⟨Nat.le_of_ble_eq_true rfl, Nat.le_of_ble_eq_true rfl⟩ ?_
                refine rn_co (y := rb_i (rv_fits ((σ 0) (7 + 6 * y)) ((σ 0) (7 + 6 * y + 1)) ((σ 0) (43 + 3 * (k + 1))))) (by rw [hf147]) ?_
                refine rn_zt (tgt := 169) X.1 X.2.1 dX0_bring_162 (by decide) (fun c_162 => ?_) (fun c_162 => ?_)
                · refine lv_iconst (v := nI 0) X.1 X.2.1 dX0_bring_169 rfl ?_
                  exact K170 false c_103 (by unfold rv_brM; first | (simp [c_110, c_135, c_162]; done) | (simp [c_110, c_135]; done) | (simp [c_110]; done)) ls (lv_sub hl [0, 1, 2, 3, 4, 5, 6, 7, 8, 9] rfl)
                · refine lv_iconst (v := nI 1) X.1 X.2.1 dX0_bring_165 rfl ?_
                  refine lv_goto (tgt := 170) X.1 X.2.1 dX0_bring_166 (by decide) ?_
                  exact K170 true c_103 (by unfold rv_brM; first | (simp [c_110, c_135, c_162]; done) | (simp [c_110, c_135]; done) | (simp [c_110]; done)) ls (lv_sub hl [0, 1, 2, 3, 4, 5, 6, 7, 8, 9] rfl)
      refine lv_iload X.1 X.2.1 dX0_bring_79 (lv_at hl 8 rfl) ?_
      refine lv_aload_n X.1 X.2.1 dX0_bring_81 rfl (lv_at hl 0 rfl) ?_
      refine xb_get (C := RX0) (T := TX0) (v := .ref (n + 1)) X in_X0 (ci := 0) rfl hP (j := 0) (by decide) (xe_x0 ..) 0 (by decide) q248 rfl rfl dX0_bring_82 ?_
      refine xb_getN (host := "RentedViews") (C := RX1) (T := TX1) (v := .int (ξ 1 0)) X in_X1 (ci := 1) rfl hP (j := 1) (by decide) (xe_x1 ..) 2 (by decide) (x_nest hN q145 rfl) rfl rfl dX0_bring_85 ?_
      refine rn_co (y := nI many) hR.nm ?_
      refine rn_icmp_ge (tgt := 249) X.1 X.2.1 (by omega) (by omega) dX0_bring_88 (by decide) (fun c_88 => ?_) (fun c_88 => ?_)
      · refine lv_iload X.1 X.2.1 dX0_bring_249 (lv_at hl 7 rfl) ?_
        refine lv_iconst (v := (-1)) X.1 X.2.1 dX0_bring_251 rfl ?_
        refine lv_icmp_ne (tgt := 259) X.1 X.2.1 dX0_bring_252 (by decide) (fun (c_252 : ¬ b_ = (-1)) => ?_) (fun (c_252 : b_ = (-1)) => ?_)
        · refine lv_iload_n X.1 X.2.1 dX0_bring_259 rfl (lv_at hl 3 rfl) ?_
          refine lv_if_ne (tgt := 268) X.1 X.2.1 dX0_bring_260 (by decide) (fun (c_260 : ¬ q = 0) => ?_) (fun (c_260 : q = 0) => ?_)
          · refine lv_iload X.1 X.2.1 dX0_bring_268 (lv_at hl 7 rfl) ?_
            exact x_pi (by have ex_ : x = many := (by omega); subst ex_; rw [U, rv_br, rv_r6_u (rv_brX6 (Or.inr ⟨rfl, rfl⟩) x), ← hB]; first | rw [if_pos c_252] | rw [if_neg c_252, if_pos c_260] | rw [if_neg c_252, if_neg c_260]) X hr hlk hS dX0_bring_270 (RX.o hP hR ho (hO.at hS) (fun i hi => by first | rfl | simp (disch := omega) only [mdS_row, mdI_out, upRn] | (simp (disch := omega) only [mdS_row, mdI_out, upRn, *])) rfl rfl rfl)
          · refine lv_iload X.1 X.2.1 dX0_bring_263 (lv_at hl 6 rfl) ?_
            refine lv_goto (tgt := 270) X.1 X.2.1 dX0_bring_265 (by decide) ?_
            exact x_pi (by have ex_ : x = many := (by omega); subst ex_; rw [U, rv_br, rv_r6_u (rv_brX6 (Or.inr ⟨rfl, rfl⟩) x), ← hB]; first | rw [if_pos c_252] | rw [if_neg c_252, if_pos c_260] | rw [if_neg c_252, if_neg c_260]) X hr hlk hS dX0_bring_270 (RX.o hP hR ho (hO.at hS) (fun i hi => by first | rfl | simp (disch := omega) only [mdS_row, mdI_out, upRn] | (simp (disch := omega) only [mdS_row, mdI_out, upRn, *])) rfl rfl rfl)
        · refine lv_iconst (v := (-1)) X.1 X.2.1 dX0_bring_255 rfl ?_
          refine lv_goto (tgt := 270) X.1 X.2.1 dX0_bring_256 (by decide) ?_
          exact x_pi (by have ex_ : x = many := (by omega); subst ex_; rw [U, rv_br, rv_r6_u (rv_brX6 (Or.inr ⟨rfl, rfl⟩) x), ← hB]; first | rw [if_pos c_252] | rw [if_neg c_252, if_pos c_260] | rw [if_neg c_252, if_neg c_260]) X hr hlk hS dX0_bring_270 (RX.o hP hR ho (hO.at hS) (fun i hi => by first | rfl | simp (disch := omega) only [mdS_row, mdI_out, upRn] | (simp (disch := omega) only [mdS_row, mdI_out, upRn, *])) rfl rfl rfl)
      · refine lv_iconst (v := nI 0) X.1 X.2.1 dX0_bring_91 rfl ?_
        refine lv_istore (lv' := [(9, .int (nI 0)), (0, .ref n), (1, .int r), (2, .int w), (3, .int q), (4, .int (rv_vo (fun v => σ 0 (7 + 6 * v + 4)) (nI k) many)), (5, .int (rv_vo (fun v => σ 0 (7 + 6 * v + 4)) (nI (k + 1)) many)), (6, .int fw), (7, .int b_), (8, .int (nI x))]) X.1 X.2.1 dX0_bring_92 hl (by decide) rfl (fun ls hl => ?_)
        exact K94 _ b_ fw 0 rfl c_88 (by omega) rfl ls (lv_sub hl [1, 2, 3, 4, 5, 6, 7, 8, 9, 0] rfl)
  refine lv_aload_n X.1 X.2.1 dX0_bring_0 rfl (lv_at hl 0 rfl) ?_
  refine lv_iload_n X.1 X.2.1 dX0_bring_1 rfl (lv_at hl 1 rfl) ?_
  refine x_cSe (x_runV X hN hP (As := [.int r]) (rest := []) (x_X0_isRenter l dC dI dA n ξ V V2 im ab be r c many rent rd un hs ev (σ 0) hR) xkv_X0_157 (x_recv (ci := 0) X.2.2.2.2.2 hP (j := 0) (by decide) (xe_x0 ..) rfl) rfl rfl ⟨Nat.le_of_ble_eq_true rfl, Nat.le_of_ble_eq_true rfl⟩ hl.1 (Nat.le_of_ble_eq_true rfl) dX0_bring_2 ⟨Nat.le_of_ble_eq_true rfl, Nat.le_of_ble_eq_true rfl⟩) ?_
  refine rn_zt (tgt := 42) X.1 X.2.1 dX0_bring_5 (by decide) (fun c_5 => ?_) (fun c_5 => ?_)
  · refine lv_aload_n X.1 X.2.1 dX0_bring_42 rfl (lv_at hl 0 rfl) ?_
    refine x_cWi (x_runV X hN hP (As := []) (rest := []) (x_X0_bad l dC dI dA n ξ V V2 im ab be) xkv_X0_110 (x_recv (ci := 0) X.2.2.2.2.2 hP (j := 0) (by decide) (xe_x0 ..) rfl) rfl rfl ⟨Nat.le_of_ble_eq_true rfl, Nat.le_of_ble_eq_true rfl⟩ hl.1 (Nat.le_of_ble_eq_true rfl) dX0_bring_43 ⟨Nat.le_of_ble_eq_true rfl, Nat.le_of_ble_eq_true rfl⟩) hS (fun _ h => h) (fun _ h => h) (fun r43 _ H locs hr1 hP1 hz1 hk1 hS => ?_)
    subst hr1
    have hP := hP1
    have hR := hR.cg (S' := fun i_ => (mdS ξ 89 0 (ξ 89 0 + nI 1)) (1 + i_)) (fun i hi => by first | rfl | simp (disch := omega) only [mdS_row, mdI_out, upRn] | (simp (disch := omega) only [mdS_row, mdI_out, upRn, *])) (fun _ _ => rfl)
    have ho := oR.b (k := 0) ho (by decide)
    exact x_pi (by first | (have e : (rv_isR σ r && rv_isR σ (r ^^^ 1)) = false := (Bool.and_eq_false_iff.mpr (Or.inl c_5)); rw [sp_bring, if_neg (rv_nf e)]; rfl) | (unfold sp_bring; by_cases e : (rv_isR σ r && rv_isR σ (r ^^^ 1)) = true; (rw [if_pos e, if_pos c_12]; rfl); (rw [if_neg e]; rfl)) | (have hke := rv_even k (by omega) (by rw [← hk]; exact c_12); have e : (rv_isR σ r && rv_isR σ (r ^^^ 1)) = false := (Bool.and_eq_false_iff.mpr (Or.inr (by show rv_in (r ^^^ 1) 0 _ = false; rw [hk, rv_evx k (by omega) hke]; exact c_22))); rw [sp_bring, if_neg (rv_nf e)]; rfl) | (rw [sp_bring, if_pos hbb, if_neg c_12, if_neg (rv_nf c_29)]; rfl) | (rw [sp_bring, if_pos hbb, if_neg c_12, if_pos c_29, if_neg (rv_nf c_39)]; rfl)) X hr hlk hS dX0_bring_46 (RX.o hP hR ho (hO.at hS) (fun i hi => by first | rfl | simp (disch := omega) only [mdS_row, mdI_out, upRn] | (simp (disch := omega) only [mdS_row, mdI_out, upRn, *])) rfl rfl rfl)
  · obtain ⟨k, hk5, hk⟩ := rv_isx hR.f1 hr6 c_5
    refine lv_iload_n X.1 X.2.1 dX0_bring_8 rfl (lv_at hl 1 rfl) ?_
    refine lv_iconst (v := nI 2) X.1 X.2.1 dX0_bring_9 rfl ?_
    refine lv_irem X.1 X.2.1 dX0_bring_10 (by decide) ?_
    refine lv_iconst (v := nI 1) X.1 X.2.1 dX0_bring_11 rfl ?_
    refine lv_icmp_eq (tgt := 42) X.1 X.2.1 dX0_bring_12 (by decide) (fun (c_12 : r - r / 2 * 2 = 1) => ?_) (fun (c_12 : ¬ r - r / 2 * 2 = 1) => ?_)
    · refine lv_aload_n X.1 X.2.1 dX0_bring_42 rfl (lv_at hl 0 rfl) ?_
      refine x_cWi (x_runV X hN hP (As := []) (rest := []) (x_X0_bad l dC dI dA n ξ V V2 im ab be) xkv_X0_110 (x_recv (ci := 0) X.2.2.2.2.2 hP (j := 0) (by decide) (xe_x0 ..) rfl) rfl rfl ⟨Nat.le_of_ble_eq_true rfl, Nat.le_of_ble_eq_true rfl⟩ hl.1 (Nat.le_of_ble_eq_true rfl) dX0_bring_43 ⟨Nat.le_of_ble_eq_true rfl, Nat.le_of_ble_eq_true rfl⟩) hS (fun _ h => h) (fun _ h => h) (fun r43 _ H locs hr1 hP1 hz1 hk1 hS => ?_)
      subst hr1
      have hP := hP1
      have hR := hR.cg (S' := fun i_ => (mdS ξ 89 0 (ξ 89 0 + nI 1)) (1 + i_)) (fun i hi => by first | rfl | simp (disch := omega) only [mdS_row, mdI_out, upRn] | (simp (disch := omega) only [mdS_row, mdI_out, upRn, *])) (fun _ _ => rfl)
      have ho := oR.b (k := 0) ho (by decide)
      exact x_pi (by first | (have e : (rv_isR σ r && rv_isR σ (r ^^^ 1)) = false := (Bool.and_eq_false_iff.mpr (Or.inl c_5)); rw [sp_bring, if_neg (rv_nf e)]; rfl) | (unfold sp_bring; by_cases e : (rv_isR σ r && rv_isR σ (r ^^^ 1)) = true; (rw [if_pos e, if_pos c_12]; rfl); (rw [if_neg e]; rfl)) | (have hke := rv_even k (by omega) (by rw [← hk]; exact c_12); have e : (rv_isR σ r && rv_isR σ (r ^^^ 1)) = false := (Bool.and_eq_false_iff.mpr (Or.inr (by show rv_in (r ^^^ 1) 0 _ = false; rw [hk, rv_evx k (by omega) hke]; exact c_22))); rw [sp_bring, if_neg (rv_nf e)]; rfl) | (rw [sp_bring, if_pos hbb, if_neg c_12, if_neg (rv_nf c_29)]; rfl) | (rw [sp_bring, if_pos hbb, if_neg c_12, if_pos c_29, if_neg (rv_nf c_39)]; rfl)) X hr hlk hS dX0_bring_46 (RX.o hP hR ho (hO.at hS) (fun i hi => by first | rfl | simp (disch := omega) only [mdS_row, mdI_out, upRn] | (simp (disch := omega) only [mdS_row, mdI_out, upRn, *])) rfl rfl rfl)
    · refine lv_aload_n X.1 X.2.1 dX0_bring_15 rfl (lv_at hl 0 rfl) ?_
      refine lv_iload_n X.1 X.2.1 dX0_bring_16 rfl (lv_at hl 1 rfl) ?_
      refine rn_co (y := nI k) hk ?_
      refine lv_iconst (v := nI 1) X.1 X.2.1 dX0_bring_17 rfl ?_
      refine rn_iadd X.1 X.2.1 dX0_bring_18 ?_
      refine x_cSe (x_runV X hN hP (As := [.int (nI (k + 1))]) (rest := []) (x_X0_isRenter l dC dI dA n ξ V V2 im ab be (nI (k + 1)) c many rent rd un hs ev (σ 0) hR) xkv_X0_157 (x_recv (ci := 0) X.2.2.2.2.2 hP (j := 0) (by decide) (xe_x0 ..) rfl) rfl rfl ⟨Nat.le_of_ble_eq_true rfl, Nat.le_of_ble_eq_true rfl⟩ hl.1 (Nat.le_of_ble_eq_true rfl) dX0_bring_19 ⟨Nat.le_of_ble_eq_true rfl, Nat.le_of_ble_eq_true rfl⟩) ?_
      refine rn_zt (tgt := 42) X.1 X.2.1 dX0_bring_22 (by decide) (fun c_22 => ?_) (fun c_22 => ?_)
      · refine lv_aload_n X.1 X.2.1 dX0_bring_42 rfl (lv_at hl 0 rfl) ?_
        refine x_cWi (x_runV X hN hP (As := []) (rest := []) (x_X0_bad l dC dI dA n ξ V V2 im ab be) xkv_X0_110 (x_recv (ci := 0) X.2.2.2.2.2 hP (j := 0) (by decide) (xe_x0 ..) rfl) rfl rfl ⟨Nat.le_of_ble_eq_true rfl, Nat.le_of_ble_eq_true rfl⟩ hl.1 (Nat.le_of_ble_eq_true rfl) dX0_bring_43 ⟨Nat.le_of_ble_eq_true rfl, Nat.le_of_ble_eq_true rfl⟩) hS (fun _ h => h) (fun _ h => h) (fun r43 _ H locs hr1 hP1 hz1 hk1 hS => ?_)
        subst hr1
        have hP := hP1
        have hR := hR.cg (S' := fun i_ => (mdS ξ 89 0 (ξ 89 0 + nI 1)) (1 + i_)) (fun i hi => by first | rfl | simp (disch := omega) only [mdS_row, mdI_out, upRn] | (simp (disch := omega) only [mdS_row, mdI_out, upRn, *])) (fun _ _ => rfl)
        have ho := oR.b (k := 0) ho (by decide)
        exact x_pi (by first | (have e : (rv_isR σ r && rv_isR σ (r ^^^ 1)) = false := (Bool.and_eq_false_iff.mpr (Or.inl c_5)); rw [sp_bring, if_neg (rv_nf e)]; rfl) | (unfold sp_bring; by_cases e : (rv_isR σ r && rv_isR σ (r ^^^ 1)) = true; (rw [if_pos e, if_pos c_12]; rfl); (rw [if_neg e]; rfl)) | (have hke := rv_even k (by omega) (by rw [← hk]; exact c_12); have e : (rv_isR σ r && rv_isR σ (r ^^^ 1)) = false := (Bool.and_eq_false_iff.mpr (Or.inr (by show rv_in (r ^^^ 1) 0 _ = false; rw [hk, rv_evx k (by omega) hke]; exact c_22))); rw [sp_bring, if_neg (rv_nf e)]; rfl) | (rw [sp_bring, if_pos hbb, if_neg c_12, if_neg (rv_nf c_29)]; rfl) | (rw [sp_bring, if_pos hbb, if_neg c_12, if_pos c_29, if_neg (rv_nf c_39)]; rfl)) X hr hlk hS dX0_bring_46 (RX.o hP hR ho (hO.at hS) (fun i hi => by first | rfl | simp (disch := omega) only [mdS_row, mdI_out, upRn] | (simp (disch := omega) only [mdS_row, mdI_out, upRn, *])) rfl rfl rfl)
      · have hke := rv_even k (by omega) (by rw [← hk]; exact c_12)
        have hbb : (rv_isR σ r && rv_isR σ (r ^^^ 1)) = true := Bool.and_eq_true_iff.mpr ⟨c_5, by show rv_in (r ^^^ 1) 0 _ = true; rw [hk, rv_evx k (by omega) hke]; exact c_22⟩
        refine lv_iload_n X.1 X.2.1 dX0_bring_25 rfl (lv_at hl 2 rfl) ?_
        refine x_cSe (x_runSp X (As := [.int w]) (rest := []) (x_X0_isWeather l w) xks_X0_106 rfl rfl ⟨Nat.le_of_ble_eq_true rfl, Nat.le_of_ble_eq_true rfl⟩ hl.1 (Nat.le_of_ble_eq_true rfl) dX0_bring_26 ⟨Nat.le_of_ble_eq_true rfl, Nat.le_of_ble_eq_true rfl⟩) ?_
        refine rn_zt (tgt := 42) X.1 X.2.1 dX0_bring_29 (by decide) (fun c_29 => ?_) (fun c_29 => ?_)
        · refine lv_aload_n X.1 X.2.1 dX0_bring_42 rfl (lv_at hl 0 rfl) ?_
          refine x_cWi (x_runV X hN hP (As := []) (rest := []) (x_X0_bad l dC dI dA n ξ V V2 im ab be) xkv_X0_110 (x_recv (ci := 0) X.2.2.2.2.2 hP (j := 0) (by decide) (xe_x0 ..) rfl) rfl rfl ⟨Nat.le_of_ble_eq_true rfl, Nat.le_of_ble_eq_true rfl⟩ hl.1 (Nat.le_of_ble_eq_true rfl) dX0_bring_43 ⟨Nat.le_of_ble_eq_true rfl, Nat.le_of_ble_eq_true rfl⟩) hS (fun _ h => h) (fun _ h => h) (fun r43 _ H locs hr1 hP1 hz1 hk1 hS => ?_)
          subst hr1
          have hP := hP1
          have hR := hR.cg (S' := fun i_ => (mdS ξ 89 0 (ξ 89 0 + nI 1)) (1 + i_)) (fun i hi => by first | rfl | simp (disch := omega) only [mdS_row, mdI_out, upRn] | (simp (disch := omega) only [mdS_row, mdI_out, upRn, *])) (fun _ _ => rfl)
          have ho := oR.b (k := 0) ho (by decide)
          exact x_pi (by first | (have e : (rv_isR σ r && rv_isR σ (r ^^^ 1)) = false := (Bool.and_eq_false_iff.mpr (Or.inl c_5)); rw [sp_bring, if_neg (rv_nf e)]; rfl) | (unfold sp_bring; by_cases e : (rv_isR σ r && rv_isR σ (r ^^^ 1)) = true; (rw [if_pos e, if_pos c_12]; rfl); (rw [if_neg e]; rfl)) | (have hke := rv_even k (by omega) (by rw [← hk]; exact c_12); have e : (rv_isR σ r && rv_isR σ (r ^^^ 1)) = false := (Bool.and_eq_false_iff.mpr (Or.inr (by show rv_in (r ^^^ 1) 0 _ = false; rw [hk, rv_evx k (by omega) hke]; exact c_22))); rw [sp_bring, if_neg (rv_nf e)]; rfl) | (rw [sp_bring, if_pos hbb, if_neg c_12, if_neg (rv_nf c_29)]; rfl) | (rw [sp_bring, if_pos hbb, if_neg c_12, if_pos c_29, if_neg (rv_nf c_39)]; rfl)) X hr hlk hS dX0_bring_46 (RX.o hP hR ho (hO.at hS) (fun i hi => by first | rfl | simp (disch := omega) only [mdS_row, mdI_out, upRn] | (simp (disch := omega) only [mdS_row, mdI_out, upRn, *])) rfl rfl rfl)
        · refine lv_iload_n X.1 X.2.1 dX0_bring_32 rfl (lv_at hl 3 rfl) ?_
          refine lv_i2l X.1 X.2.1 dX0_bring_33 rfl ?_
          refine lv_lconst (v := 0) X.1 X.2.1 dX0_bring_34 rfl ?_
          refine lv_lconst (v := 1) X.1 X.2.1 dX0_bring_35 rfl ?_
          refine x_cSe (x_runSp X (As := [.long (Int32.toInt64 q), .long 0, .long 1]) (rest := []) (x_X0_in l (Int32.toInt64 q) 0 1) xks_X0_89 rfl rfl ⟨Nat.le_of_ble_eq_true rfl, Nat.le_of_ble_eq_true rfl⟩ hl.1 (Nat.le_of_ble_eq_true rfl) dX0_bring_36 ⟨Nat.le_of_ble_eq_true rfl, Nat.le_of_ble_eq_true rfl⟩) ?_
          refine rn_zf (tgt := 47) X.1 X.2.1 dX0_bring_39 (by decide) (fun c_39 => ?_) (fun c_39 => ?_)
          · have hk6 : k + 1 < rent := by
              obtain ⟨k2, g1, g2⟩ := rv_isx hR0.f1 hr6 c_22
              have := (nI_eq (by omega) (by omega)).mp g2
              omega
            have U : sp_bring σ r w q = ((if (rv_br σ many k w (-1, 1000000)).1 = -1 then -1 else if q = 0 then (rv_br σ many k w (-1, 1000000)).2 else (rv_br σ many k w (-1, 1000000)).1), σ) := by rw [sp_bring, if_pos hbb, if_neg c_12, if_pos c_29, if_pos c_39, hR0.f0, hk, rv_cln (by omega), rv_cln (by omega)]
            refine lv_aload_n X.1 X.2.1 dX0_bring_47 rfl (lv_at hl 0 rfl) ?_
            refine xb_get (C := RX0) (T := TX0) (v := .ref (n + 1)) X in_X0 (ci := 0) rfl hP (j := 0) (by decide) (xe_x0 ..) 0 (by decide) q248 rfl rfl dX0_bring_48 ?_
            refine lv_iload_n X.1 X.2.1 dX0_bring_51 rfl (lv_at hl 1 rfl) ?_
            refine rn_co (y := nI k) hk ?_
            refine x_cSe (x_runV X hN (x_shop hP) (As := [.int (nI k)]) (rest := []) (x_X1_viewOf l dC dI dA (n + 1) (fun i_ => ξ (1 + i_)) V (nI k) c many rent rd un hs ev (σ 0) hR) xkv_X0_173 (x_recv (ci := 1) X.2.2.2.2.2 hP (j := 1) (by decide) (xe_x1 ..) rfl) rfl rfl ⟨Nat.le_of_ble_eq_true rfl, Nat.le_of_ble_eq_true rfl⟩ hl.1 (Nat.le_of_ble_eq_true rfl) dX0_bring_52 ⟨Nat.le_of_ble_eq_true rfl, Nat.le_of_ble_eq_true rfl⟩) ?_
            refine lv_istore (lv' := [(4, .int (rv_vo (fun v => (σ 0) (7 + 6 * v + 4)) (nI k) many)), (0, .ref n), (1, .int r), (2, .int w), (3, .int q)]) X.1 X.2.1 dX0_bring_55 hl (by decide) rfl (fun ls hl => ?_)
            refine lv_aload_n X.1 X.2.1 dX0_bring_57 rfl (lv_at hl 1 rfl) ?_
            refine xb_get (C := RX0) (T := TX0) (v := .ref (n + 1)) X in_X0 (ci := 0) rfl hP (j := 0) (by decide) (xe_x0 ..) 0 (by decide) q248 rfl rfl dX0_bring_58 ?_
            refine lv_iload_n X.1 X.2.1 dX0_bring_61 rfl (lv_at hl 2 rfl) ?_
            refine rn_co (y := nI k) hk ?_
            refine lv_iconst (v := nI 1) X.1 X.2.1 dX0_bring_62 rfl ?_
            refine rn_iadd X.1 X.2.1 dX0_bring_63 ?_
            refine x_cSe (x_runV X hN (x_shop hP) (As := [.int (nI (k + 1))]) (rest := []) (x_X1_viewOf l dC dI dA (n + 1) (fun i_ => ξ (1 + i_)) V (nI (k + 1)) c many rent rd un hs ev (σ 0) hR) xkv_X0_173 (x_recv (ci := 1) X.2.2.2.2.2 hP (j := 1) (by decide) (xe_x1 ..) rfl) rfl rfl ⟨Nat.le_of_ble_eq_true rfl, Nat.le_of_ble_eq_true rfl⟩ hl.1 (Nat.le_of_ble_eq_true rfl) dX0_bring_64 ⟨Nat.le_of_ble_eq_true rfl, Nat.le_of_ble_eq_true rfl⟩) ?_
            refine lv_istore (lv' := [(5, .int (rv_vo (fun v => (σ 0) (7 + 6 * v + 4)) (nI (k + 1)) many)), (4, .int (rv_vo (fun v => (σ 0) (7 + 6 * v + 4)) (nI k) many)), (0, .ref n), (1, .int r), (2, .int w), (3, .int q)]) X.1 X.2.1 dX0_bring_67 hl (by decide) rfl (fun ls hl => ?_)
            refine lv_bipush (v := nI 6) X.1 X.2.1 dX0_bring_69 rfl ?_
            refine lv_istore (lv' := [(6, .int (nI 6)), (5, .int (rv_vo (fun v => (σ 0) (7 + 6 * v + 4)) (nI (k + 1)) many)), (4, .int (rv_vo (fun v => (σ 0) (7 + 6 * v + 4)) (nI k) many)), (0, .ref n), (1, .int r), (2, .int w), (3, .int q)]) X.1 X.2.1 dX0_bring_71 hl (by decide) rfl (fun ls hl => ?_)
            refine lv_iconst (v := (-1)) X.1 X.2.1 dX0_bring_73 rfl ?_
            refine lv_istore (lv' := [(7, .int (-1)), (6, .int (nI 6)), (5, .int (rv_vo (fun v => (σ 0) (7 + 6 * v + 4)) (nI (k + 1)) many)), (4, .int (rv_vo (fun v => (σ 0) (7 + 6 * v + 4)) (nI k) many)), (0, .ref n), (1, .int r), (2, .int w), (3, .int q)]) X.1 X.2.1 dX0_bring_74 hl (by decide) rfl (fun ls hl => ?_)
            refine lv_iconst (v := nI 0) X.1 X.2.1 dX0_bring_76 rfl ?_
            refine lv_istore (lv' := [(8, .int (nI 0)), (7, .int (-1)), (6, .int (nI 6)), (5, .int (rv_vo (fun v => (σ 0) (7 + 6 * v + 4)) (nI (k + 1)) many)), (4, .int (rv_vo (fun v => (σ 0) (7 + 6 * v + 4)) (nI k) many)), (0, .ref n), (1, .int r), (2, .int w), (3, .int q)]) X.1 X.2.1 dX0_bring_77 hl (by decide) rfl (fun ls hl => ?_)
            exact K79 _ k (-1) (nI 6) 0 rfl hk hk6 U (by omega) rfl ls (lv_sub hl [5, 6, 7, 8, 4, 3, 2, 1, 0] rfl)
          · refine lv_aload_n X.1 X.2.1 dX0_bring_42 rfl (lv_at hl 0 rfl) ?_
            refine x_cWi (x_runV X hN hP (As := []) (rest := []) (x_X0_bad l dC dI dA n ξ V V2 im ab be) xkv_X0_110 (x_recv (ci := 0) X.2.2.2.2.2 hP (j := 0) (by decide) (xe_x0 ..) rfl) rfl rfl ⟨Nat.le_of_ble_eq_true rfl, Nat.le_of_ble_eq_true rfl⟩ hl.1 (Nat.le_of_ble_eq_true rfl) dX0_bring_43 ⟨Nat.le_of_ble_eq_true rfl, Nat.le_of_ble_eq_true rfl⟩) hS (fun _ h => h) (fun _ h => h) (fun r43 _ H locs hr1 hP1 hz1 hk1 hS => ?_)
            subst hr1
            have hP := hP1
            have hR := hR.cg (S' := fun i_ => (mdS ξ 89 0 (ξ 89 0 + nI 1)) (1 + i_)) (fun i hi => by first | rfl | simp (disch := omega) only [mdS_row, mdI_out, upRn] | (simp (disch := omega) only [mdS_row, mdI_out, upRn, *])) (fun _ _ => rfl)
            have ho := oR.b (k := 0) ho (by decide)
            exact x_pi (by first | (have e : (rv_isR σ r && rv_isR σ (r ^^^ 1)) = false := (Bool.and_eq_false_iff.mpr (Or.inl c_5)); rw [sp_bring, if_neg (rv_nf e)]; rfl) | (unfold sp_bring; by_cases e : (rv_isR σ r && rv_isR σ (r ^^^ 1)) = true; (rw [if_pos e, if_pos c_12]; rfl); (rw [if_neg e]; rfl)) | (have hke := rv_even k (by omega) (by rw [← hk]; exact c_12); have e : (rv_isR σ r && rv_isR σ (r ^^^ 1)) = false := (Bool.and_eq_false_iff.mpr (Or.inr (by show rv_in (r ^^^ 1) 0 _ = false; rw [hk, rv_evx k (by omega) hke]; exact c_22))); rw [sp_bring, if_neg (rv_nf e)]; rfl) | (rw [sp_bring, if_pos hbb, if_neg c_12, if_neg (rv_nf c_29)]; rfl) | (rw [sp_bring, if_pos hbb, if_neg c_12, if_pos c_29, if_neg (rv_nf c_39)]; rfl)) X hr hlk hS dX0_bring_46 (RX.o hP hR ho (hO.at hS) (fun i hi => by first | rfl | simp (disch := omega) only [mdS_row, mdI_out, upRn] | (simp (disch := omega) only [mdS_row, mdI_out, upRn, *])) rfl rfl rfl)
