set_option maxRecDepth 100000
/-! the component: where to look -/
theorem rv_cnt_up {g : Nat → Int32} {P : Nat → Bool} {wf : Nat → Int32} {i w0 : Nat} (hp : P i = true) (ew : wf i = nI w0) (hw : w0 < 6) (hc : ∀ w, w < 6 → g w = rv_cnt P wf i w) : ∀ w, w < 6 → upd g w0 (g w0 + 1) w = rv_cnt P wf (i + 1) w :=
  rv_cnt_step (σ1 := fun _ => g) hp ew hw hc
theorem nI_p1 (c : Nat) : nI c + 1 = nI (c + 1) := by rw [← nI_add]; rfl
theorem rv_iscnt_n (P : Nat → Bool) : ∀ n, ∃ c, c ≤ n ∧ rv_iscnt P n = nI c ∧ (c = 0 → ∀ q, q < n → P q = false)
  | 0 => ⟨0, by omega, rfl, fun _ q h => absurd h (by omega)⟩
  | n + 1 => by
    obtain ⟨c, h1, h2, h3⟩ := rv_iscnt_n P n
    rw [rv_iscnt, h2]
    by_cases h : P n = true
    · rw [if_pos h, nI_p1]; exact ⟨c + 1, by omega, rfl, fun z => absurd z (by omega)⟩
    · rw [if_neg h, Int32.add_zero]
      refine ⟨c, by omega, rfl, fun z q hq => ?_⟩
      by_cases e : q = n
      · subst e; exact (Bool.not_eq_true _).mp h
      · exact h3 z q (by omega)
theorem rv_cnt_n (P : Nat → Bool) (wf : Nat → Int32) (w : Nat) : ∀ n, ∃ c, c ≤ n ∧ rv_cnt P wf n w = nI c
  | 0 => ⟨0, by omega, rfl⟩
  | n + 1 => by
    obtain ⟨c, h1, h2⟩ := rv_cnt_n P wf w n
    rw [rv_cnt, h2]
    by_cases h : P n = true
    · rw [if_pos h]
      by_cases e : wf n = nI w
      · rw [if_pos e, nI_p1]; exact ⟨c + 1, by omega, rfl⟩
      · rw [if_neg e]; exact ⟨c, by omega, rfl⟩
    · rw [if_neg h]; exact ⟨c, by omega, rfl⟩
theorem rv_top_n {P : Nat → Bool} {wf : Nat → Int32} : ∀ n, n ≤ 100 → (∀ q, q < n → ∃ w, w < 6 ∧ wf q = nI w) → ∃ c, c ≤ n ∧ rv_top P wf n = nI c ∧ ((∃ q, q < n ∧ P q = true) → 0 < c) ∧ ((∀ q, q < n → P q = false) → c = 0)
  | 0, _, _ => ⟨0, by omega, rfl, fun ⟨q, h, _⟩ => absurd h (by omega), fun _ => rfl⟩
  | n + 1, hn, hw => by
    obtain ⟨c, h1, h2, h3, h4⟩ := rv_top_n n (by omega) (fun q hq => hw q (by omega))
    rw [rv_top]
    by_cases h : P n = true
    · rw [if_pos h]
      obtain ⟨w, hw6, ew⟩ := hw n (by omega)
      obtain ⟨d, g1, g2⟩ := rv_cnt_n P wf w n
      have e : rv_cnt P wf (n + 1) (rv_cl (wf n)) = nI (d + 1) := by rw [ew, rv_cln (by omega), rv_cnt, if_pos h, if_pos ew, g2, nI_p1]
      rw [e, h2]
      by_cases hle : nI (d + 1) ≤ nI c
      · have := (nI_leI (by omega) (by omega)).mp hle
        rw [if_pos hle]; exact ⟨c, by omega, rfl, fun _ => by omega, fun z => absurd (z n (by omega)) (by rw [h]; decide)⟩
      · rw [if_neg hle]; exact ⟨d + 1, by omega, rfl, fun _ => by omega, fun z => absurd (z n (by omega)) (by rw [h]; decide)⟩
    · rw [if_neg h, h2]
      refine ⟨c, by omega, rfl, fun ⟨q, hq, hp⟩ => ?_, fun z => h4 (fun q hq => z q (by omega))⟩
      by_cases e : q = n
      · subst e; exact absurd hp h
      · exact h3 ⟨q, by omega, hp⟩
theorem rv_look_z {T : Nat → Int32} {ev : Nat} : ∀ n, (∀ i, i < n → T i = 0) → rv_look T ev n = (-1, 1000000)
  | 0, _ => rfl
  | n + 1, h => by rw [rv_look, h n (by omega), if_pos (by decide)]; exact rv_look_z n (fun i hi => h i (by omega))
/-- found so far, as the component has it -/
def rv_lk (T : Nat → Int32) (ev i : Nat) (bs le : Int32) : Prop := (i = 0 ∧ bs = -1 ∧ le = 2147483647) ∨ (0 < i ∧ (bs, le) = rv_look T ev i)
theorem rv_lk_s {T : Nat → Int32} {ev i t : Nat} {bs le : Int32} (h : rv_lk T ev i bs le) (ht : T i = nI t) (h1 : 1 ≤ t) (h2 : t ≤ 100) : rv_lk T ev (i + 1) (if le ≤ T i then bs else nI (ev + i)) (if T i < le then T i else le) := by
  refine Or.inr ⟨by omega, ?_⟩
  have hn : ¬ T i ≤ 0 := by rw [ht, ← nI_0]; exact fun z => by have := (nI_leI (by omega) (by omega)).mp z; omega
  rw [rv_look, if_neg hn]
  rcases h with ⟨rfl, rfl, rfl⟩ | ⟨_, h⟩
  · have e1 : ¬ (2147483647 : Int32) ≤ T 0 := by rw [ht]; exact fun z => by have := (nI_leI (a := 2147483647) (b := t) (by decide) (by omega)).mp z; omega
    have e2 : ¬ (rv_look T ev 0).2 ≤ T 0 := by show ¬ (1000000 : Int32) ≤ T 0; rw [ht]; exact fun z => by have := (nI_leI (a := 1000000) (b := t) (by decide) (by omega)).mp z; omega
    rw [if_neg e1, if_neg e2, if_pos (Int32.not_le.mp e1)]
  · rw [← h]
    by_cases e : le ≤ T i
    · rw [if_pos e, if_pos e, if_neg (Int32.not_lt.mpr e)]
    · rw [if_neg e, if_neg e, if_pos (Int32.not_le.mp e)]
theorem rv_iscnt_zz {P : Nat → Bool} : ∀ n, (∀ q, q < n → P q = false) → rv_iscnt P n = 0
  | 0, _ => rfl
  | n + 1, h => by rw [rv_iscnt, h n (by omega), rv_iscnt_zz n (fun q hq => h q (by omega))]; rfl
theorem rv_iscnt_0 {P : Nat → Bool} {c : Nat} (h : ∀ q, q < 36 → P q = false) (hc : rv_iscnt P 36 = nI c) (hl : c ≤ 36) : c = 0 := by
  rw [rv_iscnt_zz 36 h, ← nI_0] at hc
  exact ((nI_eq (by decide) (by omega)).mp hc).symm
theorem rv_top_z {P : Nat → Bool} {ev j : Nat} (h : rv_iscnt P 36 ≤ 0) (hj : j < 12) (hev : ev < 2 ^ 19) : rv_top P (rv_wf (nI (ev + j))) 36 = 0 := by
  obtain ⟨c, g1, g2, g3⟩ := rv_iscnt_n P 36
  have c0 : c = 0 := by
    rw [g2, ← nI_0] at h
    have := (nI_leI (by omega) (by decide)).mp h
    omega
  obtain ⟨t, t1, t2, -, t4⟩ := rv_top_n (P := P) (wf := rv_wf (nI (ev + j))) 36 (by omega) (fun q hq => rv_weather_lt (by omega) (by omega) (by omega))
  rw [t2, t4 (g3 c0)]; rfl
set_option maxHeartbeats 4000000 in
theorem x_X0_look (l : Launch) (dC : Nat → ClassId) (dI : Nat → Nat → Nat) (dA : Nat → ClassId) (n c : Nat) (σ : mdT) (ab be : Int64) (t_ : Nat) (ad : Nat → Nat) (v : Int32) (hc : c < 1000) : Met l yX0_look (ws_ yX0_look cX0_look 9 (some .int)) { frames := 5, cells := 0, slots := 0, locals := 300 } (xPz dC dI dA (xZa n t_ ad) (fun H => RX dC dI dA c n σ ab be H ∧ (alV dC dI n ad H)) [.ref n, .int v]) (xQi (S := Unit) (fun r_ _ => r_ = (sp_look σ v).1) (fun _ => (RX dC dI dA c n (sp_look σ v).2 ab be)) (bkA n 96)) 0 0 (bkA n 96) := by
  refine x_inZ (by decide) rfl (Nat.le_of_ble_eq_true rfl) (lv := [(0, .ref n), (1, .int v)]) rfl ?_
  intro p e s m below meth c_ X hN hnm hr hlk hP hZs ls hl
  obtain ⟨hP, hAl⟩ := hP
  obtain ⟨T, ξ, V, V2, im, many, rent, rd, un, hs, ev, ty, hP, hR, ho, hO⟩ := hP
  have ho0 := ho
  have hR0 := hR
  have hV := hO.1
  have hT := hO.tb
  have hm := hR.m6
  have hr6 := hR.r6
  have hd6 := hR.d6
  have hu8 := hR.u8
  have hs12 := hR.h12
  have hS : va_S (bkA n 96) s.heap s.heap [] := va_S.rf
  have hev := hR.evc
  have K38 : ∀ (k38_ : Nat) (bs : Int32) (le : Int32) (i : Nat) (ξ1 : mdT) (c_5 : rv_in v 0 (σ 0 0 - nI 1).toInt = true) (H : Heap) (locs : List Loc), 12 - i = k38_ → (i ≤ 12) → (∀ i, i ≠ 94 → i ≠ 95 → ξ1 i = ξ i) → (∀ q, q < 36 → ξ1 94 q = rb_i (rv_pair (σ 0) rd v q)) → (0 < i → ¬ rv_iscnt (rv_pair (σ 0) rd v) 36 ≤ 0) → (rv_lk (fun i => rv_top (rv_pair (σ 0) rd v) (rv_wf (nI (ev + i))) 36) ev i bs le) → bkP dC dI n 96 (xE dA n ξ1 V V2 im ab be) H → va_S (bkA n 96) s.heap H locs → ∀ ls, lv_has ls 9 [(0, .ref n), (1, .int v), (2, .int (rv_iscnt (rv_pair (σ 0) rd v) 36)), (3, .int bs), (4, .int le), (5, .int (nI (ev + i)))] → W p l e { frames := 5, cells := 0, slots := 0, locals := 300 } s m [.ref n, .int v].toArray below meth c_ H locs 0 0 (MQ below (xQi (S := Unit) (fun r_ _ => r_ = (sp_look σ v).1) (fun _ => (RX dC dI dA c n (sp_look σ v).2 ab be)) (bkA n 96)) [.ref n, .int v].toArray s 0 0 (bkA n 96)) (F0 m 38 ls []) := by
    intro k38_
    induction k38_ using Nat.strongRecOn with
    | _ k38_ ih38 =>
      intro bs le i ξ1 c_5 H locs hm38_ hi hq hp hcp hlo hP hS ls hl
      have hR := hR.cg (S' := fun i_ => ξ1 (1 + i_)) (fun i hi => hq (1 + i) (by omega) (by omega)) (fun _ _ => rfl)
      have ho := ho.cg (ξ' := ξ1) (congrFun (hq 0 (by decide) (by decide)) 0) (hq 88 (by decide) (by decide)) (hq 89 (by decide) (by decide)) rfl rfl rfl
      have K74 : ∀ (k74_ : Nat) (mo : Int32) (p_ : Nat) (ξ2 : mdT) (c_57 : ¬ rv_iscnt (rv_pair (σ 0) rd v) 36 ≤ 0) (hi12 : i < 12) (H : Heap) (locs : List Loc), 36 - p_ = k74_ → (p_ ≤ 36) → (∀ j, j ≠ 95 → ξ2 j = ξ1 j) → (∀ w, w < 6 → ξ2 95 w = rv_cnt (rv_pair (σ 0) rd v) (rv_wf (nI (ev + i))) p_ w) → (mo = rv_top (rv_pair (σ 0) rd v) (rv_wf (nI (ev + i))) p_) → bkP dC dI n 96 (xE dA n ξ2 V V2 im ab be) H → va_S (bkA n 96) s.heap H locs → ∀ ls, lv_has ls 9 [(0, .ref n), (1, .int v), (2, .int (rv_iscnt (rv_pair (σ 0) rd v) 36)), (3, .int bs), (4, .int le), (5, .int (nI (ev + i))), (6, .int mo), (7, .int (nI p_))] → W p l e { frames := 5, cells := 0, slots := 0, locals := 300 } s m [.ref n, .int v].toArray below meth c_ H locs 0 0 (MQ below (xQi (S := Unit) (fun r_ _ => r_ = (sp_look σ v).1) (fun _ => (RX dC dI dA c n (sp_look σ v).2 ab be)) (bkA n 96)) [.ref n, .int v].toArray s 0 0 (bkA n 96)) (F0 m 74 ls []) := by
        intro k74_
        induction k74_ using Nat.strongRecOn with
        | _ k74_ ih74 =>
          intro mo p_ ξ2 c_57 hi12 H locs hm74_ hp36 hq2 hc2 hmo hP hS ls hl
          have hR := hR.cg (S' := fun i_ => ξ2 (1 + i_)) (fun i hi => hq2 (1 + i) (by omega)) (fun _ _ => rfl)
          refine lv_iload X.1 X.2.1 dX0_look_74 (lv_at hl 7 rfl) ?_
          refine lv_aload_n X.1 X.2.1 dX0_look_76 rfl (lv_at hl 0 rfl) ?_
          refine xb_get (C := RX0) (T := TX0) (v := .ref (n + 94)) X in_X0 (ci := 0) rfl hP (j := 0) (by decide) (xe_x0 ..) 12 (by decide) q263 rfl rfl dX0_look_77 ?_
          refine xb_alen X hP (j := 94) (by decide) (t := 1) (n := 36) rfl rfl dX0_look_80 ?_
          refine rn_icmp_ge (tgt := 138) X.1 X.2.1 (by omega) (by omega) dX0_look_81 (by decide) (fun c_81 => ?_) (fun c_81 => ?_)
          · refine lv_iload X.1 X.2.1 dX0_look_138 (lv_at hl 6 rfl) ?_
            refine lv_iload X.1 X.2.1 dX0_look_140 (lv_at hl 4 rfl) ?_
            refine lv_icmp_ge (tgt := 150) X.1 X.2.1 dX0_look_142 (by decide) (fun (c_142 : le ≤ mo) => ?_) (fun (c_142 : ¬ le ≤ mo) => ?_)
            · refine lv_iload_n X.1 X.2.1 dX0_look_150 rfl (lv_at hl 3 rfl) ?_
              refine lv_istore_n (lv' := [(3, .int bs), (0, .ref n), (1, .int v), (2, .int (rv_iscnt (rv_pair (σ 0) rd v) 36)), (4, .int le), (5, .int (nI (ev + i))), (6, .int mo), (7, .int (nI p_))]) X.1 X.2.1 dX0_look_151 rfl hl (by decide) rfl (fun ls hl => ?_)
              refine lv_iload X.1 X.2.1 dX0_look_152 (lv_at hl 4 rfl) ?_
              refine lv_iload X.1 X.2.1 dX0_look_154 (lv_at hl 6 rfl) ?_
              refine va_mmin (rest := []) (x := le) (y := mo) X.1 X.2.1 (X.2.2.1.trans hl.1.symm) X.2.2.2.1 (X.2.2.2.2.1 _ q834) (X.2.2.2.2.1 _ q835) (X.2.2.2.2.1 _ q82) (X.2.2.2.2.1 _ q836) (Nat.le_of_ble_eq_true rfl) (Nat.le_of_ble_eq_true rfl) (Nat.le_of_ble_eq_true rfl) (Nat.le_of_ble_eq_true rfl) dX0_look_156 ?_
              refine lv_istore (lv' := [(4, .int (if mo < le then mo else le)), (3, .int bs), (0, .ref n), (1, .int v), (2, .int (rv_iscnt (rv_pair (σ 0) rd v) 36)), (5, .int (nI (ev + i))), (6, .int mo), (7, .int (nI p_))]) X.1 X.2.1 dX0_look_159 hl (by decide) rfl (fun ls hl => ?_)
              refine rn_iinc (lv' := [(5, .int (nI ((ev + i) + 1))), (4, .int (if mo < le then mo else le)), (3, .int bs), (0, .ref n), (1, .int v), (2, .int (rv_iscnt (rv_pair (σ 0) rd v) 36)), (6, .int mo), (7, .int (nI p_))]) X.1 X.2.1 dX0_look_161 hl (k := 5) rfl (by decide) rfl (fun ls hl => ?_)
              refine lv_goto (tgt := 38) X.1 X.2.1 dX0_look_164 (by decide) ?_
              exact ih38 _ (by omega) bs (if mo < le then mo else le) (i + 1) ξ2 c_5 _ _ rfl (by omega) (fun j h1 h2 => (hq2 j h2).trans (hq j h1 h2)) (fun q h => (congrFun (hq2 94 (by decide)) q).trans (hp q h)) (fun _ => c_57) (by obtain ⟨ct, g1, g2, g3⟩ := rv_iscnt_n (rv_pair (σ 0) rd v) 36; obtain ⟨t, t1, t2, t3, -⟩ := rv_top_n (P := rv_pair (σ 0) rd v) (wf := (rv_wf (nI (ev + i)))) 36 (by omega) (fun q hq => rv_weather_lt (by omega) (by omega) (by omega)); have htp : 1 ≤ t := (t3 (Classical.byContradiction (fun z => c_57 (by rw [g2]; have : ct = 0 := (Classical.byContradiction (fun y => z (Classical.byContradiction (fun x => y (by have hall : ∀ q, q < 36 → rv_pair (σ 0) rd v q = false := (fun q hq => (Bool.not_eq_true _).mp (fun w => x ⟨q, hq, w⟩)); exact rv_iscnt_0 hall g2 g1))))); rw [this]; decide)))); obtain rfl : p_ = 36 := (by omega); have := rv_lk_s hlo (t := t) t2 htp (by omega); rw [← hmo] at this; first | (rw [if_pos c_142] at this; exact this) | (rw [if_neg c_142] at this; exact this)) hP hS ls (lv_sub hl [3, 4, 5, 2, 1, 0] rfl)
            · refine lv_iload X.1 X.2.1 dX0_look_145 (lv_at hl 5 rfl) ?_
              refine lv_goto (tgt := 151) X.1 X.2.1 dX0_look_147 (by decide) ?_
              refine lv_istore_n (lv' := [(3, .int (nI (ev + i))), (0, .ref n), (1, .int v), (2, .int (rv_iscnt (rv_pair (σ 0) rd v) 36)), (4, .int le), (5, .int (nI (ev + i))), (6, .int mo), (7, .int (nI p_))]) X.1 X.2.1 dX0_look_151 rfl hl (by decide) rfl (fun ls hl => ?_)
              refine lv_iload X.1 X.2.1 dX0_look_152 (lv_at hl 4 rfl) ?_
              refine lv_iload X.1 X.2.1 dX0_look_154 (lv_at hl 6 rfl) ?_
              refine va_mmin (rest := []) (x := le) (y := mo) X.1 X.2.1 (X.2.2.1.trans hl.1.symm) X.2.2.2.1 (X.2.2.2.2.1 _ q834) (X.2.2.2.2.1 _ q835) (X.2.2.2.2.1 _ q82) (X.2.2.2.2.1 _ q836) (Nat.le_of_ble_eq_true rfl) (Nat.le_of_ble_eq_true rfl) (Nat.le_of_ble_eq_true rfl) (Nat.le_of_ble_eq_true rfl) dX0_look_156 ?_
              refine lv_istore (lv' := [(4, .int (if mo < le then mo else le)), (3, .int (nI (ev + i))), (0, .ref n), (1, .int v), (2, .int (rv_iscnt (rv_pair (σ 0) rd v) 36)), (5, .int (nI (ev + i))), (6, .int mo), (7, .int (nI p_))]) X.1 X.2.1 dX0_look_159 hl (by decide) rfl (fun ls hl => ?_)
              refine rn_iinc (lv' := [(5, .int (nI ((ev + i) + 1))), (4, .int (if mo < le then mo else le)), (3, .int (nI (ev + i))), (0, .ref n), (1, .int v), (2, .int (rv_iscnt (rv_pair (σ 0) rd v) 36)), (6, .int mo), (7, .int (nI p_))]) X.1 X.2.1 dX0_look_161 hl (k := 5) rfl (by decide) rfl (fun ls hl => ?_)
              refine lv_goto (tgt := 38) X.1 X.2.1 dX0_look_164 (by decide) ?_
              exact ih38 _ (by omega) (nI (ev + i)) (if mo < le then mo else le) (i + 1) ξ2 c_5 _ _ rfl (by omega) (fun j h1 h2 => (hq2 j h2).trans (hq j h1 h2)) (fun q h => (congrFun (hq2 94 (by decide)) q).trans (hp q h)) (fun _ => c_57) (by obtain ⟨ct, g1, g2, g3⟩ := rv_iscnt_n (rv_pair (σ 0) rd v) 36; obtain ⟨t, t1, t2, t3, -⟩ := rv_top_n (P := rv_pair (σ 0) rd v) (wf := (rv_wf (nI (ev + i)))) 36 (by omega) (fun q hq => rv_weather_lt (by omega) (by omega) (by omega)); have htp : 1 ≤ t := (t3 (Classical.byContradiction (fun z => c_57 (by rw [g2]; have : ct = 0 := (Classical.byContradiction (fun y => z (Classical.byContradiction (fun x => y (by have hall : ∀ q, q < 36 → rv_pair (σ 0) rd v q = false := (fun q hq => (Bool.not_eq_true _).mp (fun w => x ⟨q, hq, w⟩)); exact rv_iscnt_0 hall g2 g1))))); rw [this]; decide)))); obtain rfl : p_ = 36 := (by omega); have := rv_lk_s hlo (t := t) t2 htp (by omega); rw [← hmo] at this; first | (rw [if_pos c_142] at this; exact this) | (rw [if_neg c_142] at this; exact this)) hP hS ls (lv_sub hl [3, 4, 5, 2, 1, 0] rfl)
          · refine lv_aload_n X.1 X.2.1 dX0_look_84 rfl (lv_at hl 0 rfl) ?_
            refine xb_get (C := RX0) (T := TX0) (v := .ref (n + 94)) X in_X0 (ci := 0) rfl hP (j := 0) (by decide) (xe_x0 ..) 12 (by decide) q263 rfl rfl dX0_look_85 ?_
            refine lv_iload X.1 X.2.1 dX0_look_88 (lv_at hl 7 rfl) ?_
            refine xb_zald X hP (j := 94) (by decide) (n := 36) (f := ξ2 94) rfl (by omega) (by decide) dX0_look_90 ?_
            refine rn_co (y := rb_i (rv_pair (σ 0) rd v p_)) ((congrFun (hq2 94 (by decide)) p_).trans (hp p_ (by omega))) ?_
            refine rn_zt (tgt := 132) X.1 X.2.1 dX0_look_91 (by decide) (fun c_91 => ?_) (fun c_91 => ?_)
            · refine rn_iinc (lv' := [(7, .int (nI (p_ + 1))), (0, .ref n), (1, .int v), (2, .int (rv_iscnt (rv_pair (σ 0) rd v) 36)), (3, .int bs), (4, .int le), (5, .int (nI (ev + i))), (6, .int mo)]) X.1 X.2.1 dX0_look_132 hl (k := 7) rfl (by decide) rfl (fun ls hl => ?_)
              refine lv_goto (tgt := 74) X.1 X.2.1 dX0_look_135 (by decide) ?_
              exact ih74 _ (by omega) mo (p_ + 1) ξ2 c_57 (by omega) _ _ rfl (by omega) (by first | exact hq2 | exact fun j h => (mdS_row _ _ _ h).trans (hq2 j h)) (by first | exact (fun w h => by rw [rv_cnt, if_neg (rv_nf c_91)]; exact hc2 w h) | exact rv_cnt_up c_91 ew_ hw6 hc2) (by first | (rw [rv_top, if_neg (rv_nf c_91)]; exact hmo) | (rw [rv_top, if_pos c_91, show (rv_wf (nI (ev + i))) p_ = nI w_ from ew_, rv_cln (by omega), show rv_cnt (rv_pair (σ 0) rd v) (rv_wf (nI (ev + i))) (p_ + 1) w_ = ξ2 95 w_ + 1 from (by rw [rv_cnt, if_pos c_91, if_pos ew_, hc2 w_ hw6]), ← hmo, mdS_eq]; by_cases e : ξ2 95 w_ + 1 ≤ mo; (rw [if_pos e, if_neg (Int32.not_lt.mpr e)]); (rw [if_neg e, if_pos (Int32.not_le.mp e)]))) hP hS ls (lv_sub hl [1, 2, 3, 4, 5, 6, 7, 0] rfl)
            · refine va_gets X.1 X.2.1 hZs.1 (xS_up hS) X.2.2.2.1 (X.2.2.2.2.1 _ q827) (fun x h => h) dX0_look_94 ?_
              refine lv_iload X.1 X.2.1 dX0_look_97 (lv_at hl 7 rfl) ?_
              refine vb_tq (v := .ref (ad p_)) X.1 X.2.1 hZs.2 (xS_up hS) (vp_in_nI (n := p_) (N := 36) (by omega) (by decide)) (by rw [nI_clamp (by omega)]) dX0_look_99 ?_
              refine lv_iload X.1 X.2.1 dX0_look_100 (lv_at hl 5 rfl) ?_
              refine vd_X0_shows (nI (ev + i)) X hN (show p_ / 6 < 6 by omega) ((hAl.at hS) p_ (by omega)).2 (rest := []) ⟨Nat.le_of_ble_eq_true rfl, Nat.le_of_ble_eq_true rfl⟩ hl.1 (Nat.le_of_ble_eq_true rfl) dX0_look_102 ⟨Nat.le_of_ble_eq_true rfl, Nat.le_of_ble_eq_true rfl⟩ ?_
              obtain ⟨w_, hw6, ew_⟩ := rv_weather_lt (kd := p_ / 6) (we := p_ % 6) (ev := ev + i) (by omega) (by omega) (by omega)
              refine rn_co (y := nI w_) ew_ ?_
              refine lv_istore (lv' := [(8, .int (nI w_)), (0, .ref n), (1, .int v), (2, .int (rv_iscnt (rv_pair (σ 0) rd v) 36)), (3, .int bs), (4, .int le), (5, .int (nI (ev + i))), (6, .int mo), (7, .int (nI p_))]) X.1 X.2.1 dX0_look_105 hl (by decide) rfl (fun ls hl => ?_)
              refine lv_aload_n X.1 X.2.1 dX0_look_107 rfl (lv_at hl 1 rfl) ?_
              refine xb_get (C := RX0) (T := TX0) (v := .ref (n + 95)) X in_X0 (ci := 0) rfl hP (j := 0) (by decide) (xe_x0 ..) 13 (by decide) q264 rfl rfl dX0_look_108 ?_
              refine lv_iload X.1 X.2.1 dX0_look_111 (lv_at hl 0 rfl) ?_
              refine lv_dup2_11 X.1 X.2.1 dX0_look_113 rfl rfl ?_
              refine xb_iald X hP (j := 95) (by decide) (n := 6) (f := ξ2 95) rfl (by omega) (by decide) dX0_look_114 ?_
              refine lv_iconst (v := nI 1) X.1 X.2.1 dX0_look_115 rfl ?_
              refine lv_iadd X.1 X.2.1 dX0_look_116 ?_
              refine xb_iast (E' := xE dA n (mdS ξ2 95 w_ ((ξ2 95 w_) + 1)) V V2 im ab be) X hP (fun _ h => h) hS (j := 95) (by decide) (n := 6) (f := ξ2 95) rfl (by omega) (by decide) (fun i_ _ => xE_S dA n ξ2 V V2 im ab be 95 w_ ((ξ2 95 w_) + 1) i_) dX0_look_117 (fun H locs hP hS => ?_)
              have hR := xR_S hR (j := 95) (k := w_) (v := (ξ2 95 w_) + 1) (by decide)
              refine lv_iload X.1 X.2.1 dX0_look_118 (lv_at hl 7 rfl) ?_
              refine lv_aload_n X.1 X.2.1 dX0_look_120 rfl (lv_at hl 1 rfl) ?_
              refine xb_get (C := RX0) (T := TX0) (v := .ref (n + 95)) X in_X0 (ci := 0) rfl hP (j := 0) (by decide) (xe_x0 ..) 13 (by decide) q264 rfl rfl dX0_look_121 ?_
              refine lv_iload X.1 X.2.1 dX0_look_124 (lv_at hl 0 rfl) ?_
              refine xb_iald X hP (j := 95) (by decide) (n := 6) (f := (mdS ξ2 95 w_ ((ξ2 95 w_) + 1)) 95) rfl (by omega) (by decide) dX0_look_126 ?_
              refine va_mmax (rest := []) (x := mo) (y := ((mdS ξ2 95 w_ ((ξ2 95 w_) + 1)) 95 w_)) X.1 X.2.1 (X.2.2.1.trans hl.1.symm) X.2.2.2.1 (X.2.2.2.2.1 _ q791) (X.2.2.2.2.1 _ q792) (X.2.2.2.2.1 _ q82) (X.2.2.2.2.1 _ q793) (Nat.le_of_ble_eq_true rfl) (Nat.le_of_ble_eq_true rfl) (Nat.le_of_ble_eq_true rfl) (Nat.le_of_ble_eq_true rfl) dX0_look_127 ?_
              refine lv_istore (lv' := [(6, .int (if mo < ((mdS ξ2 95 w_ ((ξ2 95 w_) + 1)) 95 w_) then ((mdS ξ2 95 w_ ((ξ2 95 w_) + 1)) 95 w_) else mo)), (8, .int (nI w_)), (0, .ref n), (1, .int v), (2, .int (rv_iscnt (rv_pair (σ 0) rd v) 36)), (3, .int bs), (4, .int le), (5, .int (nI (ev + i))), (7, .int (nI p_))]) X.1 X.2.1 dX0_look_130 hl (by decide) rfl (fun ls hl => ?_)
              refine rn_iinc (lv' := [(7, .int (nI (p_ + 1))), (6, .int (if mo < ((mdS ξ2 95 w_ ((ξ2 95 w_) + 1)) 95 w_) then ((mdS ξ2 95 w_ ((ξ2 95 w_) + 1)) 95 w_) else mo)), (8, .int (nI w_)), (0, .ref n), (1, .int v), (2, .int (rv_iscnt (rv_pair (σ 0) rd v) 36)), (3, .int bs), (4, .int le), (5, .int (nI (ev + i)))]) X.1 X.2.1 dX0_look_132 hl (k := 8) rfl (by decide) rfl (fun ls hl => ?_)
              refine lv_goto (tgt := 74) X.1 X.2.1 dX0_look_135 (by decide) ?_
              exact ih74 _ (by omega) (if mo < ((mdS ξ2 95 w_ ((ξ2 95 w_) + 1)) 95 w_) then ((mdS ξ2 95 w_ ((ξ2 95 w_) + 1)) 95 w_) else mo) (p_ + 1) (mdS ξ2 95 w_ ((ξ2 95 w_) + 1)) c_57 (by omega) _ _ rfl (by omega) (by first | exact hq2 | exact fun j h => (mdS_row _ _ _ h).trans (hq2 j h)) (by first | exact (fun w h => by rw [rv_cnt, if_neg (rv_nf c_91)]; exact hc2 w h) | exact rv_cnt_up c_91 ew_ hw6 hc2) (by first | (rw [rv_top, if_neg (rv_nf c_91)]; exact hmo) | (rw [rv_top, if_pos c_91, show (rv_wf (nI (ev + i))) p_ = nI w_ from ew_, rv_cln (by omega), show rv_cnt (rv_pair (σ 0) rd v) (rv_wf (nI (ev + i))) (p_ + 1) w_ = ξ2 95 w_ + 1 from (by rw [rv_cnt, if_pos c_91, if_pos ew_, hc2 w_ hw6]), ← hmo, mdS_eq]; by_cases e : ξ2 95 w_ + 1 ≤ mo; (rw [if_pos e, if_neg (Int32.not_lt.mpr e)]); (rw [if_neg e, if_pos (Int32.not_le.mp e)]))) hP hS ls (lv_sub hl [3, 4, 5, 6, 7, 8, 1, 0] rfl)
      refine lv_iload X.1 X.2.1 dX0_look_38 (lv_at hl 5 rfl) ?_
      refine lv_aload_n X.1 X.2.1 dX0_look_40 rfl (lv_at hl 0 rfl) ?_
      refine xb_get (C := RX0) (T := TX0) (v := .ref (n + 1)) X in_X0 (ci := 0) rfl hP (j := 0) (by decide) (xe_x0 ..) 0 (by decide) q248 rfl rfl dX0_look_41 ?_
      refine xb_getN (host := "RentedViews") (C := RX1) (T := TX1) (v := .ref (n + 7)) X in_X1 (ci := 1) rfl hP (j := 1) (by decide) (xe_x1 ..) 8 (by decide) (x_nest hN q160 rfl) rfl rfl dX0_look_44 ?_
      refine xb_getN (host := "RentedViews") (C := RX2) (T := TX2) (v := .int (ξ1 7 1)) X in_X2 (ci := 2) rfl hP (j := 7) (by decide) (xe_x7 ..) 3 (by decide) (x_nest hN q116 rfl) rfl rfl dX0_look_47 ?_
      refine rn_co (y := nI ev) hR.eve ?_
      refine lv_bipush (v := nI 12) X.1 X.2.1 dX0_look_50 rfl ?_
      refine rn_iadd X.1 X.2.1 dX0_look_52 ?_
      refine rn_icmp_ge (tgt := 167) X.1 X.2.1 (by omega) (by omega) dX0_look_53 (by decide) (fun c_53 => ?_) (fun c_53 => ?_)
      · refine lv_iload_n X.1 X.2.1 dX0_look_167 rfl (lv_at hl 3 rfl) ?_
        exact x_pi (by rw [sp_look, if_pos c_5, hR0.f5, hR0.f2, rv_cln (by omega), rv_cln (by omega)]; by_cases e12 : i = 12; (subst e12; rcases hlo with hlo | hlo; (exact absurd hlo.1 (by omega)); (rw [← hlo.2])); (first | omega | (have hi0 : i = 0 := (Classical.byContradiction (fun z => hcp (by omega) c_57)); rcases hlo with hlo | hlo; (rw [hlo.2.1, rv_look_z 12 (fun j hj => rv_top_z (ev := ev) c_57 hj (by omega))]); (exact absurd hlo.1 (by omega))))) X hr hlk hS dX0_look_168 (RX.o hP hR ho (hO.at hS) (fun i hi => hq (44 + i) (by omega) (by omega)) rfl rfl rfl)
      · refine lv_iload_n X.1 X.2.1 dX0_look_56 rfl (lv_at hl 2 rfl) ?_
        refine lv_if_le (tgt := 167) X.1 X.2.1 dX0_look_57 (by decide) (fun (c_57 : rv_iscnt (rv_pair (σ 0) rd v) 36 ≤ 0) => ?_) (fun (c_57 : ¬ rv_iscnt (rv_pair (σ 0) rd v) 36 ≤ 0) => ?_)
        · refine lv_iload_n X.1 X.2.1 dX0_look_167 rfl (lv_at hl 3 rfl) ?_
          exact x_pi (by rw [sp_look, if_pos c_5, hR0.f5, hR0.f2, rv_cln (by omega), rv_cln (by omega)]; by_cases e12 : i = 12; (subst e12; rcases hlo with hlo | hlo; (exact absurd hlo.1 (by omega)); (rw [← hlo.2])); (first | omega | (have hi0 : i = 0 := (Classical.byContradiction (fun z => hcp (by omega) c_57)); rcases hlo with hlo | hlo; (rw [hlo.2.1, rv_look_z 12 (fun j hj => rv_top_z (ev := ev) c_57 hj (by omega))]); (exact absurd hlo.1 (by omega))))) X hr hlk hS dX0_look_168 (RX.o hP hR ho (hO.at hS) (fun i hi => hq (44 + i) (by omega) (by omega)) rfl rfl rfl)
        · refine lv_aload_n X.1 X.2.1 dX0_look_60 rfl (lv_at hl 0 rfl) ?_
          refine xb_get (C := RX0) (T := TX0) (v := .ref (n + 95)) X in_X0 (ci := 0) rfl hP (j := 0) (by decide) (xe_x0 ..) 13 (by decide) q264 rfl rfl dX0_look_61 ?_
          refine lv_iconst (v := nI 0) X.1 X.2.1 dX0_look_64 rfl ?_
          have hQ : bkP dC dI (n + 95) 1 (qE dA (fun _ => ξ1 95)) _ := fun j hj => by obtain rfl : j = 0 := (by omega); exact hP 95 (by decide)
          refine x_cWv (x_runS X hN hQ (As := [.ref (n + 95), .int (nI 0)]) (rest := []) (x_J6_fill l dC dI dA (n + 95) (fun _ => ξ1 95) (nI 0)) xks_X0_202 rfl rfl ⟨Nat.le_of_ble_eq_true rfl, Nat.le_of_ble_eq_true rfl⟩ hl.1 (Nat.le_of_ble_eq_true rfl) dX0_look_65 ⟨Nat.le_of_ble_eq_true rfl, Nat.le_of_ble_eq_true rfl⟩) hS (fun q h => by unfold bkA at *; omega) (fun q h => by unfold bkA at *; omega) (fun _ H locs _ hP1 hz1 hk1 hS => ?_)
          have hP : bkP dC dI n 96 (xE dA n (mdR ξ1 95 (fun _ => (nI 0))) V V2 im ab be) H := (hP.one (j := 95) (hP1 0 (by decide)) (fun q h1 h2 => hk1 q (bk_sz hP h1) (fun z => h2 (by unfold bkA at z; omega)))).e (fun i _ => xE_R dA n ξ1 V V2 im ab be 95 (fun _ => (nI 0)) i)
          have hR := hR.cg (S' := fun i_ => (mdR ξ1 95 (fun _ => (nI 0))) (1 + i_)) (fun i hi => by first | rfl | simp (disch := omega) only [mdS_row, mdI_out, upRn] | (simp (disch := omega) only [mdS_row, mdI_out, upRn, *])) (fun _ _ => rfl)
          refine lv_iconst (v := nI 0) X.1 X.2.1 dX0_look_68 rfl ?_
          refine lv_istore (lv' := [(6, .int (nI 0)), (0, .ref n), (1, .int v), (2, .int (rv_iscnt (rv_pair (σ 0) rd v) 36)), (3, .int bs), (4, .int le), (5, .int (nI (ev + i)))]) X.1 X.2.1 dX0_look_69 hl (by decide) rfl (fun ls hl => ?_)
          refine lv_iconst (v := nI 0) X.1 X.2.1 dX0_look_71 rfl ?_
          refine lv_istore (lv' := [(7, .int (nI 0)), (6, .int (nI 0)), (0, .ref n), (1, .int v), (2, .int (rv_iscnt (rv_pair (σ 0) rd v) 36)), (3, .int bs), (4, .int le), (5, .int (nI (ev + i)))]) X.1 X.2.1 dX0_look_72 hl (by decide) rfl (fun ls hl => ?_)
          exact K74 _ (nI 0) 0 (mdR ξ1 95 (fun _ => (nI 0))) c_57 (by omega) _ _ rfl (by omega) (fun j h => upRn _ _ h) (fun w h => rfl) rfl hP hS ls (lv_sub hl [2, 3, 4, 5, 6, 7, 1, 0] rfl)
  refine lv_aload_n X.1 X.2.1 dX0_look_0 rfl (lv_at hl 0 rfl) ?_
  refine lv_iload_n X.1 X.2.1 dX0_look_1 rfl (lv_at hl 1 rfl) ?_
  refine x_cSe (x_runV X hN hP (As := [.int v]) (rest := []) (x_X0_isView l dC dI dA n ξ V V2 im ab be v c many rent rd un hs ev (σ 0) hR) xkv_X0_132 (x_recv (ci := 0) X.2.2.2.2.2 hP (j := 0) (by decide) (xe_x0 ..) rfl) rfl rfl ⟨Nat.le_of_ble_eq_true rfl, Nat.le_of_ble_eq_true rfl⟩ hl.1 (Nat.le_of_ble_eq_true rfl) dX0_look_2 ⟨Nat.le_of_ble_eq_true rfl, Nat.le_of_ble_eq_true rfl⟩) ?_
  refine rn_zf (tgt := 13) X.1 X.2.1 dX0_look_5 (by decide) (fun c_5 => ?_) (fun c_5 => ?_)
  · refine lv_aload_n X.1 X.2.1 dX0_look_13 rfl (lv_at hl 0 rfl) ?_
    refine lv_iload_n X.1 X.2.1 dX0_look_14 rfl (lv_at hl 1 rfl) ?_
    refine x_cWi (x_runVZ (hz := xZa_ok n t_ ad) X hN ⟨hP, (hAl.at hS)⟩ (xZ_at hZs hS) (As := [.int v]) (rest := []) (x_X0_tries l dC dI dA n ξ V V2 im ab be t_ ad v c many rent rd un hs ev (σ 0) hR) xkv_X0_299 (x_recv (ci := 0) X.2.2.2.2.2 hP (j := 0) (by decide) (xe_x0 ..) rfl) rfl rfl ⟨Nat.le_of_ble_eq_true rfl, Nat.le_of_ble_eq_true rfl⟩ hl.1 (Nat.le_of_ble_eq_true rfl) dX0_look_15 ⟨Nat.le_of_ble_eq_true rfl, Nat.le_of_ble_eq_true rfl⟩) hS (fun _ h => h) (fun _ h => h) (fun r15 u15 H locs hu15 hP1 hz1 hk1 hS => ?_)
    have hP := hP1
    obtain ⟨er15, hu15⟩ := hu15
    refine rn_co er15 ?_
    have hR := hR.cg (fun i hi => hu15.1 (1 + i) (by omega) ) (fun _ _ => rfl)
    have ho := ho.cg (congrFun (hu15.1 0 (by decide)) 0) (hu15.1 88 (by decide)) (hu15.1 89 (by decide)) rfl rfl rfl
    refine lv_istore_n (lv' := [(2, .int (rv_iscnt (rv_pair (σ 0) rd v) 36)), (0, .ref n), (1, .int v)]) X.1 X.2.1 dX0_look_18 rfl hl (by decide) rfl (fun ls hl => ?_)
    refine lv_iconst (v := (-1)) X.1 X.2.1 dX0_look_19 rfl ?_
    refine lv_istore_n (lv' := [(3, .int (-1)), (2, .int (rv_iscnt (rv_pair (σ 0) rd v) 36)), (0, .ref n), (1, .int v)]) X.1 X.2.1 dX0_look_20 rfl hl (by decide) rfl (fun ls hl => ?_)
    refine lv_ldcw (v := 2147483647) X.1 X.2.1 X.2.2.2.1 (X.2.2.2.2.1 _ q833) dX0_look_21 ?_
    refine lv_istore (lv' := [(4, .int (nI 2147483647)), (3, .int (-1)), (2, .int (rv_iscnt (rv_pair (σ 0) rd v) 36)), (0, .ref n), (1, .int v)]) X.1 X.2.1 dX0_look_24 hl (by decide) rfl (fun ls hl => ?_)
    refine lv_aload_n X.1 X.2.1 dX0_look_26 rfl (lv_at hl 3 rfl) ?_
    refine xb_get (C := RX0) (T := TX0) (v := .ref (n + 1)) X in_X0 (ci := 0) rfl hP (j := 0) (by decide) (xe_x0 ..) 0 (by decide) q248 rfl rfl dX0_look_27 ?_
    refine xb_getN (host := "RentedViews") (C := RX1) (T := TX1) (v := .ref (n + 7)) X in_X1 (ci := 1) rfl hP (j := 1) (by decide) (xe_x1 ..) 8 (by decide) (x_nest hN q160 rfl) rfl rfl dX0_look_30 ?_
    refine xb_getN (host := "RentedViews") (C := RX2) (T := TX2) (v := .int (u15 7 1)) X in_X2 (ci := 2) rfl hP (j := 7) (by decide) (xe_x7 ..) 3 (by decide) (x_nest hN q116 rfl) rfl rfl dX0_look_33 ?_
    refine rn_co (y := nI ev) hR.eve ?_
    refine lv_istore (lv' := [(5, .int (nI ev)), (4, .int (nI 2147483647)), (3, .int (-1)), (2, .int (rv_iscnt (rv_pair (σ 0) rd v) 36)), (0, .ref n), (1, .int v)]) X.1 X.2.1 dX0_look_36 hl (by decide) rfl (fun ls hl => ?_)
    exact K38 _ (-1) (nI 2147483647) 0 u15 c_5 _ _ rfl (by omega) (fun j h1 h2 => hu15.1 j h1) hu15.2 (fun z => absurd z (by omega)) (Or.inl ⟨rfl, rfl, rfl⟩) hP hS ls (lv_sub hl [4, 5, 3, 2, 1, 0] rfl)
  · refine lv_aload_n X.1 X.2.1 dX0_look_8 rfl (lv_at hl 0 rfl) ?_
    refine x_cWi (x_runV X hN hP (As := []) (rest := []) (x_X0_bad l dC dI dA n ξ V V2 im ab be) xkv_X0_110 (x_recv (ci := 0) X.2.2.2.2.2 hP (j := 0) (by decide) (xe_x0 ..) rfl) rfl rfl ⟨Nat.le_of_ble_eq_true rfl, Nat.le_of_ble_eq_true rfl⟩ hl.1 (Nat.le_of_ble_eq_true rfl) dX0_look_9 ⟨Nat.le_of_ble_eq_true rfl, Nat.le_of_ble_eq_true rfl⟩) hS (fun _ h => h) (fun _ h => h) (fun r9 _ H locs hr1 hP1 hz1 hk1 hS => ?_)
    subst hr1
    have hP := hP1
    have hR := hR.cg (S' := fun i_ => (mdS ξ 89 0 (ξ 89 0 + nI 1)) (1 + i_)) (fun i hi => by first | rfl | simp (disch := omega) only [mdS_row, mdI_out, upRn] | (simp (disch := omega) only [mdS_row, mdI_out, upRn, *])) (fun _ _ => rfl)
    have ho := oR.b (k := 0) ho (by decide)
    exact x_pi (by first | (rw [sp_look, if_neg (rv_nf c_5)]; done) | (rw [sp_look, if_neg (rv_nf c_5)]; rfl)) X hr hlk hS dX0_look_12 (RX.o hP hR ho (hO.at hS) (fun i hi => by first | rfl | simp (disch := omega) only [mdS_row, mdI_out, upRn] | (simp (disch := omega) only [mdS_row, mdI_out, upRn, *])) rfl rfl rfl)
