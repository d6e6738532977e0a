/-! ===== led ===== -/
def ledS (σ : Sg) : Nat := match sv σ with
  | none => 0
  | some V => unseenS V (sa σ 0) (eyesS V (sn σ 0) 0) (seesS V (rangeV V (sn σ 0)) 0 0)
theorem ledS_n {σ : Sg} (h : sv σ = none) : ledS σ = 0 := by unfold ledS; rw [h]
theorem ledS_s {σ : Sg} {V : Vt} (h : sv σ = some V) : ledS σ = unseenS V (sa σ 0) (eyesS V (sn σ 0) 0) (seesS V (rangeV V (sn σ 0)) 0 0) := by unfold ledS; rw [h]
def ledQ (S : Nat) (i : Int32) (p : Nat) : Bool := S.testBit p && decide (nI (cntN S p) = i)
def ledP (σ : Sg) (i : Int32) : Nat := fstN 5 (ledQ (ledS σ) i)
theorem cntN_le (s n : Nat) : cntN s n ≤ n := by
  induction n with
  | zero => exact Nat.le_refl _
  | succ n ih => rw [cntN_s]; split <;> omega
theorem ledQ_f {S p : Nat} {i : Int32} (h : S.testBit p = false) : ledQ S i p = false := by unfold ledQ; rw [h]; rfl
theorem ledQ_n {S p : Nat} {i : Int32} (h : ¬ nI (cntN S p) = i) : ledQ S i p = false := by unfold ledQ; rw [decide_eq_false h, Bool.and_false]
theorem ledQ_t {S p : Nat} {i : Int32} (h : S.testBit p = true) (h2 : nI (cntN S p) = i) : ledQ S i p = true := by unfold ledQ; rw [h, decide_eq_true h2]; rfl
theorem jXx.n {M : Mm} {σ : Sg} {c n s : Nat} (h : jXx M σ) : jXx (js_new M c n s) σ := h.fr (E := fun a => a = 62) (jsm.n rfl) h.1.n (fun a z q => by omega)
def jLd (M : Mm) (σ : Sg) (i : Int32) : Rs → Mm → Prop := fun r M' => jXx M' σ ∧ (jsm (fun a => (64 ≤ a ∧ a < 90) ∨ a = 62) M M' ∧ jm_Z M' ≤ jm_Z M + 1 ∧ jm_S M' ≤ jm_S M + 6) ∧ ((ledP σ i < 5 ∧ r = .inl (some (.int (nI (ledP σ i))))) ∨ (ledP σ i = 5 ∧ ∃ a, r = .inr a ∧ jm_K M' a = 15 ∧ a < jm_Z M' ∧ 64 ≤ a))
section JLE
variable {G : Gh} {M : Mm} {σ : Sg}
theorem t_X1_led {i : Int32} (h : jXx M σ) : jT G mi_X1_led 8 [jr (some 64), .int i] M (jLd M σ i) := by
  have hS := h.1
  have hz := hS.2.2.2
  refine jT.of (by decide) rfl (Nat.le_of_ble_eq_true rfl) ?_
  have J : ledS σ < 32 → ∀ p : Nat, (p ≤ 5 ∧ ∀ j, j < p → ledQ (ledS σ) i j = false) → jW G mi_X1_led 8 M 42 [some (jr (some 64)), some (.int i), some (.int (nI (ledS σ))), some (.int (nI (cntN (ledS σ) p))), some (.int (nI p))] [] M (jLd M σ i) := by
    intro hl
    refine jW.loop _ (fun p => 5 - p) _ (fun _ => []) (fun _ => M) (fun p hp ih => ?_)
    obtain ⟨hp, h0⟩ := hp
    have hs1 := cntN_s (ledS σ) p
    have hcl := cntN_le (ledS σ) p
    by_cases hkn : p < 5
    ·
      refine jw_iload (pc := 42) dX1_led_42 rfl ?_
      refine jw_iconst (pc := 44) dX1_led_44 ic_5 ?_
      first | refine jx_icmp_ge (pc := 45) (tgt := 77) dX1_led_45 (by decide) (by omega) (by omega) ?_ ?_ | refine jw_icmp_ge (pc := 45) (tgt := 77) dX1_led_45 (by decide) ?_ ?_
      · intro h_45
        omega
      · intro h_45
        refine jw_iload_n (pc := 48) dX1_led_48 rfl ?_
        refine jw_iload (pc := 49) dX1_led_49 rfl ?_
        refine jx_cSE (mi1 := mi_X1_lies) (pc := 51) rfl dX1_led_51 lk_X1_189 rfl fi_X1_lies (t_X1_lies (by omega) (by omega)) (by first | decide | omega) rfl rfl (by decide) ?_
        first | refine jx_ifb_ne (pc := 54) (tgt := 60) dX1_led_54 (by decide) ?_ ?_ | refine jx_if_ne (pc := 54) (tgt := 60) dX1_led_54 (by decide) (by omega) ?_ ?_ | refine jw_if_ne (pc := 54) (tgt := 60) dX1_led_54 (by decide) ?_ ?_
        · intro h_54
          refine jw_iload_n (pc := 60) dX1_led_60 rfl ?_
          refine jw_iload_n (pc := 61) dX1_led_61 rfl ?_
          refine jw_icmp_ne (pc := 62) (tgt := 68) dX1_led_62 (by decide) ?_ ?_
          · intro h_62
            first | refine jx_iinc (pc := 68) dX1_led_68 rfl rfl ?_ | refine jw_iinc (pc := 68) dX1_led_68 rfl rfl rfl ?_
            try dsimp only [jput1, jkill, jclr, jis2_i, jis2_l, jis2_rs, jis2_rn, cond]
            first | refine jx_iinc (pc := 71) dX1_led_71 rfl rfl ?_ | refine jw_iinc (pc := 71) dX1_led_71 rfl rfl rfl ?_
            try dsimp only [jput1, jkill, jclr, jis2_i, jis2_l, jis2_rs, jis2_rn, cond]
            refine jw_goto (pc := 74) (tgt := 42) dX1_led_74 (by decide) ?_
            refine jW.eq ?_ rfl rfl (ih (p + 1) ⟨hkn, fun j hj => ?_⟩ (by omega))
            · rw [hs1, h_54]; rfl
            · by_cases e : j = p
              · subst e; first | exact ledQ_f h_54 | exact ledQ_n h_62
              · exact h0 j (by omega)
          · intro h_62
            refine jw_iload (pc := 65) dX1_led_65 rfl ?_
            refine jw_ireturn (pc := 67) dX1_led_67 rfl (rfl) ?_
            have e : ledP σ i = p := fst_hit hkn (ledQ_t h_54 h_62) h0
            refine ⟨h, ⟨jsm.rf, Nat.le_succ _, Nat.le_add_right _ _⟩, Or.inl ⟨by omega, by rw [e]⟩⟩
        · intro h_54
          refine jw_goto (pc := 57) (tgt := 71) dX1_led_57 (by decide) ?_
          first | refine jx_iinc (pc := 71) dX1_led_71 rfl rfl ?_ | refine jw_iinc (pc := 71) dX1_led_71 rfl rfl rfl ?_
          try dsimp only [jput1, jkill, jclr, jis2_i, jis2_l, jis2_rs, jis2_rn, cond]
          refine jw_goto (pc := 74) (tgt := 42) dX1_led_74 (by decide) ?_
          refine jW.eq ?_ rfl rfl (ih (p + 1) ⟨hkn, fun j hj => ?_⟩ (by omega))
          · rw [hs1, h_54]; rfl
          · by_cases e : j = p
            · subst e; first | exact ledQ_f h_54 | exact ledQ_n h_62
            · exact h0 j (by omega)
    · have hk' : p = 5 := by omega
      subst hk'
      refine jw_iload (pc := 42) dX1_led_42 rfl ?_
      refine jw_iconst (pc := 44) dX1_led_44 ic_5 ?_
      first | refine jx_icmp_ge (pc := 45) (tgt := 77) dX1_led_45 (by decide) (by omega) (by omega) ?_ ?_ | refine jw_icmp_ge (pc := 45) (tgt := 77) dX1_led_45 (by decide) ?_ ?_
      · intro h_45
        refine jw_throwN rfl rfl dX1_led_77 dX1_led_80 dX1_led_81 dX1_led_84 (by decide) (by decide) ⟨h.n, ⟨jsm.n (Or.inr rfl), Nat.le_refl _, Nat.le_refl _⟩, Or.inr ⟨fst_none h0, jm_Z M, rfl, by rw [jK_n, if_pos rfl], by rw [jZ_n]; omega, by omega⟩⟩
      · intro h_45
        omega
  cases hv9 : sv σ with
  | none =>
    have e := ledS_n hv9
    have J0 := J (by omega) 0 ⟨Nat.zero_le _, fun j hj => absurd hj (Nat.not_lt_zero _)⟩
    rw [e] at J0
    refine jw_aload_n (pc := 0) dX1_led_0 rfl ?_
    refine jx_getRs (pc := 1) (jf_X1_109_0.r) rfl dX1_led_1 rfl (is_64 hS) (by decide) (h.no hv9) ?_
    refine jw_ifnonnull (pc := 4) (tgt := 11) dX1_led_4 (by decide) (fun ax h => by cases h) (fun h => ?_)
    clear h
    refine jw_iconst (pc := 7) dX1_led_7 ic_0 ?_
    refine jw_goto (pc := 8) (tgt := 36) dX1_led_8 (by decide) ?_
    refine jw_istore_n (pc := 36) dX1_led_36 (Nat.le_of_ble_eq_true rfl) rfl ?_
    try dsimp only [jput1, jput2, jkill, jclr, jis2_i, jis2_l, jis2_rs, jis2_rn, cond]
    refine jw_iconst (pc := 37) dX1_led_37 ic_0 ?_
    refine jw_istore_n (pc := 38) dX1_led_38 (Nat.le_of_ble_eq_true rfl) rfl ?_
    try dsimp only [jput1, jput2, jkill, jclr, jis2_i, jis2_l, jis2_rs, jis2_rn, cond]
    refine jw_iconst (pc := 39) dX1_led_39 ic_0 ?_
    refine jw_istore (pc := 40) dX1_led_40 (Nat.le_of_ble_eq_true rfl) rfl ?_
    try dsimp only [jput1, jput2, jkill, jclr, jis2_i, jis2_l, jis2_rs, jis2_rn, cond]
    exact J0
  | some V =>
    have e := ledS_s hv9
    have hw9 := (h.2.1.2 V hv9).1
    have hl : ledS σ < 32 := by rw [e]; exact msk5 (wf_nq hw9) _
    have ht := (h.2.1.2 V hv9).2.2.2.1
    obtain ⟨v, hs, hN⟩ := h.so hv9
    have hv := hs.s
    have he9 : eyesS V (sn σ 0) 0 < 32 := msk5 (wf_nq hw9) _
    have J0 := J hl 0 ⟨Nat.zero_le _, fun j hj => absurd hj (Nat.not_lt_zero _)⟩
    rw [e] at J0
    refine jw_aload_n (pc := 0) dX1_led_0 rfl ?_
    refine jx_getRs (pc := 1) (jf_X1_109_0.r) rfl dX1_led_1 rfl (is_64 hS) (by decide) (hs.r) ?_
    refine jw_ifnonnull (pc := 4) (tgt := 11) dX1_led_4 (by decide) (fun ax h => ?_) (fun h => by cases h)
    clear h
    refine jw_aload_n (pc := 11) dX1_led_11 rfl ?_
    refine jw_aload_n (pc := 12) dX1_led_12 rfl ?_
    refine jx_getRs (pc := 13) (jf_X1_39_0.r) rfl dX1_led_13 rfl (is_64 hS) (by decide) (sr_64_10 hS) ?_
    refine jw_aload_n (pc := 16) dX1_led_16 rfl ?_
    refine jw_aload_n (pc := 17) dX1_led_17 rfl ?_
    refine jx_getIs (pc := 18) (jf_X1_131_0.r) rfl dX1_led_18 rfl (is_64 hS) (by decide) (hN.1) ?_
    refine jw_iconst (pc := 21) dX1_led_21 ic_0 ?_
    refine jx_cVE (mi1 := mi_X1_watching) (pc := 22) rfl dX1_led_22 lk_X1_210 rfl fi_X1_watching rfl rfl rfl (by decide) (is_64 hS) (t_X1_watching (t := sn σ 0) (but := 0) hs (by omega) (by decide)) (by first | decide | omega) rfl rfl (by simp only [List.map_cons, List.map_nil, List.sum_cons, List.sum_nil, cat_i, cat_l, jr_cat]; decide) ?_
    refine jw_aload_n (pc := 25) dX1_led_25 rfl ?_
    refine jw_aload_n (pc := 26) dX1_led_26 rfl ?_
    refine jx_getIs (pc := 27) (jf_X1_131_0.r) rfl dX1_led_27 rfl (is_64 hS) (by decide) (hN.1) ?_
    refine jx_cVE (mi1 := mi_X1_sight) (pc := 30) rfl dX1_led_30 lk_X1_166 rfl fi_X1_sight rfl rfl rfl (by decide) (is_64 hS) (t_X1_sight (t := sn σ 0) hs (by omega)) (by first | decide | omega) rfl rfl (by simp only [List.map_cons, List.map_nil, List.sum_cons, List.sum_nil, cat_i, cat_l, jr_cat]; decide) ?_
    refine jx_cVE (mi1 := mi_X1_unseenAt) (pc := 33) rfl dX1_led_33 lk_X1_206 rfl fi_X1_unseenAt rfl rfl rfl (by decide) (is_64 hS) (t_X1_unseenAt hs (r_at hS h.2.1 hv9 hN) (sgt_sr hs (sn σ 0)) (by omega)) (by first | decide | omega) rfl rfl (by decide) ?_
    refine jw_istore_n (pc := 36) dX1_led_36 (Nat.le_of_ble_eq_true rfl) rfl ?_
    try dsimp only [jput1, jput2, jkill, jclr, jis2_i, jis2_l, jis2_rs, jis2_rn, cond]
    refine jw_iconst (pc := 37) dX1_led_37 ic_0 ?_
    refine jw_istore_n (pc := 38) dX1_led_38 (Nat.le_of_ble_eq_true rfl) rfl ?_
    try dsimp only [jput1, jput2, jkill, jclr, jis2_i, jis2_l, jis2_rs, jis2_rn, cond]
    refine jw_iconst (pc := 39) dX1_led_39 ic_0 ?_
    refine jw_istore (pc := 40) dX1_led_40 (Nat.le_of_ble_eq_true rfl) rfl ?_
    try dsimp only [jput1, jput2, jkill, jclr, jis2_i, jis2_l, jis2_rs, jis2_rn, cond]
    exact J0
def jfl (M M1 : Mm) : Prop := jsm (fun a => ((64 ≤ a ∧ a < 90) ∨ a = 62) ∨ a = 103) M M1 ∧ jm_Z M1 ≤ jm_Z M + 1 ∧ jm_S M1 ≤ jm_S M + 6
theorem t_X0_led {i : Int32} (h : jXx M σ) : jT G mi_X0_led 9 [jr (some 64), .int i, jr (some 103)] M (jPi (fun r M' => jXx M' σ ∧ jfl M M' ∧ ((ledP σ i < 5 ∧ r = 0 ∧ jm_B M' 103 0 = (nI (ledP σ i)).toInt64) ∨ (ledP σ i = 5 ∧ r = 1)))) := by
  have hS := h.1
  refine jT.ofH (h0 := (0, 9, 12, 13)) (ht := []) (by decide) rfl (Nat.le_of_ble_eq_true rfl) ?_
  refine jw_aload_n (pc := 0) dX0_led_0 rfl ?_
  refine jw_iconst (pc := 1) dX0_led_1 ic_0 ?_
  refine jw_aload_n (pc := 2) dX0_led_2 rfl ?_
  refine jw_iload_n (pc := 3) dX0_led_3 rfl ?_
  refine jx_cV (mi1 := mi_X1_led) (pc := 4) rfl dX0_led_4 lk_X0_7 rfl fi_X1_led rfl rfl rfl (by decide) (is_64 hS) (t_X1_led h) (by decide) rfl rfl (by simp only [List.map_cons, List.map_nil, List.sum_cons, List.sum_nil, cat_i, jr_cat]; decide) (fun w M1 q => ?_) (fun b M1 q => ?_)
  rotate_left
  · obtain ⟨q1, q2, ⟨q3, q4⟩ | ⟨q3, a0, q4, q5, q6, q7⟩⟩ := q
    · cases q4
    · cases q4
      refine jx_catch (c0 := 14) (hp := (0, 9, 12, 13)) (nm := "java/util/NoSuchElementException") rfl ⟨by decide, by decide⟩ (by decide) q1395 q1402 q7 q6 q5 (by decide) rfl rfl ?_
      have hS := q1.1
      refine jw_astore_n (pc := 12) dX0_led_12 (Nat.le_of_ble_eq_true rfl) rfl ?_
      refine jw_iconst (pc := 13) dX0_led_13 ic_1 ?_
      refine jw_ireturn (pc := 14) dX0_led_14 rfl rfl ?_
      exact ⟨⟨_, rfl, q1, ⟨q2.1.wk (fun a z => Or.inl z), q2.2⟩, Or.inr ⟨q3, rfl⟩⟩, _, rfl⟩
  obtain ⟨q1, q2, ⟨q3, q4⟩ | ⟨q3, a0, q4, q5, q6, q7⟩⟩ := q
  rotate_left
  · cases q4
  cases q4
  have hS := q1.1
  dsimp only [Option.toList, List.cons_append, List.nil_append]
  refine jw_i2l (pc := 7) dX0_led_7 (rfl) ?_
  refine jx_last (pc := 8) dX0_led_8 (by decide) (ok_103 hS) (nn_103 hS) rfl (by omega) ?_
  refine jw_goto (pc := 9) (tgt := 15) dX0_led_9 (by decide) ?_
  refine jw_iconst (pc := 15) dX0_led_15 ic_0 ?_
  refine jw_ireturn (pc := 16) dX0_led_16 rfl (rfl) ?_
  refine ⟨⟨_, rfl, ?_, ?_, Or.inl ⟨q3, rfl, ?_⟩⟩, _, rfl⟩
  · exact q1.fr (E := fun a => a = 103) (jsm.B rfl) hS (fun a q z => by omega)
  · exact ⟨(q2.1.wk (fun a z => Or.inl z)).tr (jsm.B (Or.inr rfl)), q2.2⟩
  · rw [jB_B, if_pos ⟨rfl, rfl⟩]
theorem lp_mled {M9 : Mm} {w p : Nat} {i : Int32} {V : Vt} {P : Rs → Mm → Prop} (hM : jMm M σ) (hs : jMs M w V 0 0) (hN : jMn M V σ) (hv9 : sv σ = some V) (hkn : p < V 0 1) (hl : ledS σ < 32) (k1 : (ledS σ).testBit p = true → nI (cntN (ledS σ) p) = i → P (.inl (some (.int (nI p)))) M) (ih : ledQ (ledS σ) i p = false → jW G mi_X5_led 9 M9 9 [some (jr (some 90)), some (.int i), some (.int (nI (cntN (ledS σ) (p + 1)))), some (.int (nI (p + 1)))] [] M P) :
    jW G mi_X5_led 9 M9 9 [some (jr (some 90)), some (.int i), some (.int (nI (cntN (ledS σ) p))), some (.int (nI p))] [] M P := by
  have hS := hM.1
  have hw := hs.s
  have hnq := wf_nq hs.w
  have e := ledS_s hv9
  have hs1 := cntN_s (ledS σ) p
  have hcl := cntN_le (ledS σ) p
  refine jw_aload_n (pc := 9) dX5_led_9 rfl ?_
  refine jx_getRs (pc := 10) (jf_X5_380_4.r) rfl dX5_led_10 rfl (is_90 hS) (by decide) (hs.r) ?_
  refine jw_ifnull (pc := 13) (tgt := 57) dX5_led_13 (by decide) (fun h => by cases h) (fun ax h => ?_)
  clear h
  refine jw_iload_n (pc := 16) dX5_led_16 rfl ?_
  refine jw_aload_n (pc := 17) dX5_led_17 rfl ?_
  refine jx_getRs (pc := 18) (jf_X5_380_4.r) rfl dX5_led_18 rfl (is_90 hS) (by decide) (hs.r) ?_
  refine jx_getIs (pc := 21) (jf_X5_221_12.r) rfl dX5_led_21 rfl (wis hw) (by decide) (mi_nq hs.V) ?_
  first | refine jx_icmp_ge (pc := 24) (tgt := 57) dX5_led_24 (by decide) (by omega) (by omega) ?_ ?_ | refine jw_icmp_ge (pc := 24) (tgt := 57) dX5_led_24 (by decide) ?_ ?_
  · intro h_24
    omega
  · intro h_24
    refine jw_aload_n (pc := 27) dX5_led_27 rfl ?_
    refine jx_cVE (mi1 := mi_X5_unseenNow) (pc := 28) rfl dX5_led_28 lk_X5_443 rfl fi_X5_unseenNow rfl rfl rfl (by decide) (is_90 hS) (t_X5_unseenNow hs hN hM.2.1 hv9) (by first | decide | omega) rfl rfl (by decide) ?_
    rw [← e]
    refine jw_iload_n (pc := 31) dX5_led_31 rfl ?_
    refine jx_cSE (mi1 := mi_X5_has) (pc := 32) rfl dX5_led_32 lk_X5_398 rfl fi_X5_has (t_X5_has (by omega) (by omega)) (by first | decide | omega) rfl rfl (by decide) ?_
    first | refine jx_ifb_ne (pc := 35) (tgt := 41) dX5_led_35 (by decide) ?_ ?_ | refine jx_if_ne (pc := 35) (tgt := 41) dX5_led_35 (by decide) (by omega) ?_ ?_ | refine jw_if_ne (pc := 35) (tgt := 41) dX5_led_35 (by decide) ?_ ?_
    · intro h_35
      refine jw_iload_n (pc := 41) dX5_led_41 rfl ?_
      refine jw_iload_n (pc := 42) dX5_led_42 rfl ?_
      refine jw_icmp_ne (pc := 43) (tgt := 48) dX5_led_43 (by decide) ?_ ?_
      · intro h_43
        first | refine jx_iinc (pc := 48) dX5_led_48 rfl rfl ?_ | refine jw_iinc (pc := 48) dX5_led_48 rfl rfl rfl ?_
        try dsimp only [jput1, jkill, jclr, jis2_i, jis2_l, jis2_rs, jis2_rn, cond]
        first | refine jx_iinc (pc := 51) dX5_led_51 rfl rfl ?_ | refine jw_iinc (pc := 51) dX5_led_51 rfl rfl rfl ?_
        try dsimp only [jput1, jkill, jclr, jis2_i, jis2_l, jis2_rs, jis2_rn, cond]
        refine jw_goto (pc := 54) (tgt := 9) dX5_led_54 (by decide) ?_
        refine jW.eq ?_ rfl rfl (ih (by first | exact ledQ_f h_35 | exact ledQ_n h_43))
        rw [hs1, h_35]; rfl
      · intro h_43
        refine jw_iload_n (pc := 46) dX5_led_46 rfl ?_
        refine jw_ireturn (pc := 47) dX5_led_47 rfl (rfl) ?_
        exact k1 h_35 h_43
    · intro h_35
      refine jw_goto (pc := 38) (tgt := 51) dX5_led_38 (by decide) ?_
      first | refine jx_iinc (pc := 51) dX5_led_51 rfl rfl ?_ | refine jw_iinc (pc := 51) dX5_led_51 rfl rfl rfl ?_
      try dsimp only [jput1, jkill, jclr, jis2_i, jis2_l, jis2_rs, jis2_rn, cond]
      refine jw_goto (pc := 54) (tgt := 9) dX5_led_54 (by decide) ?_
      refine jW.eq ?_ rfl rfl (ih (by first | exact ledQ_f h_35 | exact ledQ_n h_43))
      rw [hs1, h_35]; rfl
theorem lp_mled2 {M9 : Mm} {w : Nat} {i : Int32} {V : Vt} {P : Rs → Mm → Prop} {x2 : Option Value} (hs : jMs M w V 0 0) (k1 : P (.inl (some (.int (nI 0)))) (js_I M 90 49 (nI 1))) :
    jW G mi_X5_led 9 M9 9 [some (jr (some 90)), some (.int i), x2, some (.int (nI (V 0 1)))] [] M P := by
  have hS := hs.1
  have hw := hs.s
  have hnq := wf_nq hs.w
  refine jw_aload_n (pc := 9) dX5_led_9 rfl ?_
  refine jx_getRs (pc := 10) (jf_X5_380_4.r) rfl dX5_led_10 rfl (is_90 hS) (by decide) (hs.r) ?_
  refine jw_ifnull (pc := 13) (tgt := 57) dX5_led_13 (by decide) (fun h => by cases h) (fun ax h => ?_)
  clear h
  refine jw_iload_n (pc := 16) dX5_led_16 rfl ?_
  refine jw_aload_n (pc := 17) dX5_led_17 rfl ?_
  refine jx_getRs (pc := 18) (jf_X5_380_4.r) rfl dX5_led_18 rfl (is_90 hS) (by decide) (hs.r) ?_
  refine jx_getIs (pc := 21) (jf_X5_221_12.r) rfl dX5_led_21 rfl (wis hw) (by decide) (mi_nq hs.V) ?_
  first | refine jx_icmp_ge (pc := 24) (tgt := 57) dX5_led_24 (by decide) (by omega) (by omega) ?_ ?_ | refine jw_icmp_ge (pc := 24) (tgt := 57) dX5_led_24 (by decide) ?_ ?_
  · intro h_24
    refine jw_aload_n (pc := 57) dX5_led_57 rfl ?_
    refine jw_iconst (pc := 58) dX5_led_58 ic_1 ?_
    refine jx_putI (pc := 59) jf_X5_56_4 rfl dX5_led_59 rfl rfl (is_90 hS) (by decide) ?_
    refine jw_iconst (pc := 62) dX5_led_62 ic_0 ?_
    refine jw_ireturn (pc := 63) dX5_led_63 rfl (rfl) ?_
    exact k1
  · intro h_24
    omega
theorem t_X5_led {i : Int32} (h : jMm M σ) : jT G mi_X5_led 9 [jr (some 90), .int i] M (jPi (fun r M' => jMm M' σ ∧ jfm M M' ∧ jm_B M' 103 0 = jm_B M 103 0 ∧ ((ledP σ i < 5 ∧ r = nI (ledP σ i) ∧ jm_I M' 90 49 = nI 0) ∨ (ledP σ i = 5 ∧ r = 0 ∧ jm_I M' 90 49 = nI 1)))) := by
  have hS := h.1
  refine jT.of (by decide) rfl (Nat.le_of_ble_eq_true rfl) ?_
  cases hv9 : sv σ with
  | none =>
    have e := ledS_n hv9
    have e2 : ledP σ i = 5 := fst_none (fun j hj => ledQ_f (by rw [e, Nat.zero_testBit]))
    refine jw_aload_n (pc := 0) dX5_led_0 rfl ?_
    refine jw_iconst (pc := 1) dX5_led_1 ic_0 ?_
    refine jx_putI (pc := 2) jf_X5_56_4 rfl dX5_led_2 rfl rfl (is_90 hS) (by decide) ?_
    have hM := mthr (x := nI 0) h
    have hf : jfm M (js_I M 90 49 (nI 0)) := jsm.I (by decide)
    have hB : jm_B (js_I M 90 49 (nI 0)) 103 0 = jm_B M 103 0 := rfl
    generalize js_I M 90 49 (nI 0) = M0 at hM hf hB ⊢
    clear hS
    have hS := hM.1
    refine jw_iconst (pc := 5) dX5_led_5 ic_0 ?_
    refine jw_istore_n (pc := 6) dX5_led_6 (Nat.le_of_ble_eq_true rfl) rfl ?_
    try dsimp only [jput1, jput2, jkill, jclr, jis2_i, jis2_l, jis2_rs, jis2_rn, cond]
    refine jw_iconst (pc := 7) dX5_led_7 ic_0 ?_
    refine jw_istore_n (pc := 8) dX5_led_8 (Nat.le_of_ble_eq_true rfl) rfl ?_
    try dsimp only [jput1, jput2, jkill, jclr, jis2_i, jis2_l, jis2_rs, jis2_rn, cond]
    refine jw_aload_n (pc := 9) dX5_led_9 rfl ?_
    refine jx_getRs (pc := 10) (jf_X5_380_4.r) rfl dX5_led_10 rfl (is_90 hS) (by decide) (hM.no hv9) ?_
    refine jw_ifnull (pc := 13) (tgt := 57) dX5_led_13 (by decide) (fun h => ?_) (fun ax h => by cases h)
    clear h
    refine jw_aload_n (pc := 57) dX5_led_57 rfl ?_
    refine jw_iconst (pc := 58) dX5_led_58 ic_1 ?_
    refine jx_putI (pc := 59) jf_X5_56_4 rfl dX5_led_59 rfl rfl (is_90 hS) (by decide) ?_
    refine jw_iconst (pc := 62) dX5_led_62 ic_0 ?_
    refine jw_ireturn (pc := 63) dX5_led_63 rfl (rfl) ?_
    exact ⟨_, rfl, mthr hM, hf.tr (jsm.I (by decide)), hB, Or.inr ⟨e2, rfl, rfl⟩⟩
  | some V =>
    have e := ledS_s hv9
    have hw9 := (h.2.1.2 V hv9).1
    have hnq := wf_nq hw9
    have hl : ledS σ < 32 := by rw [e]; exact msk5 hnq _
    have hl2 : ∀ j, V 0 1 ≤ j → (ledS σ).testBit j = false := fun j hj => by
      refine Nat.testBit_lt_two_pow (Nat.lt_of_lt_of_le (show ledS σ < 2 ^ V 0 1 by rw [e]; exact msk_lt _ _) (Nat.pow_le_pow_right (n := 2) (by decide) hj))
    refine jw_aload_n (pc := 0) dX5_led_0 rfl ?_
    refine jw_iconst (pc := 1) dX5_led_1 ic_0 ?_
    refine jx_putI (pc := 2) jf_X5_56_4 rfl dX5_led_2 rfl rfl (is_90 hS) (by decide) ?_
    have hM := mthr (x := nI 0) h
    have hf : jfm M (js_I M 90 49 (nI 0)) := jsm.I (by decide)
    have hB : jm_B (js_I M 90 49 (nI 0)) 103 0 = jm_B M 103 0 := rfl
    have hT : jm_I (js_I M 90 49 (nI 0)) 90 49 = nI 0 := rfl
    generalize js_I M 90 49 (nI 0) = M0 at hM hf hB hT ⊢
    clear hS
    have hS := hM.1
    obtain ⟨w, hs, hN⟩ := hM.so hv9
    have hw := hs.s
    have J : ∀ p : Nat, (p ≤ V 0 1 ∧ ∀ j, j < p → ledQ (ledS σ) i j = false) → jW G mi_X5_led 9 M 9 [some (jr (some 90)), some (.int i), some (.int (nI (cntN (ledS σ) p))), some (.int (nI p))] [] M0 (jPi (fun r M' => jMm M' σ ∧ jfm M M' ∧ jm_B M' 103 0 = jm_B M 103 0 ∧ ((ledP σ i < 5 ∧ r = nI (ledP σ i) ∧ jm_I M' 90 49 = nI 0) ∨ (ledP σ i = 5 ∧ r = 0 ∧ jm_I M' 90 49 = nI 1)))) := by
      refine jW.loop _ (fun p => V 0 1 - p) _ (fun _ => []) (fun _ => M0) (fun p hp ih => ?_)
      obtain ⟨hp, h0⟩ := hp
      by_cases hkn : p < V 0 1
      · exact lp_mled hM hs hN hv9 hkn hl (fun q1 q2 => by
          have e2 : ledP σ i = p := fst_hit (by omega) (ledQ_t q1 q2) h0
          exact ⟨_, rfl, hM, hf, hB, Or.inl ⟨by omega, by rw [e2], hT⟩⟩) (fun q => ih (p + 1) ⟨hkn, fun j hj => by
          by_cases e2 : j = p
          · subst e2; exact q
          · exact h0 j (by omega)⟩ (by omega))
      · have hk' : p = V 0 1 := by omega
        subst hk'
        have e2 : ledP σ i = 5 := fst_none (fun j hj => by
          by_cases e3 : j < V 0 1
          · exact h0 j e3
          · exact ledQ_f (hl2 j (by omega)))
        exact lp_mled2 hs (by exact ⟨_, rfl, mthr hM, hf.tr (jsm.I (by decide)), hB, Or.inr ⟨e2, rfl, rfl⟩⟩)
    refine jw_iconst (pc := 5) dX5_led_5 ic_0 ?_
    refine jw_istore_n (pc := 6) dX5_led_6 (Nat.le_of_ble_eq_true rfl) rfl ?_
    try dsimp only [jput1, jput2, jkill, jclr, jis2_i, jis2_l, jis2_rs, jis2_rn, cond]
    refine jw_iconst (pc := 7) dX5_led_7 ic_0 ?_
    refine jw_istore_n (pc := 8) dX5_led_8 (Nat.le_of_ble_eq_true rfl) rfl ?_
    try dsimp only [jput1, jput2, jkill, jclr, jis2_i, jis2_l, jis2_rs, jis2_rn, cond]
    exact J 0 ⟨Nat.zero_le _, fun j hj => absurd hj (Nat.not_lt_zero _)⟩
end JLE
