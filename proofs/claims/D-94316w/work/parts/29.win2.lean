/-! ===== windows of m; towers ===== -/
def jKm (M : Mm) (σ : Sg) (x : Int32) : Rs → Mm → Prop := jPi (fun r M' => r = x ∧ jMm M' σ ∧ jfm M M')
theorem mopen {M : Mm} {w a b : Nat} {V : Vt} (hs : jMs M w V a b) (op : Nat) : jMs (js_I M 90 66 (nI op)) w V op b :=
  ⟨hs.1, hs.r, hs.V.sm (E := fun a => a = 90) (jsm.I rfl) (fun a ha => by omega), hs.w, rfl, hs.f⟩
theorem mclose {M : Mm} {σ : Sg} {x : Int32} (h : jMm M σ) : jMm (js_I (js_I M 90 66 x) 90 66 (nI 0)) σ :=
  h.up (E := fun a => a = 90) ((jsm.I (E := fun a => a = 90) rfl).tr (jsm.I rfl)) h.1 (fun a q1 q2 => by omega) h.2.1 rfl rfl rfl h.2.2.1 ⟨rfl, h.2.2.2.1.2⟩ (fun V hV q => q)
theorem bestK_1 (f : Nat → Nat) : bestK f 1 = 0 := by rw [bestK_s, if_neg (by omega)]; rfl
def plainN (V : Vt) (a r : Nat) : Nat := sumN (V 0 0) (fun b => if plainB V r 0 0 a b then 1 else 0)
theorem plainN_le {V : Vt} (hw : jWf V) (a r : Nat) : plainN V a r ≤ 10 := by
  have := sumN_le (n := V 0 0) (c := 1) (f := fun b => if plainB V r 0 0 a b then 1 else 0) (fun k => by split <;> omega)
  have hn := wf_np hw
  unfold plainN; omega
def towF (V : Vt) (h t : Nat) (p : Nat) : Nat := plainN V p (rangeV V t + h)
def q_tower (σ : Sg) (h t : Int32) : Int32 × Int32 := match sv σ with
  | none => (-1, 1)
  | some V => if isIx 20 h && isIx 200 t then (nI (bestK (towF V (iN h) (iN t)) (V 0 0)), 0) else (-1, 2)
section JWI2
variable {G : Gh} {M : Mm} {σ : Sg}
theorem t_X5_pairsWithout {k t : Nat} {V : Vt} (hM : jMm M σ) (hv9 : sv σ = some V) (hk : k ≤ 10) (ht : t < 2 ^ 30) : jT G mi_X5_pairsWithout 6 [jr (some 90), .int (nI k), .int (nI t)] M (jKm M σ (nI (winF V t k))) := by
  have hS := hM.1
  obtain ⟨w, hs, hN⟩ := hM.so hv9
  have q1 : 2 ^ k ≤ 1024 := p10 hk
  refine jT.of (by decide) rfl (Nat.le_of_ble_eq_true rfl) ?_
  refine jw_aload_n (pc := 0) dX5_pairsWithout_0 rfl ?_
  refine jw_iconst (pc := 1) dX5_pairsWithout_1 ic_1 ?_
  refine jw_iload_n (pc := 2) dX5_pairsWithout_2 rfl ?_
  refine jw_ishl (pc := 3) dX5_pairsWithout_3 ?_
  rw [shl1 (by omega)]
  refine jx_putI (pc := 4) jf_X5_402_4 rfl dX5_pairsWithout_4 rfl rfl (is_90 hS) (by decide) ?_
  refine jw_aload_n (pc := 7) dX5_pairsWithout_7 rfl ?_
  refine jw_iload_n (pc := 8) dX5_pairsWithout_8 rfl ?_
  refine jx_cVE (mi1 := mi_X5_pairsIn) (pc := 9) rfl dX5_pairsWithout_9 lk_X5_531 rfl fi_X5_pairsIn rfl rfl rfl (by decide) (is_90 hS) (t_X5_pairsIn (mopen hs (2 ^ k)) (by omega) (by decide) ht) (by first | decide | omega) rfl rfl (by decide) ?_
  refine jw_istore_n (pc := 12) dX5_pairsWithout_12 (Nat.le_of_ble_eq_true rfl) rfl ?_
  try dsimp only [jput1, jput2, jkill, jclr, jis2_i, jis2_l, jis2_rs, jis2_rn, cond]
  refine jw_aload_n (pc := 13) dX5_pairsWithout_13 rfl ?_
  refine jw_iconst (pc := 14) dX5_pairsWithout_14 ic_0 ?_
  refine jx_putI (pc := 15) jf_X5_402_4 rfl dX5_pairsWithout_15 rfl rfl (is_90 hS) (by decide) ?_
  refine jw_iload_n (pc := 18) dX5_pairsWithout_18 rfl ?_
  refine jw_ireturn (pc := 19) dX5_pairsWithout_19 rfl (rfl) ?_
  exact ⟨_, rfl, rfl, mclose hM, (jsm.I (by decide)).tr (jsm.I (by decide))⟩
theorem t_X5_refusesWindow {t : Int32} {o : Option Vt} (hM : jMm M σ) (ho : sv σ = o) : jE G mi_X5_refusesWindow 4 [jr (some 90), .int t] M (some (.int (windowW o t))) M := by
  have hS := hM.1
  subst ho
  refine jE.of (by decide) rfl (Nat.le_of_ble_eq_true rfl) ?_
  refine jw_aload_n (pc := 0) dX5_refusesWindow_0 rfl ?_
  refine jw_iload_n (pc := 1) dX5_refusesWindow_1 rfl ?_
  refine jx_cVE (mi1 := mi_X5_refusesSteps) (pc := 2) rfl dX5_refusesWindow_2 lk_X5_420 rfl fi_X5_refusesSteps rfl rfl rfl (by decide) (is_90 hS) (t_X5_refusesSteps (o := sv σ) hM rfl) (by first | decide | omega) rfl rfl (by decide) ?_
  refine jw_istore_n (pc := 5) dX5_refusesWindow_5 (Nat.le_of_ble_eq_true rfl) rfl ?_
  try dsimp only [jput1, jput2, jkill, jclr, jis2_i, jis2_l, jis2_rs, jis2_rn, cond]
  refine jw_iload_n (pc := 6) dX5_refusesWindow_6 rfl ?_
  refine jw_if_ne (pc := 7) (tgt := 25) dX5_refusesWindow_7 (by decide) ?_ ?_
  · intro h_7
    refine jw_iload_n (pc := 25) dX5_refusesWindow_25 rfl ?_
    refine jw_ireturn (pc := 26) dX5_refusesWindow_26 rfl (rfl) ?_
    refine ⟨?_, rfl⟩
    first
      | (rw [windowW_n h_7]; done)
      | (rw [h_7, hv9, windowW_v h200, if_neg (by omega)]; done)
      | (rw [hv9, windowW_v h200, if_pos (by omega)]; rfl)
  · intro h_7
    obtain ⟨V, kt, hv9, hkt, rfl⟩ := stepW_0 h_7
    obtain ⟨w, hs, hN⟩ := hM.so hv9
    have hw := hs.s
    have hnw := wf_nw hs.w
    have h200 : isIx 200 (nI kt) = true := by rw [isIx_nI (by omega)]; exact decide_eq_true hkt
    refine jw_aload_n (pc := 10) dX5_refusesWindow_10 rfl ?_
    refine jx_getRs (pc := 11) (jf_X5_380_4.r) rfl dX5_refusesWindow_11 rfl (is_90 hS) (by decide) (hs.r) ?_
    refine jx_getIs (pc := 14) (jf_X5_289_12.r) rfl dX5_refusesWindow_14 rfl (wis hw) (by decide) (mi_nw hs.V) ?_
    first | refine jx_ifb_ne (pc := 17) (tgt := 25) dX5_refusesWindow_17 (by decide) ?_ ?_ | refine jx_if_ne (pc := 17) (tgt := 25) dX5_refusesWindow_17 (by decide) (by omega) ?_ ?_ | refine jw_if_ne (pc := 17) (tgt := 25) dX5_refusesWindow_17 (by decide) ?_ ?_
    · intro h_17
      refine jw_iload_n (pc := 25) dX5_refusesWindow_25 rfl ?_
      refine jw_ireturn (pc := 26) dX5_refusesWindow_26 rfl (rfl) ?_
      refine ⟨?_, rfl⟩
      first
        | (rw [windowW_n h_7]; done)
        | (rw [h_7, hv9, windowW_v h200, if_neg (by omega)]; done)
        | (rw [hv9, windowW_v h200, if_pos (by omega)]; rfl)
    · intro h_17
      refine jw_bipush (pc := 20) dX5_refusesWindow_20 bp_6 ?_
      refine jw_goto (pc := 22) (tgt := 26) dX5_refusesWindow_22 (by decide) ?_
      refine jw_ireturn (pc := 26) dX5_refusesWindow_26 rfl (rfl) ?_
      refine ⟨?_, rfl⟩
      first
        | (rw [windowW_n h_7]; done)
        | (rw [h_7, hv9, windowW_v h200, if_neg (by omega)]; done)
        | (rw [hv9, windowW_v h200, if_pos (by omega)]; rfl)
theorem t_X5_windowIn {t : Nat} {V : Vt} (hM : jMm M σ) (hv9 : sv σ = some V) (ht : t < 2 ^ 30) (h1 : 1 ≤ V 0 3) : jT G mi_X5_windowIn 7 [jr (some 90), .int (nI t)] M (jKm M σ (nI (winV V t))) := by
  have hS := hM.1
  have hnw := wf_nw (hM.2.1.2 V hv9).1
  refine jT.of (by decide) rfl (Nat.le_of_ble_eq_true rfl) ?_
  have hb : ∀ k, k ≤ V 0 3 → bestK (winF V t) k ≤ 10 := fun k hk => by have := bestK_le (winF V t) k; omega
  have hf9 : ∀ k, winF V t k ≤ 100 := fun k => pairs_le (hM.2.1.2 V hv9).1 _ _ _
  have J : ∀ x : Nat × Mm, ((1 ≤ x.1 ∧ x.1 ≤ V 0 3) ∧ jMm x.2 σ ∧ jfm M x.2) → jW G mi_X5_windowIn 7 M 4 [some (jr (some 90)), some (.int (nI t)), some (.int (nI (bestK (winF V t) x.1))), some (.int (nI x.1))] [] x.2 (jKm M σ (nI (winV V t))) := by
    refine jW.loop (σ := Nat × Mm) _ (fun x => V 0 3 - x.1) _ (fun _ => []) (fun x => x.2) (fun x hI ih => ?_)
    obtain ⟨k, M1⟩ := x
    obtain ⟨⟨hk1, hk2⟩, hM1, hf1⟩ := hI
    dsimp only at hk1 hk2 hM1 hf1 ih ⊢
    have hS := hM1.1
    obtain ⟨w, hs, hN⟩ := hM1.so hv9
    have hw := hs.s
    have hbk := hb k hk2
    by_cases hkn : k < V 0 3
    · have h9 := hf9 k
      have h8 := hf9 (bestK (winF V t) k)
      refine jw_iload_n (pc := 4) dX5_windowIn_4 rfl ?_
      refine jw_aload_n (pc := 5) dX5_windowIn_5 rfl ?_
      refine jx_getRs (pc := 6) (jf_X5_380_4.r) rfl dX5_windowIn_6 rfl (is_90 hS) (by decide) (hs.r) ?_
      refine jx_getIs (pc := 9) (jf_X5_289_12.r) rfl dX5_windowIn_9 rfl (wis hw) (by decide) (mi_nw hs.V) ?_
      first | refine jx_icmp_ge (pc := 12) (tgt := 38) dX5_windowIn_12 (by decide) (by omega) (by omega) ?_ ?_ | refine jw_icmp_ge (pc := 12) (tgt := 38) dX5_windowIn_12 (by decide) ?_ ?_
      · intro h_12
        omega
      · intro h_12
        refine jw_aload_n (pc := 15) dX5_windowIn_15 rfl ?_
        refine jw_iload_n (pc := 16) dX5_windowIn_16 rfl ?_
        refine jw_iload_n (pc := 17) dX5_windowIn_17 rfl ?_
        refine jx_cVi (mi1 := mi_X5_pairsWithout) (pc := 18) rfl dX5_windowIn_18 lk_X5_534 rfl fi_X5_pairsWithout rfl rfl rfl (by decide) (is_90 hS) (t_X5_pairsWithout hM1 hv9 (by omega) (by omega)) (by first | decide | omega) rfl rfl (by decide) ?_
        intro x_18 M_18 q_18
        obtain ⟨e1, hM2, hf2⟩ := q_18
        subst e1
        have hS := hM2.1
        refine jw_aload_n (pc := 21) dX5_windowIn_21 rfl ?_
        refine jw_iload_n (pc := 22) dX5_windowIn_22 rfl ?_
        refine jw_iload_n (pc := 23) dX5_windowIn_23 rfl ?_
        refine jx_cVi (mi1 := mi_X5_pairsWithout) (pc := 24) rfl dX5_windowIn_24 lk_X5_534 rfl fi_X5_pairsWithout rfl rfl rfl (by decide) (is_90 hS) (t_X5_pairsWithout hM2 hv9 hbk (by omega)) (by first | decide | omega) rfl rfl (by simp only [List.map_cons, List.map_nil, List.sum_cons, List.sum_nil, Value.category]; decide) ?_
        intro x_24 M_24 q_24
        obtain ⟨e1, hM3, hf3⟩ := q_24
        subst e1
        first | refine jx_icmp_le (pc := 27) (tgt := 32) dX5_windowIn_27 (by decide) (by omega) (by omega) ?_ ?_ | refine jw_icmp_le (pc := 27) (tgt := 32) dX5_windowIn_27 (by decide) ?_ ?_
        · intro h_27
          first | refine jx_iinc (pc := 32) dX5_windowIn_32 rfl rfl ?_ | refine jw_iinc (pc := 32) dX5_windowIn_32 rfl rfl rfl ?_
          try dsimp only [jput1, jkill, jclr, jis2_i, jis2_l, jis2_rs, jis2_rn, cond]
          refine jw_goto (pc := 35) (tgt := 4) dX5_windowIn_35 (by decide) ?_
          refine jW.eq ?_ rfl rfl (ih (k + 1, M_24) ⟨⟨by dsimp only; omega, by dsimp only; omega⟩, hM3, hf1.tr (hf2.tr hf3)⟩ (by dsimp only; omega))
          dsimp only
          rw [bestK_s]
          first | rw [if_pos ⟨hk1, by omega⟩] | rw [if_neg (by omega)]
        · intro h_27
          refine jw_iload_n (pc := 30) dX5_windowIn_30 rfl ?_
          refine jw_istore_n (pc := 31) dX5_windowIn_31 (Nat.le_of_ble_eq_true rfl) rfl ?_
          try dsimp only [jput1, jput2, jkill, jclr, jis2_i, jis2_l, jis2_rs, jis2_rn, cond]
          first | refine jx_iinc (pc := 32) dX5_windowIn_32 rfl rfl ?_ | refine jw_iinc (pc := 32) dX5_windowIn_32 rfl rfl rfl ?_
          try dsimp only [jput1, jkill, jclr, jis2_i, jis2_l, jis2_rs, jis2_rn, cond]
          refine jw_goto (pc := 35) (tgt := 4) dX5_windowIn_35 (by decide) ?_
          refine jW.eq ?_ rfl rfl (ih (k + 1, M_24) ⟨⟨by dsimp only; omega, by dsimp only; omega⟩, hM3, hf1.tr (hf2.tr hf3)⟩ (by dsimp only; omega))
          dsimp only
          rw [bestK_s]
          first | rw [if_pos ⟨hk1, by omega⟩] | rw [if_neg (by omega)]
    · have hk' : k = V 0 3 := by omega
      subst hk'
      refine jw_iload_n (pc := 4) dX5_windowIn_4 rfl ?_
      refine jw_aload_n (pc := 5) dX5_windowIn_5 rfl ?_
      refine jx_getRs (pc := 6) (jf_X5_380_4.r) rfl dX5_windowIn_6 rfl (is_90 hS) (by decide) (hs.r) ?_
      refine jx_getIs (pc := 9) (jf_X5_289_12.r) rfl dX5_windowIn_9 rfl (wis hw) (by decide) (mi_nw hs.V) ?_
      first | refine jx_icmp_ge (pc := 12) (tgt := 38) dX5_windowIn_12 (by decide) (by omega) (by omega) ?_ ?_ | refine jw_icmp_ge (pc := 12) (tgt := 38) dX5_windowIn_12 (by decide) ?_ ?_
      · intro h_12
        refine jw_iload_n (pc := 38) dX5_windowIn_38 rfl ?_
        refine jw_ireturn (pc := 39) dX5_windowIn_39 rfl (rfl) ?_
        exact ⟨_, rfl, rfl, hM1, hf1⟩
      · intro h_12
        omega
  refine jw_iconst (pc := 0) dX5_windowIn_0 ic_0 ?_
  refine jw_istore_n (pc := 1) dX5_windowIn_1 (Nat.le_of_ble_eq_true rfl) rfl ?_
  try dsimp only [jput1, jput2, jkill, jclr, jis2_i, jis2_l, jis2_rs, jis2_rn, cond]
  refine jw_iconst (pc := 2) dX5_windowIn_2 ic_1 ?_
  refine jw_istore_n (pc := 3) dX5_windowIn_3 (Nat.le_of_ble_eq_true rfl) rfl ?_
  try dsimp only [jput1, jput2, jkill, jclr, jis2_i, jis2_l, jis2_rs, jis2_rn, cond]
  exact J (1, M) ⟨⟨Nat.le_refl _, h1⟩, hM, jsm.rf⟩
theorem t_X5_window {t : Int32} (h : jMm M σ) : jT G mi_X5_window 9 [jr (some 90), .int t] M (jQm M σ (q_window σ t)) := by
  have hS := h.1
  refine jT.of (by decide) rfl (Nat.le_of_ble_eq_true rfl) ?_
  refine jw_aload_n (pc := 0) dX5_window_0 rfl ?_
  refine jw_iconst (pc := 1) dX5_window_1 ic_0 ?_
  refine jx_putI (pc := 2) jf_X5_56_4 rfl dX5_window_2 rfl rfl (is_90 hS) (by decide) ?_
  have hM := mthr (x := nI 0) h
  have hf : jfm M (js_I M 90 49 (nI 0)) := jsm.I (by decide)
  generalize js_I M 90 49 (nI 0) = M0 at hM hf ⊢
  clear hS
  have hS := hM.1
  refine jw_aload_n (pc := 5) dX5_window_5 rfl ?_
  refine jw_iload_n (pc := 6) dX5_window_6 rfl ?_
  refine jx_cVE (mi1 := mi_X5_refusesWindow) (pc := 7) rfl dX5_window_7 lk_X5_537 rfl fi_X5_refusesWindow rfl rfl rfl (by decide) (is_90 hS) (t_X5_refusesWindow (o := sv σ) hM rfl) (by first | decide | omega) rfl rfl (by decide) ?_
  refine jw_istore_n (pc := 10) dX5_window_10 (Nat.le_of_ble_eq_true rfl) rfl ?_
  try dsimp only [jput1, jput2, jkill, jclr, jis2_i, jis2_l, jis2_rs, jis2_rn, cond]
  refine jw_iload_n (pc := 11) dX5_window_11 rfl ?_
  refine jw_if_le (pc := 12) (tgt := 23) dX5_window_12 (by decide) ?_ ?_
  · intro h_12
    have h_12 := windowW_le h_12
    obtain ⟨V, kt, hv9, hkt, rfl, hw1⟩ := windowW_0 h_12
    refine jw_aload_n (pc := 23) dX5_window_23 rfl ?_
    refine jw_aload_n (pc := 24) dX5_window_24 rfl ?_
    refine jw_iload_n (pc := 25) dX5_window_25 rfl ?_
    refine jx_cVi (mi1 := mi_X5_windowIn) (pc := 26) rfl dX5_window_26 lk_X5_540 rfl fi_X5_windowIn rfl rfl rfl (by decide) (is_90 hS) (t_X5_windowIn hM hv9 (t := kt) (by omega) hw1) (by first | decide | omega) rfl rfl (by simp only [List.map_cons, List.map_nil, List.sum_cons, List.sum_nil, cat_i, cat_l, jr_cat]; decide) ?_
    intro x_26 M_26 q_26
    obtain ⟨e1, hM2, hf2⟩ := q_26
    subst e1
    have hS := hM2.1
    refine jw_iconst (pc := 29) dX5_window_29 ic_0 ?_
    refine jx_cVi (mi1 := mi_X5_told) (pc := 30) rfl dX5_window_30 lk_X5_66 rfl fi_X5_told rfl rfl rfl (by decide) (is_90 hS) (t_X5_told0 hM2) (by first | decide | omega) rfl rfl (by decide) ?_
    intro x_30 M_30 q_30
    refine jw_ireturn (pc := 33) dX5_window_33 rfl (rfl) ?_
    first
      | (refine qm ?_ hf q_17; unfold q_window; rw [if_neg (fun e => h_12 (by rw [e]; decide +kernel))])
      | (refine qm ?_ (hf.tr hf2) q_30; unfold q_window; rw [if_pos h_12, vv_s hv9, iN_n (by omega)])
  · intro h_12
    refine jw_aload_n (pc := 15) dX5_window_15 rfl ?_
    refine jw_iload_n (pc := 16) dX5_window_16 rfl ?_
    refine jx_cVi (mi1 := mi_X5_refused) (pc := 17) rfl dX5_window_17 lk_X5_62 rfl fi_X5_refused rfl rfl rfl (by decide) (is_90 hS) (t_X5_refused hM) (by first | decide | omega) rfl rfl (by decide) ?_
    intro x_17 M_17 q_17
    refine jw_goto (pc := 20) (tgt := 33) dX5_window_20 (by decide) ?_
    refine jw_ireturn (pc := 33) dX5_window_33 rfl (rfl) ?_
    first
      | (refine qm ?_ hf q_17; unfold q_window; rw [if_neg (fun e => h_12 (by rw [e]; decide +kernel))])
      | (refine qm ?_ (hf.tr hf2) q_30; unfold q_window; rw [if_pos h_12, vv_s hv9, iN_n (by omega)])
theorem t_X5_frees {t : Int32} (h : jMm M σ) : jT G mi_X5_frees 9 [jr (some 90), .int t] M (jQm M σ (q_frees σ t)) := by
  have hS := h.1
  refine jT.of (by decide) rfl (Nat.le_of_ble_eq_true rfl) ?_
  refine jw_aload_n (pc := 0) dX5_frees_0 rfl ?_
  refine jw_iconst (pc := 1) dX5_frees_1 ic_0 ?_
  refine jx_putI (pc := 2) jf_X5_56_4 rfl dX5_frees_2 rfl rfl (is_90 hS) (by decide) ?_
  have hM := mthr (x := nI 0) h
  have hf : jfm M (js_I M 90 49 (nI 0)) := jsm.I (by decide)
  generalize js_I M 90 49 (nI 0) = M0 at hM hf ⊢
  clear hS
  have hS := hM.1
  refine jw_aload_n (pc := 5) dX5_frees_5 rfl ?_
  refine jw_iload_n (pc := 6) dX5_frees_6 rfl ?_
  refine jx_cVE (mi1 := mi_X5_refusesWindow) (pc := 7) rfl dX5_frees_7 lk_X5_537 rfl fi_X5_refusesWindow rfl rfl rfl (by decide) (is_90 hS) (t_X5_refusesWindow (o := sv σ) hM rfl) (by first | decide | omega) rfl rfl (by decide) ?_
  refine jw_istore_n (pc := 10) dX5_frees_10 (Nat.le_of_ble_eq_true rfl) rfl ?_
  try dsimp only [jput1, jput2, jkill, jclr, jis2_i, jis2_l, jis2_rs, jis2_rn, cond]
  refine jw_iload_n (pc := 11) dX5_frees_11 rfl ?_
  refine jw_if_le (pc := 12) (tgt := 23) dX5_frees_12 (by decide) ?_ ?_
  · intro h_12
    have h_12 := windowW_le h_12
    obtain ⟨V, kt, hv9, hkt, rfl, hw1⟩ := windowW_0 h_12
    have hnw := wf_nw (hM.2.1.2 V hv9).1
    have hbk : winV V kt ≤ 10 := by have := bestK_le (winF V kt) (V 0 3); unfold winV; omega
    refine jw_aload_n (pc := 23) dX5_frees_23 rfl ?_
    refine jw_aload_n (pc := 24) dX5_frees_24 rfl ?_
    refine jw_aload_n (pc := 25) dX5_frees_25 rfl ?_
    refine jw_iload_n (pc := 26) dX5_frees_26 rfl ?_
    refine jx_cVi (mi1 := mi_X5_windowIn) (pc := 27) rfl dX5_frees_27 lk_X5_540 rfl fi_X5_windowIn rfl rfl rfl (by decide) (is_90 hS) (t_X5_windowIn hM hv9 (t := kt) (by omega) hw1) (by first | decide | omega) rfl rfl (by simp only [List.map_cons, List.map_nil, List.sum_cons, List.sum_nil, cat_i, cat_l, jr_cat]; decide) ?_
    intro x_27 M_27 q_27
    obtain ⟨e1, hM2, hf2⟩ := q_27
    subst e1
    have hS := hM2.1
    refine jw_iload_n (pc := 30) dX5_frees_30 rfl ?_
    refine jx_cVi (mi1 := mi_X5_pairsWithout) (pc := 31) rfl dX5_frees_31 lk_X5_534 rfl fi_X5_pairsWithout rfl rfl rfl (by decide) (is_90 hS) (t_X5_pairsWithout hM2 hv9 hbk (by omega)) (by first | decide | omega) rfl rfl (by simp only [List.map_cons, List.map_nil, List.sum_cons, List.sum_nil, cat_i, cat_l, jr_cat]; decide) ?_
    intro x_31 M_31 q_31
    obtain ⟨e1, hM3, hf3⟩ := q_31
    subst e1
    have hS := hM3.1
    obtain ⟨w, hs, hN⟩ := hM3.so hv9
    refine jw_aload_n (pc := 34) dX5_frees_34 rfl ?_
    refine jw_iload_n (pc := 35) dX5_frees_35 rfl ?_
    refine jx_cVE (mi1 := mi_X5_pairsIn) (pc := 36) rfl dX5_frees_36 lk_X5_531 rfl fi_X5_pairsIn rfl rfl rfl (by decide) (is_90 hS) (t_X5_pairsIn hs (by decide) (by decide) (by omega)) (by first | decide | omega) rfl rfl (by simp only [List.map_cons, List.map_nil, List.sum_cons, List.sum_nil, cat_i, cat_l, jr_cat]; decide) ?_
    refine jw_isub (pc := 39) dX5_frees_39 ?_
    refine jw_iconst (pc := 40) dX5_frees_40 ic_0 ?_
    refine jx_cVi (mi1 := mi_X5_told) (pc := 41) rfl dX5_frees_41 lk_X5_66 rfl fi_X5_told rfl rfl rfl (by decide) (is_90 hS) (t_X5_told0 hM3) (by first | decide | omega) rfl rfl (by decide) ?_
    intro x_41 M_41 q_41
    refine jw_ireturn (pc := 44) dX5_frees_44 rfl (rfl) ?_
    first
      | (refine qm ?_ hf q_17; unfold q_frees; rw [if_neg (fun e => h_12 (by rw [e]; decide +kernel))])
      | (refine qm ?_ (hf.tr (hf2.tr hf3)) q_41; unfold q_frees; rw [if_pos h_12, vv_s hv9, iN_n (by omega)])
  · intro h_12
    refine jw_aload_n (pc := 15) dX5_frees_15 rfl ?_
    refine jw_iload_n (pc := 16) dX5_frees_16 rfl ?_
    refine jx_cVi (mi1 := mi_X5_refused) (pc := 17) rfl dX5_frees_17 lk_X5_62 rfl fi_X5_refused rfl rfl rfl (by decide) (is_90 hS) (t_X5_refused hM) (by first | decide | omega) rfl rfl (by decide) ?_
    intro x_17 M_17 q_17
    refine jw_goto (pc := 20) (tgt := 44) dX5_frees_20 (by decide) ?_
    refine jw_ireturn (pc := 44) dX5_frees_44 rfl (rfl) ?_
    first
      | (refine qm ?_ hf q_17; unfold q_frees; rw [if_neg (fun e => h_12 (by rw [e]; decide +kernel))])
      | (refine qm ?_ (hf.tr (hf2.tr hf3)) q_41; unfold q_frees; rw [if_pos h_12, vv_s hv9, iN_n (by omega)])
theorem t_X1_plainFrom {a r v : Nat} {V : Vt} (hs : jXs M v V) (ha : a < V 0 0) (hr : r < 2 ^ 30) : jE G mi_X1_plainFrom 3 [jr (some 64), .int (nI a), .int (nI r)] M (some (.int (nI (plainN V a r)))) M := by
  have hS := hs.1
  have hv := hs.s
  have hn := wf_np hs.w
  refine jE.of (by decide) rfl (Nat.le_of_ble_eq_true rfl) ?_
  have J : ∀ k : Nat, k ≤ V 0 0 → jW G mi_X1_plainFrom 3 M 5 [some (jr (some 64)), some (.int (nI a)), some (.int (nI r)), some (.int (nI (sumN k (fun b => if plainB V r 0 0 a b then 1 else 0)))), some (.int (nI k))] [] M (fun r' M' => r' = .inl (some (.int (nI (plainN V a r)))) ∧ M' = M) := by
    refine jW.loop _ (fun k => V 0 0 - k) _ (fun _ => []) (fun _ => M) (fun k hk ih => ?_)
    by_cases hkn : k < V 0 0
    · have hdx : distV V a k < 2 ^ 31 := by
        obtain ⟨x1, x2, -⟩ := wf_pl hs.w ha
        obtain ⟨y1, y2, -⟩ := wf_pl hs.w hkn
        unfold distV
        have := adist_le x1 y1
        have := adist_le x2 y2
        exact Nat.max_lt.mpr ⟨by omega, by omega⟩
      have J57 : jW G mi_X1_plainFrom 3 M 57 [some (jr (some 64)), some (.int (nI a)), some (.int (nI r)), some (.int (nI (sumN k (fun b => if plainB V r 0 0 a b then 1 else 0)))), some (.int (nI k))] [.int (jb (plainB V r 0 0 a k)), .int (nI (sumN k (fun b => if plainB V r 0 0 a b then 1 else 0)))] M (fun r' M' => r' = .inl (some (.int (nI (plainN V a r)))) ∧ M' = M) := by
        refine jW.eq rfl (show .int (nI (if plainB V r 0 0 a k then 1 else 0)) :: _ = _ by cases plainB V r 0 0 a k <;> rfl) rfl ?_
        first | refine jx_iadd (pc := 57) dX1_plainFrom_57 ?_ | refine jw_iadd (pc := 57) dX1_plainFrom_57 ?_
        refine jw_istore_n (pc := 58) dX1_plainFrom_58 (Nat.le_of_ble_eq_true rfl) rfl ?_
        try dsimp only [jput1, jput2, jkill, jclr, jis2_i, jis2_l, jis2_rs, jis2_rn, cond]
        first | refine jx_iinc (pc := 59) dX1_plainFrom_59 rfl rfl ?_ | refine jw_iinc (pc := 59) dX1_plainFrom_59 rfl rfl rfl ?_
        try dsimp only [jput1, jkill, jclr, jis2_i, jis2_l, jis2_rs, jis2_rn, cond]
        refine jw_goto (pc := 62) (tgt := 5) dX1_plainFrom_62 (by decide) ?_
        exact ih (k + 1) hkn (by omega)
      refine jw_iload (pc := 5) dX1_plainFrom_5 rfl ?_
      refine jw_aload_n (pc := 7) dX1_plainFrom_7 rfl ?_
      refine jx_getRs (pc := 8) (jf_X1_109_0.r) rfl dX1_plainFrom_8 rfl (is_64 hS) (by decide) (hs.r) ?_
      refine jx_getIs (pc := 11) (jf_X1_150_5.r) rfl dX1_plainFrom_11 rfl (vis hv) (by decide) (xi_np hs.V) ?_
      first | refine jx_icmp_ge (pc := 14) (tgt := 65) dX1_plainFrom_14 (by decide) (by omega) (by omega) ?_ ?_ | refine jw_icmp_ge (pc := 14) (tgt := 65) dX1_plainFrom_14 (by decide) ?_ ?_
      · intro h_14
        omega
      · intro h_14
        refine jw_iload_n (pc := 17) dX1_plainFrom_17 rfl ?_
        refine jw_iload (pc := 18) dX1_plainFrom_18 rfl ?_
        refine jw_iload_n (pc := 20) dX1_plainFrom_20 rfl ?_
        first | refine jx_icmp_eq (pc := 21) (tgt := 56) dX1_plainFrom_21 (by decide) (by omega) (by omega) ?_ ?_ | refine jw_icmp_eq (pc := 21) (tgt := 56) dX1_plainFrom_21 (by decide) ?_ ?_
        · intro h_21
          refine jw_iconst (pc := 56) dX1_plainFrom_56 ic_0 ?_
          refine jw_ff ?_ J57; first | (simp_all [plainB]; done) | (simp_all [plainB]; omega)
        · intro h_21
          refine jw_aload_n (pc := 24) dX1_plainFrom_24 rfl ?_
          refine jx_getRs (pc := 25) (jf_X1_109_0.r) rfl dX1_plainFrom_25 rfl (is_64 hS) (by decide) (hs.r) ?_
          refine jw_iload_n (pc := 28) dX1_plainFrom_28 rfl ?_
          refine jw_iload (pc := 29) dX1_plainFrom_29 rfl ?_
          refine jx_cVE (mi1 := mi_X6_far) (pc := 31) rfl dX1_plainFrom_31 lk_X1_384 rfl fi_X6_far rfl rfl rfl (by decide) (vis hv) (t_X6_far hs.V hs.w ha hkn) (by first | decide | omega) rfl rfl (by simp only [List.map_cons, List.map_nil, List.sum_cons, List.sum_nil, Value.category]; decide) ?_
          refine jw_iload_n (pc := 34) dX1_plainFrom_34 rfl ?_
          first | refine jx_icmp_gt (pc := 35) (tgt := 56) dX1_plainFrom_35 (by decide) (by omega) (by omega) ?_ ?_ | refine jw_icmp_gt (pc := 35) (tgt := 56) dX1_plainFrom_35 (by decide) ?_ ?_
          · intro h_35
            refine jw_iconst (pc := 56) dX1_plainFrom_56 ic_0 ?_
            refine jw_ff ?_ J57; first | (simp_all [plainB]; done) | (simp_all [plainB]; omega)
          · intro h_35
            refine jw_aload_n (pc := 38) dX1_plainFrom_38 rfl ?_
            refine jx_getRs (pc := 39) (jf_X1_109_0.r) rfl dX1_plainFrom_39 rfl (is_64 hS) (by decide) (hs.r) ?_
            refine jw_iload_n (pc := 42) dX1_plainFrom_42 rfl ?_
            refine jw_iload (pc := 43) dX1_plainFrom_43 rfl ?_
            refine jw_iconst (pc := 45) dX1_plainFrom_45 ic_0 ?_
            refine jx_cVE (mi1 := mi_X6_isWalled) (pc := 46) rfl dX1_plainFrom_46 lk_X1_387 rfl fi_X6_isWalled rfl rfl rfl (by decide) (vis hv) (t_X6_isWalled (op := 0) hs.V hs.w (by decide) ha hkn) (by first | decide | omega) rfl rfl (by simp only [List.map_cons, List.map_nil, List.sum_cons, List.sum_nil, Value.category]; decide) ?_
            first | refine jx_ifb_ne (pc := 49) (tgt := 56) dX1_plainFrom_49 (by decide) ?_ ?_ | refine jx_if_ne (pc := 49) (tgt := 56) dX1_plainFrom_49 (by decide) (by omega) ?_ ?_ | refine jw_if_ne (pc := 49) (tgt := 56) dX1_plainFrom_49 (by decide) ?_ ?_
            · intro h_49
              refine jw_iconst (pc := 56) dX1_plainFrom_56 ic_0 ?_
              refine jw_ff ?_ J57; first | (simp_all [plainB]; done) | (simp_all [plainB]; omega)
            · intro h_49
              refine jw_iconst (pc := 52) dX1_plainFrom_52 ic_1 ?_
              refine jw_goto (pc := 53) (tgt := 57) dX1_plainFrom_53 (by decide) ?_
              refine jw_tt ?_ J57; simp_all [plainB]; omega
    · have hk' : k = V 0 0 := by omega
      subst hk'
      refine jw_iload (pc := 5) dX1_plainFrom_5 rfl ?_
      refine jw_aload_n (pc := 7) dX1_plainFrom_7 rfl ?_
      refine jx_getRs (pc := 8) (jf_X1_109_0.r) rfl dX1_plainFrom_8 rfl (is_64 hS) (by decide) (hs.r) ?_
      refine jx_getIs (pc := 11) (jf_X1_150_5.r) rfl dX1_plainFrom_11 rfl (vis hv) (by decide) (xi_np hs.V) ?_
      first | refine jx_icmp_ge (pc := 14) (tgt := 65) dX1_plainFrom_14 (by decide) (by omega) (by omega) ?_ ?_ | refine jw_icmp_ge (pc := 14) (tgt := 65) dX1_plainFrom_14 (by decide) ?_ ?_
      · intro h_14
        refine jw_iload_n (pc := 65) dX1_plainFrom_65 rfl ?_
        refine jw_ireturn (pc := 66) dX1_plainFrom_66 rfl (rfl) ?_
        exact ⟨rfl, rfl⟩
      · intro h_14
        omega
  refine jw_iconst (pc := 0) dX1_plainFrom_0 ic_0 ?_
  refine jw_istore_n (pc := 1) dX1_plainFrom_1 (Nat.le_of_ble_eq_true rfl) rfl ?_
  try dsimp only [jput1, jput2, jkill, jclr, jis2_i, jis2_l, jis2_rs, jis2_rn, cond]
  refine jw_iconst (pc := 2) dX1_plainFrom_2 ic_0 ?_
  refine jw_istore (pc := 3) dX1_plainFrom_3 (Nat.le_of_ble_eq_true rfl) rfl ?_
  try dsimp only [jput1, jput2, jkill, jclr, jis2_i, jis2_l, jis2_rs, jis2_rn, cond]
  exact J 0 (Nat.zero_le _)
theorem t_X5_plainTo {a r w : Nat} {V : Vt} (hs : jMs M w V 0 0) (ha : a < V 0 0) (hr : r < 2 ^ 30) : jE G mi_X5_plainTo 3 [jr (some 90), .int (nI a), .int (nI r)] M (some (.int (nI (plainN V a r)))) M := by
  have hS := hs.1
  have hw := hs.s
  have hn := wf_np hs.w
  refine jE.of (by decide) rfl (Nat.le_of_ble_eq_true rfl) ?_
  have J : ∀ k : Nat, k ≤ V 0 0 → jW G mi_X5_plainTo 3 M 5 [some (jr (some 90)), some (.int (nI a)), some (.int (nI r)), some (.int (nI (sumN k (fun b => if plainB V r 0 0 a b then 1 else 0)))), some (.int (nI k))] [] M (fun r' M' => r' = .inl (some (.int (nI (plainN V a r)))) ∧ M' = M) := by
    refine jW.loop _ (fun k => V 0 0 - k) _ (fun _ => []) (fun _ => M) (fun k hk ih => ?_)
    by_cases hkn : k < V 0 0
    · have hkn' := hkn
      refine jw_iload (pc := 5) dX5_plainTo_5 rfl ?_
      refine jw_aload_n (pc := 7) dX5_plainTo_7 rfl ?_
      refine jx_getRs (pc := 8) (jf_X5_380_4.r) rfl dX5_plainTo_8 rfl (is_90 hS) (by decide) (hs.r) ?_
      refine jx_getIs (pc := 11) (jf_X5_218_12.r) rfl dX5_plainTo_11 rfl (wis hw) (by decide) (mi_np hs.V) ?_
      first | refine jx_icmp_ge (pc := 14) (tgt := 42) dX5_plainTo_14 (by decide) (by omega) (by omega) ?_ ?_ | refine jw_icmp_ge (pc := 14) (tgt := 42) dX5_plainTo_14 (by decide) ?_ ?_
      · intro h_14
        omega
      · intro h_14
        refine jw_iload_n (pc := 17) dX5_plainTo_17 rfl ?_
        refine jw_aload_n (pc := 18) dX5_plainTo_18 rfl ?_
        refine jw_iload_n (pc := 19) dX5_plainTo_19 rfl ?_
        refine jw_iload (pc := 20) dX5_plainTo_20 rfl ?_
        refine jw_iload_n (pc := 22) dX5_plainTo_22 rfl ?_
        refine jx_cVE (mi1 := mi_X5_isPlain) (pc := 23) rfl dX5_plainTo_23 lk_X5_408 rfl fi_X5_isPlain rfl rfl rfl (by decide) (is_90 hS) (t_X5_isPlain hs (by decide) (by decide) hr ha hkn) (by first | decide | omega) rfl rfl (by simp only [List.map_cons, List.map_nil, List.sum_cons, List.sum_nil, Value.category]; decide) ?_
        first | refine jx_ifb_eq (pc := 26) (tgt := 33) dX5_plainTo_26 (by decide) ?_ ?_ | refine jx_if_eq (pc := 26) (tgt := 33) dX5_plainTo_26 (by decide) (by omega) ?_ ?_ | refine jw_if_eq (pc := 26) (tgt := 33) dX5_plainTo_26 (by decide) ?_ ?_
        · intro h_26
          refine jw_iconst (pc := 33) dX5_plainTo_33 ic_0 ?_
          first | refine jx_iadd (pc := 34) dX5_plainTo_34 ?_ | refine jw_iadd (pc := 34) dX5_plainTo_34 ?_
          refine jw_istore_n (pc := 35) dX5_plainTo_35 (Nat.le_of_ble_eq_true rfl) rfl ?_
          try dsimp only [jput1, jput2, jkill, jclr, jis2_i, jis2_l, jis2_rs, jis2_rn, cond]
          first | refine jx_iinc (pc := 36) dX5_plainTo_36 rfl rfl ?_ | refine jw_iinc (pc := 36) dX5_plainTo_36 rfl rfl rfl ?_
          try dsimp only [jput1, jkill, jclr, jis2_i, jis2_l, jis2_rs, jis2_rn, cond]
          refine jw_goto (pc := 39) (tgt := 5) dX5_plainTo_39 (by decide) ?_
          refine jW.eq ?_ rfl rfl (ih (k + 1) hkn (by omega))
          rw [sumN_s, h_26]; rfl
        · intro h_26
          refine jw_iconst (pc := 29) dX5_plainTo_29 ic_1 ?_
          refine jw_goto (pc := 30) (tgt := 34) dX5_plainTo_30 (by decide) ?_
          first | refine jx_iadd (pc := 34) dX5_plainTo_34 ?_ | refine jw_iadd (pc := 34) dX5_plainTo_34 ?_
          refine jw_istore_n (pc := 35) dX5_plainTo_35 (Nat.le_of_ble_eq_true rfl) rfl ?_
          try dsimp only [jput1, jput2, jkill, jclr, jis2_i, jis2_l, jis2_rs, jis2_rn, cond]
          first | refine jx_iinc (pc := 36) dX5_plainTo_36 rfl rfl ?_ | refine jw_iinc (pc := 36) dX5_plainTo_36 rfl rfl rfl ?_
          try dsimp only [jput1, jkill, jclr, jis2_i, jis2_l, jis2_rs, jis2_rn, cond]
          refine jw_goto (pc := 39) (tgt := 5) dX5_plainTo_39 (by decide) ?_
          refine jW.eq ?_ rfl rfl (ih (k + 1) hkn (by omega))
          rw [sumN_s, h_26]; rfl
    · have hk' : k = V 0 0 := by omega
      subst hk'
      refine jw_iload (pc := 5) dX5_plainTo_5 rfl ?_
      refine jw_aload_n (pc := 7) dX5_plainTo_7 rfl ?_
      refine jx_getRs (pc := 8) (jf_X5_380_4.r) rfl dX5_plainTo_8 rfl (is_90 hS) (by decide) (hs.r) ?_
      refine jx_getIs (pc := 11) (jf_X5_218_12.r) rfl dX5_plainTo_11 rfl (wis hw) (by decide) (mi_np hs.V) ?_
      first | refine jx_icmp_ge (pc := 14) (tgt := 42) dX5_plainTo_14 (by decide) (by omega) (by omega) ?_ ?_ | refine jw_icmp_ge (pc := 14) (tgt := 42) dX5_plainTo_14 (by decide) ?_ ?_
      · intro h_14
        refine jw_iload_n (pc := 42) dX5_plainTo_42 rfl ?_
        refine jw_ireturn (pc := 43) dX5_plainTo_43 rfl (rfl) ?_
        exact ⟨rfl, rfl⟩
      · intro h_14
        omega
  refine jw_iconst (pc := 0) dX5_plainTo_0 ic_0 ?_
  refine jw_istore_n (pc := 1) dX5_plainTo_1 (Nat.le_of_ble_eq_true rfl) rfl ?_
  try dsimp only [jput1, jput2, jkill, jclr, jis2_i, jis2_l, jis2_rs, jis2_rn, cond]
  refine jw_iconst (pc := 2) dX5_plainTo_2 ic_0 ?_
  refine jw_istore (pc := 3) dX5_plainTo_3 (Nat.le_of_ble_eq_true rfl) rfl ?_
  try dsimp only [jput1, jput2, jkill, jclr, jis2_i, jis2_l, jis2_rs, jis2_rn, cond]
  exact J 0 (Nat.zero_le _)
end JWI2
