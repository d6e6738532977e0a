/-! ===== m's other simple questions and deeds ===== -/
section JM3
variable {G : Gh} {M : Mm} {σ : Sg}
theorem t_X5_put {p a : Int32} (h : jMm M σ) : jT G mi_X5_put 9 [jr (some 90), .int p, .int a] M (jOm M (o_put σ p a)) := by
  have hS := h.1
  refine jT.of (by decide) rfl (Nat.le_of_ble_eq_true rfl) ?_
  refine jw_aload_n (pc := 0) dX5_put_0 rfl ?_
  refine jw_iconst (pc := 1) dX5_put_1 ic_0 ?_
  refine jx_putI (pc := 2) jf_X5_56_4 rfl dX5_put_2 rfl rfl (is_90 hS) (by decide) ?_
  have hM := mthr (x := nI 0) h
  have hf : jfm M (js_I M 90 49 (nI 0)) := jsm.I (by decide)
  generalize js_I M 90 49 (nI 0) = M0 at hM hf ⊢
  clear hS
  have hS := hM.1
  refine jw_aload_n (pc := 5) dX5_put_5 rfl ?_
  refine jw_iload_n (pc := 6) dX5_put_6 rfl ?_
  refine jx_cVE (mi1 := mi_X5_isPerson) (pc := 7) rfl dX5_put_7 lk_X5_423 rfl fi_X5_isPerson rfl rfl rfl (by decide) (is_90 hS) (t_X5_isPerson (o := sv σ) hM rfl) (by first | decide | omega) rfl rfl (by decide) ?_
  first | refine jx_ifb_eq (pc := 10) (tgt := 21) dX5_put_10 (by decide) ?_ ?_ | refine jx_if_eq (pc := 10) (tgt := 21) dX5_put_10 (by decide) (by omega) ?_ ?_ | refine jw_if_eq (pc := 10) (tgt := 21) dX5_put_10 (by decide) ?_ ?_
  · intro h_10
    refine jw_aload_n (pc := 21) dX5_put_21 rfl ?_
    refine jw_iconst (pc := 22) dX5_put_22 ic_1 ?_
    refine jx_cVi (mi1 := mi_X5_denied) (pc := 23) rfl dX5_put_23 lk_X5_437 rfl fi_X5_denied rfl rfl rfl (by decide) (is_90 hS) (t_X5_denied hM) (by first | decide | omega) rfl rfl (by decide) ?_
    intro x_23 M_23 q_23
    have e_23 := q_23.1; subst e_23
    refine jw_ireturn (pc := 26) dX5_put_26 rfl (by first | exact jnar_b _ | exact jnar_0 | exact jnar_1 | decide +kernel) ?_
    refine ⟨_, rfl, ?_⟩
    unfold o_put
    first | (rw [h_10]; exact ⟨rfl, q_23.2.1, hf.tr q_23.2.2⟩) | (rw [h_18, Bool.and_false]; exact ⟨rfl, q_23.2.1, hf.tr q_23.2.2⟩)
  · intro h_10
    refine jw_aload_n (pc := 13) dX5_put_13 rfl ?_
    refine jw_iload_n (pc := 14) dX5_put_14 rfl ?_
    refine jx_cVE (mi1 := mi_X5_isPlace) (pc := 15) rfl dX5_put_15 lk_X5_414 rfl fi_X5_isPlace rfl rfl rfl (by decide) (is_90 hS) (t_X5_isPlace (o := sv σ) hM rfl) (by first | decide | omega) rfl rfl (by decide) ?_
    first | refine jx_ifb_ne (pc := 18) (tgt := 27) dX5_put_18 (by decide) ?_ ?_ | refine jx_if_ne (pc := 18) (tgt := 27) dX5_put_18 (by decide) (by omega) ?_ ?_ | refine jw_if_ne (pc := 18) (tgt := 27) dX5_put_18 (by decide) ?_ ?_
    · intro h_18
      obtain ⟨V, kp, hv9, hkp, rfl⟩ := ixV_t h_10
      obtain ⟨V', ka, hv', hka, rfl⟩ := ixV_t h_18
      cases (Option.some.inj (hv9.symm.trans hv'))
      have hw := (h.2.1.2 V hv9).1
      have hn := wf_nq hw
      have hn0 := wf_np hw
      have hM2 : jMm (js_A M0 92 kp (nI ka)) (sgA σ 0 (fun k => if k = kp then ka else sa σ 0 k)) := by
        refine mput hM (jsm.A rfl) hS (fun k => rfl) (fun k => rfl) (fun k => rfl) (fun k => rfl) (fun V' hV p' hp' => ?_)
        cases (Option.some.inj (hv9.symm.trans hV))
        obtain ⟨w, hs, hN⟩ := hM.so hv9
        rw [jA_A]
        by_cases e : p' = kp
        · subst e; rw [if_pos ⟨rfl, rfl⟩, if_pos rfl]; exact ⟨rfl, hka⟩
        · rw [if_neg (fun q => e q.2), if_neg e]; exact ⟨hN.2.2.2.1 _ hp', (h.2.1.2 V hv9).2.1 _ hp'⟩
      refine jw_aload_n (pc := 27) dX5_put_27 rfl ?_
      refine jx_getRs (pc := 28) (jf_X5_17_4.r) rfl dX5_put_28 rfl (is_90 hS) (by decide) (sr_90_68 hS) ?_
      refine jw_iload_n (pc := 31) dX5_put_31 rfl ?_
      refine jw_iload_n (pc := 32) dX5_put_32 rfl ?_
      refine jx_iast (pc := 33) dX5_put_33 (by decide) (ok_92 hS) (nn_92 hS) rfl (by omega) ?_
      refine jw_aload_n (pc := 34) dX5_put_34 rfl ?_
      refine jx_cVi (mi1 := mi_X5_granted) (pc := 35) rfl dX5_put_35 lk_X5_440 rfl fi_X5_granted rfl rfl rfl (by decide) (is_90 hS) (t_X5_granted hM2) (by first | decide | omega) rfl rfl (by decide) ?_
      intro x_35 M_35 q_35
      have e_35 := q_35.1; subst e_35
      refine jw_ireturn (pc := 38) dX5_put_38 rfl (by first | exact jnar_b _ | exact jnar_0 | exact jnar_1 | decide +kernel) ?_
      refine ⟨_, rfl, ?_⟩
      unfold o_put
      rw [if_pos (by rw [h_10, h_18]; rfl), iN_n (by omega), iN_n (by omega)]
      exact ⟨rfl, q_35.2.1, hf.tr ((jsm.A (by decide)).tr q_35.2.2)⟩
    · intro h_18
      refine jw_aload_n (pc := 21) dX5_put_21 rfl ?_
      refine jw_iconst (pc := 22) dX5_put_22 ic_1 ?_
      refine jx_cVi (mi1 := mi_X5_denied) (pc := 23) rfl dX5_put_23 lk_X5_437 rfl fi_X5_denied rfl rfl rfl (by decide) (is_90 hS) (t_X5_denied hM) (by first | decide | omega) rfl rfl (by decide) ?_
      intro x_23 M_23 q_23
      have e_23 := q_23.1; subst e_23
      refine jw_ireturn (pc := 26) dX5_put_26 rfl (by first | exact jnar_b _ | exact jnar_0 | exact jnar_1 | decide +kernel) ?_
      refine ⟨_, rfl, ?_⟩
      unfold o_put
      first | (rw [h_10]; exact ⟨rfl, q_23.2.1, hf.tr q_23.2.2⟩) | (rw [h_18, Bool.and_false]; exact ⟨rfl, q_23.2.1, hf.tr q_23.2.2⟩)
theorem lp_mmove {G : Gh} {M M9 : Mm} {P : Rs → Mm → Prop} {g h : Nat → Int32} {x2 : Value} {kp k ka : Nat} (hS : jSh M) (hk : k < 100) (hp : kp < 5) (ih : jW G mi_X5_move 9 M9 53 [some (jr (some 90)), some (.int (nI kp)), some x2, some (.int (nI ka)), some (.int (nI (k + 1)))] [] (js_As M 94 h) P) (e : js_As M 94 (fun i => if i = 100 * kp + k then nI ka else g i) = js_As M 94 h) : jW G mi_X5_move 9 M9 53 [some (jr (some 90)), some (.int (nI kp)), some x2, some (.int (nI ka)), some (.int (nI k))] [] (js_As M 94 g) P := by
  refine jw_iload (pc := 53) dX5_move_53 rfl ?_
  refine jw_bipush (pc := 55) dX5_move_55 bp_100 ?_
  first | refine jx_icmp_ge (pc := 57) (tgt := 79) dX5_move_57 (by decide) (by omega) (by omega) ?_ ?_ | refine jw_icmp_ge (pc := 57) (tgt := 79) dX5_move_57 (by decide) ?_ ?_
  · intro h_57
    omega
  · intro h_57
    refine jw_aload_n (pc := 60) dX5_move_60 rfl ?_
    refine jx_getRs (pc := 61) (jf_X5_24_4.r) rfl dX5_move_61 rfl (is_90 hS) (by decide) (sr_90_72 hS) ?_
    refine jw_bipush (pc := 64) dX5_move_64 bp_100 ?_
    refine jw_iload_n (pc := 66) dX5_move_66 rfl ?_
    first | refine jx_imul (pc := 67) dX5_move_67 ?_ | refine jw_imul (pc := 67) dX5_move_67 ?_
    refine jw_iload (pc := 68) dX5_move_68 rfl ?_
    first | refine jx_iadd (pc := 70) dX5_move_70 ?_ | refine jw_iadd (pc := 70) dX5_move_70 ?_
    refine jw_iload_n (pc := 71) dX5_move_71 rfl ?_
    refine jx_iast (pc := 72) dX5_move_72 (by decide) (ok_94 hS) (nn_94 hS) rfl (by omega) ?_
    first | refine jx_iinc (pc := 73) dX5_move_73 rfl rfl ?_ | refine jw_iinc (pc := 73) dX5_move_73 rfl rfl rfl ?_
    try dsimp only [jput1, jkill, jclr, jis2_i, jis2_l, jis2_rs, jis2_rn, cond]
    refine jw_goto (pc := 76) (tgt := 53) dX5_move_76 (by decide) ?_
    refine jW.eq rfl rfl ?_ ih
    rw [jAs_A]; exact e.symm
theorem lp_mmove2 {G : Gh} {M M0 M9 : Mm} {τ : Sg} {g : Nat → Int32} {x1 x2 x3 : Option Value} {P : Rs → Mm → Prop} (hM2 : jMm (js_As M0 94 g) τ) (hf : jfm M M0) (ih : ∀ x M', (x = 1 ∧ jMm M' (sgT τ 0 (-1)) ∧ jfm (js_As M0 94 g) M') → P (.inl (some (.int x))) M') : jW G mi_X5_move 9 M9 53 [some (jr (some 90)), x1, x2, x3, some (.int (nI 100))] [] (js_As M0 94 g) P := by
  have hS := hM2.1
  refine jw_iload (pc := 53) dX5_move_53 rfl ?_
  refine jw_bipush (pc := 55) dX5_move_55 bp_100 ?_
  first | refine jx_icmp_ge (pc := 57) (tgt := 79) dX5_move_57 (by decide) (by omega) (by omega) ?_ ?_ | refine jw_icmp_ge (pc := 57) (tgt := 79) dX5_move_57 (by decide) ?_ ?_
  · intro h_57
    refine jw_aload_n (pc := 79) dX5_move_79 rfl ?_
    refine jx_cVi (mi1 := mi_X5_granted) (pc := 80) rfl dX5_move_80 lk_X5_440 rfl fi_X5_granted rfl rfl rfl (by decide) (is_90 hS) (t_X5_granted hM2) (by first | decide | omega) rfl rfl (by decide) ?_
    intro x_80 M_80 q_80
    have e_80 := q_80.1; subst e_80
    refine jw_ireturn (pc := 83) dX5_move_83 rfl (by first | exact jnar_b _ | exact jnar_0 | exact jnar_1 | decide +kernel) ?_
    exact ih _ _ q_80
  · intro h_57
    omega
theorem t_X5_move {p t a : Int32} (h : jMm M σ) : jT G mi_X5_move 9 [jr (some 90), .int p, .int t, .int a] M (jOm M (o_move σ p t a)) := by
  have hS := h.1
  refine jT.of (by decide) rfl (Nat.le_of_ble_eq_true rfl) ?_
  refine jw_aload_n (pc := 0) dX5_move_0 rfl ?_
  refine jw_iconst (pc := 1) dX5_move_1 ic_0 ?_
  refine jx_putI (pc := 2) jf_X5_56_4 rfl dX5_move_2 rfl rfl (is_90 hS) (by decide) ?_
  have hM := mthr (x := nI 0) h
  have hf : jfm M (js_I M 90 49 (nI 0)) := jsm.I (by decide)
  generalize js_I M 90 49 (nI 0) = M0 at hM hf ⊢
  clear hS
  have hS := hM.1
  refine jw_aload_n (pc := 5) dX5_move_5 rfl ?_
  refine jw_iload_n (pc := 6) dX5_move_6 rfl ?_
  refine jx_cVE (mi1 := mi_X5_isPerson) (pc := 7) rfl dX5_move_7 lk_X5_423 rfl fi_X5_isPerson rfl rfl rfl (by decide) (is_90 hS) (t_X5_isPerson (o := sv σ) hM rfl) (by first | decide | omega) rfl rfl (by decide) ?_
  first | refine jx_ifb_eq (pc := 10) (tgt := 21) dX5_move_10 (by decide) ?_ ?_ | refine jx_if_eq (pc := 10) (tgt := 21) dX5_move_10 (by decide) (by omega) ?_ ?_ | refine jw_if_eq (pc := 10) (tgt := 21) dX5_move_10 (by decide) ?_ ?_
  · intro h_10
    refine jw_aload_n (pc := 21) dX5_move_21 rfl ?_
    refine jw_iconst (pc := 22) dX5_move_22 ic_1 ?_
    refine jx_cVi (mi1 := mi_X5_denied) (pc := 23) rfl dX5_move_23 lk_X5_437 rfl fi_X5_denied rfl rfl rfl (by decide) (is_90 hS) (t_X5_denied hM) (by first | decide | omega) rfl rfl (by decide) ?_
    intro x_23 M_23 q_23
    have e_23 := q_23.1; subst e_23
    refine jw_ireturn (pc := 26) dX5_move_26 rfl (by first | exact jnar_b _ | exact jnar_0 | exact jnar_1 | decide +kernel) ?_
    refine ⟨_, rfl, ?_⟩
    unfold o_move
    first | (rw [h_10]; exact ⟨rfl, q_23.2.1, hf.tr q_23.2.2⟩) | (rw [h_18, Bool.and_false]; exact ⟨rfl, q_23.2.1, hf.tr q_23.2.2⟩)
  · intro h_10
    refine jw_aload_n (pc := 13) dX5_move_13 rfl ?_
    refine jw_iload_n (pc := 14) dX5_move_14 rfl ?_
    refine jx_cVE (mi1 := mi_X5_isPlace) (pc := 15) rfl dX5_move_15 lk_X5_414 rfl fi_X5_isPlace rfl rfl rfl (by decide) (is_90 hS) (t_X5_isPlace (o := sv σ) hM rfl) (by first | decide | omega) rfl rfl (by decide) ?_
    first | refine jx_ifb_ne (pc := 18) (tgt := 27) dX5_move_18 (by decide) ?_ ?_ | refine jx_if_ne (pc := 18) (tgt := 27) dX5_move_18 (by decide) (by omega) ?_ ?_ | refine jw_if_ne (pc := 18) (tgt := 27) dX5_move_18 (by decide) ?_ ?_
    · intro h_18
      obtain ⟨V, kp, hv9, hkp, rfl⟩ := ixV_t h_10
      obtain ⟨V', ka, hv', hka, rfl⟩ := ixV_t h_18
      cases (Option.some.inj (hv9.symm.trans hv'))
      have hw9 := (h.2.1.2 V hv9).1
      have hn := wf_nq hw9
      have hn0 := wf_np hw9
      have hd := wf_d hw9
      obtain ⟨w, hs, hN⟩ := hM.so hv9
      have hw := hs.s
      refine jw_iload_n (pc := 27) dX5_move_27 rfl ?_
      refine jw_iconst (pc := 28) dX5_move_28 ic_0 ?_
      refine jw_aload_n (pc := 29) dX5_move_29 rfl ?_
      refine jx_getRs (pc := 30) (jf_X5_380_4.r) rfl dX5_move_30 rfl (is_90 hS) (by decide) (hs.r) ?_
      refine jx_getIs (pc := 33) (jf_X5_273_12.r) rfl dX5_move_33 rfl (wis hw) (by decide) (mi_steps hs.V) ?_
      refine jw_iconst (pc := 36) dX5_move_36 ic_1 ?_
      refine jw_isub (pc := 37) dX5_move_37 ?_
      refine jx_cSE (mi1 := mi_X5_in) (pc := 38) rfl dX5_move_38 lk_X5_135 rfl fi_X5_in (t_X5_in) (by first | decide | omega) rfl rfl (by decide) ?_
      rw [inb_ix (by omega)]
      first | refine jx_ifb_ne (pc := 41) (tgt := 50) dX5_move_41 (by decide) ?_ ?_ | refine jx_if_ne (pc := 41) (tgt := 50) dX5_move_41 (by decide) (by omega) ?_ ?_ | refine jw_if_ne (pc := 41) (tgt := 50) dX5_move_41 (by decide) ?_ ?_
      · intro h_41
        obtain ⟨kt, hkt, rfl⟩ := isIx_of h_41
        have J : ∀ k : Nat, (kt ≤ k ∧ k ≤ 100) → jW G mi_X5_move 9 M 53 [some (jr (some 90)), some (.int (nI kp)), some (.int (nI kt)), some (.int (nI ka)), some (.int (nI k))] [] (js_As M0 94 (fun i => if 100 * kp + kt ≤ i ∧ i < 100 * kp + k then nI ka else jm_A M0 94 i)) (jOm M (o_move σ (nI kp) (nI kt) (nI ka))) := by
          refine jW.loop _ (fun k => 100 - k) _ (fun _ => []) (fun k => js_As M0 94 (fun i => if 100 * kp + kt ≤ i ∧ i < 100 * kp + k then nI ka else jm_A M0 94 i)) (fun k hk ih => ?_)
          obtain ⟨hk1, hk2⟩ := hk
          by_cases hkn : k < 100
          · refine lp_mmove hS hkn (by omega) (ih (k + 1) (by omega) (by omega)) ?_
            refine jAs_cg (fun i => ?_)
            by_cases e : i = 100 * kp + k
            · subst e; simp [show 100 * kp + kt ≤ 100 * kp + k by omega]
            · rw [if_neg e]
              by_cases e2 : 100 * kp + kt ≤ i ∧ i < 100 * kp + k
              · rw [if_pos e2, if_pos ⟨e2.1, by omega⟩]
              · rw [if_neg e2, if_neg (by omega)]
          · have hk' : k = 100 := by omega
            subst hk'
            have hM2 : jMm (js_As M0 94 (fun i => if 100 * kp + kt ≤ i ∧ i < 100 * kp + 100 then nI ka else jm_A M0 94 i)) (sgA σ 1 (planF σ kp kt 100 ka)) := by
              refine mplan hM (jsm.As rfl) hS (fun k => rfl) (fun k => rfl) (fun k => rfl) (fun k => rfl) (fun V' hV p' t' hp' ht' => ?_)
              cases (Option.some.inj (hv9.symm.trans hV))
              rw [jA_rd]
              unfold planF
              by_cases e : 100 * kp + kt ≤ 100 * p' + t' ∧ 100 * p' + t' < 100 * kp + 100
              · rw [if_pos e, if_pos e]; exact ⟨rfl, hka⟩
              · rw [if_neg e, if_neg e]; exact ⟨hN.2.2.2.2.1 _ _ hp' ht', (h.2.1.2 V hv9).2.2.1 _ _ hp' ht'⟩
            refine lp_mmove2 hM2 hf (fun x M' hq => ⟨x, rfl, ?_⟩)
            unfold o_move
            rw [if_pos (by rw [h_10, h_18]; rfl), vv_s hv9, if_pos h_41, iN_n (by omega), iN_n (by omega), iN_n (by omega)]
            exact ⟨hq.1, hq.2.1, hf.tr ((jsm.As (by decide)).tr hq.2.2)⟩
        refine jw_iload_n (pc := 50) dX5_move_50 rfl ?_
        refine jw_istore (pc := 51) dX5_move_51 (Nat.le_of_ble_eq_true rfl) rfl ?_
        try dsimp only [jput1, jput2, jkill, jclr, jis2_i, jis2_l, jis2_rs, jis2_rn, cond]
        refine jW.eq rfl rfl ?_ (jW.sub ?_ (J kt (by omega)))
        · exact jAs_0 (fun i => by rw [if_neg (by omega)])
        · exact ⟨rfl, rfl, rfl, rfl, rfl, trivial⟩
      · intro h_41
        refine jw_aload_n (pc := 44) dX5_move_44 rfl ?_
        refine jw_iconst (pc := 45) dX5_move_45 ic_2 ?_
        refine jx_cVi (mi1 := mi_X5_denied) (pc := 46) rfl dX5_move_46 lk_X5_437 rfl fi_X5_denied rfl rfl rfl (by decide) (is_90 hS) (t_X5_denied hM) (by first | decide | omega) rfl rfl (by decide) ?_
        intro x_46 M_46 q_46
        have e_46 := q_46.1; subst e_46
        refine jw_ireturn (pc := 49) dX5_move_49 rfl (by first | exact jnar_b _ | exact jnar_0 | exact jnar_1 | decide +kernel) ?_
        refine ⟨_, rfl, ?_⟩
        unfold o_move
        rw [if_pos (by rw [h_10, h_18]; rfl), vv_s hv9, h_41]; exact ⟨rfl, q_46.2.1, hf.tr q_46.2.2⟩
    · intro h_18
      refine jw_aload_n (pc := 21) dX5_move_21 rfl ?_
      refine jw_iconst (pc := 22) dX5_move_22 ic_1 ?_
      refine jx_cVi (mi1 := mi_X5_denied) (pc := 23) rfl dX5_move_23 lk_X5_437 rfl fi_X5_denied rfl rfl rfl (by decide) (is_90 hS) (t_X5_denied hM) (by first | decide | omega) rfl rfl (by decide) ?_
      intro x_23 M_23 q_23
      have e_23 := q_23.1; subst e_23
      refine jw_ireturn (pc := 26) dX5_move_26 rfl (by first | exact jnar_b _ | exact jnar_0 | exact jnar_1 | decide +kernel) ?_
      refine ⟨_, rfl, ?_⟩
      unfold o_move
      first | (rw [h_10]; exact ⟨rfl, q_23.2.1, hf.tr q_23.2.2⟩) | (rw [h_18, Bool.and_false]; exact ⟨rfl, q_23.2.1, hf.tr q_23.2.2⟩)
theorem t_X5_forgets {w : Nat} {V : Vt} (hs : jMs M w V 0 0) : jE G mi_X5_forgets 2 [jr (some 90)] M none (js_As M 94 (fun i => if i < 100 * V 0 1 then nI (V 11 (i / 100)) else jm_A M 94 i)) := by
  have hS := hs.1
  have hn := wf_nq hs.w
  have hf9 : ∀ g : Nat → Int32, jMs (js_As M 94 g) w V 0 0 := fun g => ⟨hS, hs.r, hs.V.sm (E := fun a => a = 94) (jsm.As rfl) (fun a ha => by omega), hs.w, hs.o, hs.f⟩
  refine jE.of (by decide) rfl (Nat.le_of_ble_eq_true rfl) ?_
  have J : ∀ x : Nat, x ≤ V 0 1 → jW G mi_X5_forgets 2 M 2 [some (jr (some 90)), some (.int (nI x)), none] [] (js_As M 94 (fun i => if i < 100 * x then nI (V 11 (i / 100)) else jm_A M 94 i)) (fun r M' => r = .inl none ∧ M' = js_As M 94 (fun i => if i < 100 * V 0 1 then nI (V 11 (i / 100)) else jm_A M 94 i)) := by
    refine jW.loop _ (fun x => V 0 1 - x) _ (fun _ => []) (fun x => js_As M 94 (fun i => if i < 100 * x then nI (V 11 (i / 100)) else jm_A M 94 i)) (fun x hx ih => ?_)
    have hs1 := hf9 (fun i => if i < 100 * x then nI (V 11 (i / 100)) else jm_A M 94 i)
    have hw := hs1.s
    by_cases hxn : x < V 0 1
    · have L : ∀ t : Nat, t ≤ 100 → jW G mi_X5_forgets 2 M 15 [some (jr (some 90)), some (.int (nI x)), some (.int (nI t))] [] (js_As M 94 (fun i => if i < 100 * x + t then nI (V 11 (i / 100)) else jm_A M 94 i)) (fun r M' => r = .inl none ∧ M' = js_As M 94 (fun i => if i < 100 * V 0 1 then nI (V 11 (i / 100)) else jm_A M 94 i)) := by
        refine jW.loop _ (fun t => 100 - t) _ (fun _ => []) (fun t => js_As M 94 (fun i => if i < 100 * x + t then nI (V 11 (i / 100)) else jm_A M 94 i)) (fun t ht iht => ?_)
        have hs2 := hf9 (fun i => if i < 100 * x + t then nI (V 11 (i / 100)) else jm_A M 94 i)
        have hw := hs2.s
        by_cases htn : t < 100
        · have htn' := htn
          refine jw_iload_n (pc := 15) dX5_forgets_15 rfl ?_
          refine jw_bipush (pc := 16) dX5_forgets_16 bp_100 ?_
          first | refine jx_icmp_ge (pc := 18) (tgt := 47) dX5_forgets_18 (by decide) (by omega) (by omega) ?_ ?_ | refine jw_icmp_ge (pc := 18) (tgt := 47) dX5_forgets_18 (by decide) ?_ ?_
          · intro h_18
            omega
          · intro h_18
            refine jw_aload_n (pc := 21) dX5_forgets_21 rfl ?_
            refine jx_getRs (pc := 22) (jf_X5_24_4.r) rfl dX5_forgets_22 rfl (is_90 hS) (by decide) (sr_90_72 hS) ?_
            refine jw_bipush (pc := 25) dX5_forgets_25 bp_100 ?_
            refine jw_iload_n (pc := 27) dX5_forgets_27 rfl ?_
            first | refine jx_imul (pc := 28) dX5_forgets_28 ?_ | refine jw_imul (pc := 28) dX5_forgets_28 ?_
            refine jw_iload_n (pc := 29) dX5_forgets_29 rfl ?_
            first | refine jx_iadd (pc := 30) dX5_forgets_30 ?_ | refine jw_iadd (pc := 30) dX5_forgets_30 ?_
            refine jw_aload_n (pc := 31) dX5_forgets_31 rfl ?_
            refine jx_getRs (pc := 32) (jf_X5_380_4.r) rfl dX5_forgets_32 rfl (is_90 hS) (by decide) (hs2.r) ?_
            refine jx_getRs (pc := 35) jg_X5_323_12 rfl dX5_forgets_35 rfl (wis hw) (by decide) (wr_8 hw) ?_
            refine jw_iload_n (pc := 38) dX5_forgets_38 rfl ?_
            refine jx_ialds (pc := 39) dX5_forgets_39 (wok_8 hw) (wnn_8 hw) rfl (by omega) ((ma_q hs2.V hxn).1) ?_
            refine jx_iast (pc := 40) dX5_forgets_40 (by decide) (ok_94 hS) (nn_94 hS) rfl (by omega) ?_
            first | refine jx_iinc (pc := 41) dX5_forgets_41 rfl rfl ?_ | refine jw_iinc (pc := 41) dX5_forgets_41 rfl rfl rfl ?_
            try dsimp only [jput1, jkill, jclr, jis2_i, jis2_l, jis2_rs, jis2_rn, cond]
            refine jw_goto (pc := 44) (tgt := 15) dX5_forgets_44 (by decide) ?_
            refine jW.eq rfl rfl ?_ (iht (t + 1) htn (by omega))
            rw [jAs_A]
            refine jAs_cg (fun i => ?_)
            by_cases e : i = 100 * x + t
            · subst e; rw [if_pos rfl, if_pos (by omega), show (100 * x + t) / 100 = x by omega]
            · rw [if_neg e]
              by_cases e2 : i < 100 * x + t
              · rw [if_pos e2, if_pos (by omega)]
              · rw [if_neg e2, if_neg (by omega)]
        · have ht' : t = 100 := by omega
          subst ht'
          refine jw_iload_n (pc := 15) dX5_forgets_15 rfl ?_
          refine jw_bipush (pc := 16) dX5_forgets_16 bp_100 ?_
          first | refine jx_icmp_ge (pc := 18) (tgt := 47) dX5_forgets_18 (by decide) (by omega) (by omega) ?_ ?_ | refine jw_icmp_ge (pc := 18) (tgt := 47) dX5_forgets_18 (by decide) ?_ ?_
          · intro h_18
            first | refine jx_iinc (pc := 47) dX5_forgets_47 rfl rfl ?_ | refine jw_iinc (pc := 47) dX5_forgets_47 rfl rfl rfl ?_
            try dsimp only [jput1, jkill, jclr, jis2_i, jis2_l, jis2_rs, jis2_rn, cond]
            refine jw_goto (pc := 50) (tgt := 2) dX5_forgets_50 (by decide) ?_
            exact jW.sub (by simp [jsub]) (ih (x + 1) hxn (by omega))
          · intro h_18
            omega
      refine jw_iload_n (pc := 2) dX5_forgets_2 rfl ?_
      refine jw_aload_n (pc := 3) dX5_forgets_3 rfl ?_
      refine jx_getRs (pc := 4) (jf_X5_380_4.r) rfl dX5_forgets_4 rfl (is_90 hS) (by decide) (hs1.r) ?_
      refine jx_getIs (pc := 7) (jf_X5_221_12.r) rfl dX5_forgets_7 rfl (wis hw) (by decide) (mi_nq hs1.V) ?_
      first | refine jx_icmp_ge (pc := 10) (tgt := 53) dX5_forgets_10 (by decide) (by omega) (by omega) ?_ ?_ | refine jw_icmp_ge (pc := 10) (tgt := 53) dX5_forgets_10 (by decide) ?_ ?_
      · intro h_10
        omega
      · intro h_10
        refine jw_iconst (pc := 13) dX5_forgets_13 ic_0 ?_
        refine jw_istore_n (pc := 14) dX5_forgets_14 (Nat.le_of_ble_eq_true rfl) rfl ?_
        try dsimp only [jput1, jput2, jkill, jclr, jis2_i, jis2_l, jis2_rs, jis2_rn, cond]
        exact L 0 (Nat.zero_le _)
    · have hk' : x = V 0 1 := by omega
      subst hk'
      refine jw_iload_n (pc := 2) dX5_forgets_2 rfl ?_
      refine jw_aload_n (pc := 3) dX5_forgets_3 rfl ?_
      refine jx_getRs (pc := 4) (jf_X5_380_4.r) rfl dX5_forgets_4 rfl (is_90 hS) (by decide) (hs1.r) ?_
      refine jx_getIs (pc := 7) (jf_X5_221_12.r) rfl dX5_forgets_7 rfl (wis hw) (by decide) (mi_nq hs1.V) ?_
      first | refine jx_icmp_ge (pc := 10) (tgt := 53) dX5_forgets_10 (by decide) (by omega) (by omega) ?_ ?_ | refine jw_icmp_ge (pc := 10) (tgt := 53) dX5_forgets_10 (by decide) ?_ ?_
      · intro h_10
        refine jw_return (pc := 53) dX5_forgets_53 rfl ?_
        exact ⟨rfl, rfl⟩
      · intro h_10
        omega
  refine jw_iconst (pc := 0) dX5_forgets_0 ic_0 ?_
  refine jw_istore_n (pc := 1) dX5_forgets_1 (Nat.le_of_ble_eq_true rfl) rfl ?_
  try dsimp only [jput1, jput2, jkill, jclr, jis2_i, jis2_l, jis2_rs, jis2_rn, cond]
  refine jW.eq rfl rfl ?_ (J 0 (Nat.zero_le _))
  exact jAs_0 (fun i => by rw [if_neg (by omega)])
theorem t_X5_forget (h : jMm M σ) : jT G mi_X5_forget 9 [jr (some 90)] M (jOm M (o_forget σ)) := by
  have hS := h.1
  refine jT.of (by decide) rfl (Nat.le_of_ble_eq_true rfl) ?_
  cases hv9 : sv σ with
  | none =>
    refine jw_aload_n (pc := 0) dX5_forget_0 rfl ?_
    refine jw_iconst (pc := 1) dX5_forget_1 ic_0 ?_
    refine jx_putI (pc := 2) jf_X5_56_4 rfl dX5_forget_2 rfl rfl (is_90 hS) (by decide) ?_
    have hM := mthr (x := nI 0) h
    have hf : jfm M (js_I M 90 49 (nI 0)) := jsm.I (by decide)
    generalize js_I M 90 49 (nI 0) = M0 at hM hf ⊢
    clear hS
    have hS := hM.1
    refine jw_aload_n (pc := 5) dX5_forget_5 rfl ?_
    refine jx_getRs (pc := 6) (jf_X5_380_4.r) rfl dX5_forget_6 rfl (is_90 hS) (by decide) (hM.no hv9) ?_
    refine jw_ifnonnull (pc := 9) (tgt := 18) dX5_forget_9 (by decide) (fun ax h => by cases h) (fun h => ?_)
    clear h
    refine jw_aload_n (pc := 12) dX5_forget_12 rfl ?_
    refine jw_iconst (pc := 13) dX5_forget_13 ic_1 ?_
    refine jx_cVi (mi1 := mi_X5_denied) (pc := 14) rfl dX5_forget_14 lk_X5_437 rfl fi_X5_denied rfl rfl rfl (by decide) (is_90 hS) (t_X5_denied hM) (by first | decide | omega) rfl rfl (by decide) ?_
    intro x_14 M_14 q_14
    have e_14 := q_14.1; subst e_14
    refine jw_ireturn (pc := 17) dX5_forget_17 rfl (by first | exact jnar_b _ | exact jnar_0 | exact jnar_1 | decide +kernel) ?_
    exact ⟨_, rfl, by unfold o_forget; rw [hv9]; exact ⟨q_14.1, q_14.2.1, hf.tr q_14.2.2⟩⟩
  | some V =>
    refine jw_aload_n (pc := 0) dX5_forget_0 rfl ?_
    refine jw_iconst (pc := 1) dX5_forget_1 ic_0 ?_
    refine jx_putI (pc := 2) jf_X5_56_4 rfl dX5_forget_2 rfl rfl (is_90 hS) (by decide) ?_
    have hM := mthr (x := nI 0) h
    have hf : jfm M (js_I M 90 49 (nI 0)) := jsm.I (by decide)
    generalize js_I M 90 49 (nI 0) = M0 at hM hf ⊢
    clear hS
    have hS := hM.1
    obtain ⟨w, hs, hN⟩ := hM.so hv9
    have hM2 : jMm (js_As M0 94 (fun i => if i < 100 * V 0 1 then nI (V 11 (i / 100)) else jm_A M0 94 i)) (sgA σ 1 (toldF V σ)) := by
      refine mplan hM (jsm.As rfl) hS (fun k => rfl) (fun k => rfl) (fun k => rfl) (fun k => rfl) (fun V' hV p' t' hp' ht' => ?_)
      cases (Option.some.inj (hv9.symm.trans hV))
      rw [jA_rd]
      unfold toldF
      rw [if_pos (by omega), if_pos (by omega), show (100 * p' + t') / 100 = p' by omega]
      exact ⟨rfl, (wf_q hs.w hp').1⟩
    refine jw_aload_n (pc := 5) dX5_forget_5 rfl ?_
    refine jx_getRs (pc := 6) (jf_X5_380_4.r) rfl dX5_forget_6 rfl (is_90 hS) (by decide) (hs.r) ?_
    refine jw_ifnonnull (pc := 9) (tgt := 18) dX5_forget_9 (by decide) (fun ax h => ?_) (fun h => by cases h)
    clear h
    refine jw_aload_n (pc := 18) dX5_forget_18 rfl ?_
    refine jx_cVEv (mi1 := mi_X5_forgets) (pc := 19) rfl dX5_forget_19 lk_X5_392 rfl fi_X5_forgets rfl rfl rfl (by decide) (is_90 hS) (t_X5_forgets hs) (by first | decide | omega) rfl rfl (by decide) ?_
    refine jw_aload_n (pc := 22) dX5_forget_22 rfl ?_
    refine jx_cVi (mi1 := mi_X5_granted) (pc := 23) rfl dX5_forget_23 lk_X5_440 rfl fi_X5_granted rfl rfl rfl (by decide) (is_90 hS) (t_X5_granted hM2) (by first | decide | omega) rfl rfl (by decide) ?_
    intro x_23 M_23 q_23
    have e_23 := q_23.1; subst e_23
    refine jw_ireturn (pc := 26) dX5_forget_26 rfl (by first | exact jnar_b _ | exact jnar_0 | exact jnar_1 | decide +kernel) ?_
    exact ⟨_, rfl, by unfold o_forget; rw [hv9]; exact ⟨q_23.1, q_23.2.1, hf.tr ((jsm.As (by decide)).tr q_23.2.2)⟩⟩
theorem lp_mmid {G : Gh} {M M0 : Mm} {σ : Sg} {w kt : Nat} {V : Vt} (hM : jMm M0 σ) (hs : jMs M0 w V 0 0) (hw : jWs M0 w) (hkt : kt < 200) (hf : jfm M M0) (h0 : stepW (sv σ) (nI kt) = 0) (hv9 : sv σ = some V) : ∀ k : Nat, k ≤ V 0 0 → jW G mi_X5_middle 9 M 36 [some (jr (some 90)), some (.int (nI kt)), none, some (.int (nI (andM k (2 ^ V 0 0 - 1) (seesS V (rangeV V kt) 0 0)))), some (.int (nI k))] [] M0 (jQm M σ (q_middle σ (nI kt))) := by
  have hS := hM.1
  have hn := wf_np hs.w
  refine jW.loop _ (fun k => V 0 0 - k) _ (fun _ => []) (fun _ => M0) (fun k hk ih => ?_)
  by_cases hkn : k < V 0 0
  · have hkn' := hkn
    refine jw_iload (pc := 36) dX5_middle_36 rfl ?_
    refine jw_aload_n (pc := 38) dX5_middle_38 rfl ?_
    refine jx_getRs (pc := 39) (jf_X5_380_4.r) rfl dX5_middle_39 rfl (is_90 hS) (by decide) (hs.r) ?_
    refine jx_getIs (pc := 42) (jf_X5_218_12.r) rfl dX5_middle_42 rfl (wis hw) (by decide) (mi_np hs.V) ?_
    first | refine jx_icmp_ge (pc := 45) (tgt := 64) dX5_middle_45 (by decide) (by omega) (by omega) ?_ ?_ | refine jw_icmp_ge (pc := 45) (tgt := 64) dX5_middle_45 (by decide) ?_ ?_
    · intro h_45
      omega
    · intro h_45
      refine jw_iload_n (pc := 48) dX5_middle_48 rfl ?_
      refine jw_aload_n (pc := 49) dX5_middle_49 rfl ?_
      refine jw_iload (pc := 50) dX5_middle_50 rfl ?_
      refine jw_iload_n (pc := 52) dX5_middle_52 rfl ?_
      refine jx_cVE (mi1 := mi_X5_seenFrom) (pc := 53) rfl dX5_middle_53 lk_X5_417 rfl fi_X5_seenFrom rfl rfl rfl (by decide) (is_90 hS) (t_X5_seenFrom hs (by decide) (by decide) (by omega) hkn) (by first | decide | omega) rfl rfl (by simp only [List.map_cons, List.map_nil, List.sum_cons, List.sum_nil, Value.category]; decide) ?_
      refine jw_iand (pc := 56) dX5_middle_56 ?_
      rw [nI_and']
      refine jw_istore_n (pc := 57) dX5_middle_57 (Nat.le_of_ble_eq_true rfl) rfl ?_
      try dsimp only [jput1, jput2, jkill, jclr, jis2_i, jis2_l, jis2_rs, jis2_rn, cond]
      first | refine jx_iinc (pc := 58) dX5_middle_58 rfl rfl ?_ | refine jw_iinc (pc := 58) dX5_middle_58 rfl rfl rfl ?_
      try dsimp only [jput1, jkill, jclr, jis2_i, jis2_l, jis2_rs, jis2_rn, cond]
      refine jw_goto (pc := 61) (tgt := 36) dX5_middle_61 (by decide) ?_
      exact ih (k + 1) hkn (by omega)
  · have hk' : k = V 0 0 := by omega
    subst hk'
    refine jw_iload (pc := 36) dX5_middle_36 rfl ?_
    refine jw_aload_n (pc := 38) dX5_middle_38 rfl ?_
    refine jx_getRs (pc := 39) (jf_X5_380_4.r) rfl dX5_middle_39 rfl (is_90 hS) (by decide) (hs.r) ?_
    refine jx_getIs (pc := 42) (jf_X5_218_12.r) rfl dX5_middle_42 rfl (wis hw) (by decide) (mi_np hs.V) ?_
    first | refine jx_icmp_ge (pc := 45) (tgt := 64) dX5_middle_45 (by decide) (by omega) (by omega) ?_ ?_ | refine jw_icmp_ge (pc := 45) (tgt := 64) dX5_middle_45 (by decide) ?_ ?_
    · intro h_45
      refine jw_aload_n (pc := 64) dX5_middle_64 rfl ?_
      refine jw_iload_n (pc := 65) dX5_middle_65 rfl ?_
      refine jw_iconst (pc := 66) dX5_middle_66 ic_0 ?_
      refine jx_cVi (mi1 := mi_X5_told) (pc := 67) rfl dX5_middle_67 lk_X5_66 rfl fi_X5_told rfl rfl rfl (by decide) (is_90 hS) (t_X5_told0 hM) (by first | decide | omega) rfl rfl (by decide) ?_
      intro x_67 M_67 q_67
      refine jw_ireturn (pc := 70) dX5_middle_70 rfl (rfl) ?_
      refine qm ?_ hf q_67
      unfold q_middle; rw [if_pos h0, vv_s hv9, iN_n (by omega)]
    · intro h_45
      omega
theorem t_X5_middle {t : Int32} (h : jMm M σ) : jT G mi_X5_middle 9 [jr (some 90), .int t] M (jQm M σ (q_middle σ t)) := by
  have hS := h.1
  refine jT.of (by decide) rfl (Nat.le_of_ble_eq_true rfl) ?_
  refine jw_aload_n (pc := 0) dX5_middle_0 rfl ?_
  refine jw_iconst (pc := 1) dX5_middle_1 ic_0 ?_
  refine jx_putI (pc := 2) jf_X5_56_4 rfl dX5_middle_2 rfl rfl (is_90 hS) (by decide) ?_
  have hM := mthr (x := nI 0) h
  have hf : jfm M (js_I M 90 49 (nI 0)) := jsm.I (by decide)
  generalize js_I M 90 49 (nI 0) = M0 at hM hf ⊢
  clear hS
  have hS := hM.1
  refine jw_aload_n (pc := 5) dX5_middle_5 rfl ?_
  refine jw_iload_n (pc := 6) dX5_middle_6 rfl ?_
  refine jx_cVE (mi1 := mi_X5_refusesSteps) (pc := 7) rfl dX5_middle_7 lk_X5_420 rfl fi_X5_refusesSteps rfl rfl rfl (by decide) (is_90 hS) (t_X5_refusesSteps (o := sv σ) hM rfl) (by first | decide | omega) rfl rfl (by decide) ?_
  refine jw_istore_n (pc := 10) dX5_middle_10 (Nat.le_of_ble_eq_true rfl) rfl ?_
  try dsimp only [jput1, jput2, jkill, jclr, jis2_i, jis2_l, jis2_rs, jis2_rn, cond]
  refine jw_iload_n (pc := 11) dX5_middle_11 rfl ?_
  refine jw_if_le (pc := 12) (tgt := 21) dX5_middle_12 (by decide) ?_ ?_
  · intro h_12
    have h_12 := stepW_le h_12
    obtain ⟨V, kt, hv9, hkt, rfl⟩ := stepW_0 h_12
    obtain ⟨w, hs, hN⟩ := hM.so hv9
    have hn := wf_np hs.w
    have hw := hs.s
    refine jw_iconst (pc := 21) dX5_middle_21 ic_1 ?_
    refine jw_aload_n (pc := 22) dX5_middle_22 rfl ?_
    refine jx_getRs (pc := 23) (jf_X5_380_4.r) rfl dX5_middle_23 rfl (is_90 hS) (by decide) (hs.r) ?_
    refine jx_getIs (pc := 26) (jf_X5_218_12.r) rfl dX5_middle_26 rfl (wis hw) (by decide) (mi_np hs.V) ?_
    refine jw_ishl (pc := 29) dX5_middle_29 ?_
    rw [shl1 (by omega)]
    refine jw_iconst (pc := 30) dX5_middle_30 ic_1 ?_
    refine jw_isub (pc := 31) dX5_middle_31 ?_
    rw [sub1 Nat.one_le_two_pow]
    refine jw_istore_n (pc := 32) dX5_middle_32 (Nat.le_of_ble_eq_true rfl) rfl ?_
    try dsimp only [jput1, jput2, jkill, jclr, jis2_i, jis2_l, jis2_rs, jis2_rn, cond]
    refine jw_iconst (pc := 33) dX5_middle_33 ic_0 ?_
    refine jw_istore (pc := 34) dX5_middle_34 (Nat.le_of_ble_eq_true rfl) rfl ?_
    try dsimp only [jput1, jput2, jkill, jclr, jis2_i, jis2_l, jis2_rs, jis2_rn, cond]
    refine jW.sub (ls1 := [some (jr (some 90)), some (.int (nI kt)), none, some (.int (nI (2 ^ V 0 0 - 1))), some (.int (nI 0))]) ⟨rfl, rfl, rfl, rfl, trivial⟩ (lp_mmid hM hs hw hkt hf h_12 hv9 0 (Nat.zero_le _))
  · intro h_12
    refine jw_aload_n (pc := 15) dX5_middle_15 rfl ?_
    refine jw_iload_n (pc := 16) dX5_middle_16 rfl ?_
    refine jx_cVi (mi1 := mi_X5_refused) (pc := 17) rfl dX5_middle_17 lk_X5_62 rfl fi_X5_refused rfl rfl rfl (by decide) (is_90 hS) (t_X5_refused hM) (by first | decide | omega) rfl rfl (by decide) ?_
    intro x_17 M_17 q_17
    refine jw_ireturn (pc := 20) dX5_middle_20 rfl (rfl) ?_
    refine qm ?_ hf q_17
    unfold q_middle
    rw [if_neg (fun e => h_12 (by rw [e]; decide +kernel))]
theorem inb_m1 (i : Int32) : inb i (nI 0) (-1) = false := by
  cases h : inb i (nI 0) (-1) with
  | false => rfl
  | true =>
    rw [inb_iff, nI_toInt (by decide)] at h
    have : ((-1 : Int32)).toInt = -1 := by decide +kernel
    omega
theorem path_no {σ : Sg} {mv kp nq : Nat} (hpi : si σ 3 = -1 ∨ ∃ n, n ≤ 30 ∧ si σ 3 = nI n) (n8 : ∀ n, kp < nq → si σ 3 = nI n → n ≤ 30 → ∀ i, i ≤ n → (if mv.testBit kp then jm_A M 100 (5 * i + kp) = sb σ 1 (31 * kp + i) else sb σ 1 (31 * kp + i) = -1)) (hkp : kp < nq) (hb : mv.testBit kp = false) (hk : kp < 2 ^ 31) (i : Int32) (hi : (ixV (sv σ) 1 (nI kp) && inb i (nI 0) (si σ 3)) = true) : sb σ 1 (31 * iN (nI kp) + iN i) = -1 := by
  rw [Bool.and_eq_true] at hi
  obtain ⟨ki, hki, rfl⟩ := path_ix hpi hi.2
  rcases hpi with h | ⟨n, h1, h2⟩
  · rw [h, inb_m1] at hi; cases hi.2
  · have h3 := hi.2
    rw [h2, inb_ix' (by omega), isIx_nI (by omega), decide_eq_true_eq] at h3
    have n8 := n8 n hkp h2 h1 ki (by omega)
    rw [hb] at n8
    rw [iN_n hk, iN_n (by omega)]
    exact n8
theorem t_X5_path {p i : Int32} (h : jMm M σ) : jT G mi_X5_path 9 [jr (some 90), .int p, .int i] M (jOm M (q_path σ p i, σ)) := by
  have hS := h.1
  refine jT.of (by decide) rfl (Nat.le_of_ble_eq_true rfl) ?_
  refine jw_aload_n (pc := 0) dX5_path_0 rfl ?_
  refine jw_iconst (pc := 1) dX5_path_1 ic_0 ?_
  refine jx_putI (pc := 2) jf_X5_56_4 rfl dX5_path_2 rfl rfl (is_90 hS) (by decide) ?_
  have hM := mthr (x := nI 0) h
  have hf : jfm M (js_I M 90 49 (nI 0)) := jsm.I (by decide)
  generalize js_I M 90 49 (nI 0) = M0 at hM hf ⊢
  clear hS
  have hS := hM.1
  refine jw_aload_n (pc := 5) dX5_path_5 rfl ?_
  refine jw_iload_n (pc := 6) dX5_path_6 rfl ?_
  refine jx_cVE (mi1 := mi_X5_isPerson) (pc := 7) rfl dX5_path_7 lk_X5_423 rfl fi_X5_isPerson rfl rfl rfl (by decide) (is_90 hS) (t_X5_isPerson (o := sv σ) hM rfl) (by first | decide | omega) rfl rfl (by decide) ?_
  first | refine jx_ifb_eq (pc := 10) (tgt := 44) dX5_path_10 (by decide) ?_ ?_ | refine jx_if_eq (pc := 10) (tgt := 44) dX5_path_10 (by decide) (by omega) ?_ ?_ | refine jw_if_eq (pc := 10) (tgt := 44) dX5_path_10 (by decide) ?_ ?_
  · intro h_10
    refine jw_iconst (pc := 44) dX5_path_44 ic_m1 ?_
    refine jw_ireturn (pc := 45) dX5_path_45 rfl (rfl) ?_
    refine ⟨_, rfl, ?_, hM, hf⟩
    show _ = q_path σ _ _
    unfold q_path
    first
      | (rw [h_10]; rfl)
      | (rw [h_41, Bool.and_false]; rfl)
      | (rw [show si σ 3 = -1 from h_29, show inb i (nI 0) (-1) = false from inb_m1 i, Bool.and_false]; rfl)
      | (have e := path_no hpi (fun n => n8 kp n) hkp h_21 (by omega) i; split; (next e1 => exact (e e1).symm); rfl)
  · intro h_10
    obtain ⟨V, kp, hv9, hkp, rfl⟩ := ixV_t h_10
    obtain ⟨w, hs, hN⟩ := hM.so hv9
    have hn := wf_nq hs.w
    obtain ⟨n1, n2, n3, n4, n5, mv, n6, n7, n8⟩ := hN
    have hpi := (h.2.1.2 V hv9).2.2.2.2.2
    refine jw_aload_n (pc := 13) dX5_path_13 rfl ?_
    refine jx_getIs (pc := 14) (jf_X5_389_4.r) rfl dX5_path_14 rfl (is_90 hS) (by decide) (n6) ?_
    refine jw_iload_n (pc := 17) dX5_path_17 rfl ?_
    refine jx_cSE (mi1 := mi_X5_has) (pc := 18) rfl dX5_path_18 lk_X5_398 rfl fi_X5_has (t_X5_has (by omega) (by omega)) (by first | decide | omega) rfl rfl (by decide) ?_
    first | refine jx_ifb_eq (pc := 21) (tgt := 44) dX5_path_21 (by decide) ?_ ?_ | refine jx_if_eq (pc := 21) (tgt := 44) dX5_path_21 (by decide) (by omega) ?_ ?_ | refine jw_if_eq (pc := 21) (tgt := 44) dX5_path_21 (by decide) ?_ ?_
    · intro h_21
      refine jw_iconst (pc := 44) dX5_path_44 ic_m1 ?_
      refine jw_ireturn (pc := 45) dX5_path_45 rfl (rfl) ?_
      refine ⟨_, rfl, ?_, hM, hf⟩
      show _ = q_path σ _ _
      unfold q_path
      first
        | (rw [h_10]; rfl)
        | (rw [h_41, Bool.and_false]; rfl)
        | (rw [show si σ 3 = -1 from h_29, show inb i (nI 0) (-1) = false from inb_m1 i, Bool.and_false]; rfl)
        | (have e := path_no hpi (fun n => n8 kp n) hkp h_21 (by omega) i; split; (next e1 => exact (e e1).symm); rfl)
    · intro h_21
      refine jw_aload_n (pc := 24) dX5_path_24 rfl ?_
      refine jx_getIs (pc := 25) (jf_X5_43_4.r) rfl dX5_path_25 rfl (is_90 hS) (by decide) (n3) ?_
      refine jw_iconst (pc := 28) dX5_path_28 ic_m1 ?_
      refine jw_icmp_eq (pc := 29) (tgt := 44) dX5_path_29 (by decide) ?_ ?_
      · intro h_29
        refine jw_iconst (pc := 44) dX5_path_44 ic_m1 ?_
        refine jw_ireturn (pc := 45) dX5_path_45 rfl (rfl) ?_
        refine ⟨_, rfl, ?_, hM, hf⟩
        show _ = q_path σ _ _
        unfold q_path
        first
          | (rw [h_10]; rfl)
          | (rw [h_41, Bool.and_false]; rfl)
          | (rw [show si σ 3 = -1 from h_29, show inb i (nI 0) (-1) = false from inb_m1 i, Bool.and_false]; rfl)
          | (have e := path_no hpi (fun n => n8 kp n) hkp h_21 (by omega) i; split; (next e1 => exact (e e1).symm); rfl)
      · intro h_29
        refine jw_iload_n (pc := 32) dX5_path_32 rfl ?_
        refine jw_iconst (pc := 33) dX5_path_33 ic_0 ?_
        refine jw_aload_n (pc := 34) dX5_path_34 rfl ?_
        refine jx_getIs (pc := 35) (jf_X5_43_4.r) rfl dX5_path_35 rfl (is_90 hS) (by decide) (n3) ?_
        refine jx_cSE (mi1 := mi_X5_in) (pc := 38) rfl dX5_path_38 lk_X5_135 rfl fi_X5_in (t_X5_in) (by first | decide | omega) rfl rfl (by decide) ?_
        first | refine jx_ifb_ne (pc := 41) (tgt := 46) dX5_path_41 (by decide) ?_ ?_ | refine jx_if_ne (pc := 41) (tgt := 46) dX5_path_41 (by decide) (by omega) ?_ ?_ | refine jw_if_ne (pc := 41) (tgt := 46) dX5_path_41 (by decide) ?_ ?_
        · intro h_41
          obtain ⟨ki, hki, rfl⟩ := path_ix hpi h_41
          obtain ⟨kn, hkn, hkn2⟩ : ∃ n, n ≤ 30 ∧ si σ 3 = nI n := hpi.resolve_left h_29
          have hki2 : ki ≤ kn := by
            rw [hkn2, inb_ix' (by omega), isIx_nI (by omega), decide_eq_true_eq] at h_41; omega
          have n8 := n8 kp kn hkp hkn2 hkn ki hki2
          rw [if_pos h_21] at n8
          refine jw_aload_n (pc := 46) dX5_path_46 rfl ?_
          refine jx_getRs (pc := 47) (jf_X5_46_4.r) rfl dX5_path_47 rfl (is_90 hS) (by decide) (sr_90_83 hS) ?_
          refine jw_iconst (pc := 50) dX5_path_50 ic_5 ?_
          refine jw_iload_n (pc := 51) dX5_path_51 rfl ?_
          first | refine jx_imul (pc := 52) dX5_path_52 ?_ | refine jw_imul (pc := 52) dX5_path_52 ?_
          refine jw_iload_n (pc := 53) dX5_path_53 rfl ?_
          first | refine jx_iadd (pc := 54) dX5_path_54 ?_ | refine jw_iadd (pc := 54) dX5_path_54 ?_
          refine jx_ialds (pc := 55) dX5_path_55 (ok_100 hS) (nn_100 hS) rfl (by omega) (n8) ?_
          refine jw_ireturn (pc := 56) dX5_path_56 rfl (rfl) ?_
          refine ⟨_, rfl, ?_, hM, hf⟩
          show _ = q_path σ _ _
          unfold q_path
          rw [if_pos (by rw [h_10, h_41]; rfl), iN_n (by omega), iN_n (by omega)]
        · intro h_41
          refine jw_iconst (pc := 44) dX5_path_44 ic_m1 ?_
          refine jw_ireturn (pc := 45) dX5_path_45 rfl (rfl) ?_
          refine ⟨_, rfl, ?_, hM, hf⟩
          show _ = q_path σ _ _
          unfold q_path
          first
            | (rw [h_10]; rfl)
            | (rw [h_41, Bool.and_false]; rfl)
            | (rw [show si σ 3 = -1 from h_29, show inb i (nI 0) (-1) = false from inb_m1 i, Bool.and_false]; rfl)
            | (have e := path_no hpi (fun n => n8 kp n) hkp h_21 (by omega) i; split; (next e1 => exact (e e1).symm); rfl)
end JM3
