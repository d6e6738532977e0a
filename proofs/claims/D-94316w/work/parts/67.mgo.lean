/-! ===== m: go ===== -/
theorem pfl_m {V : Vt} {τ : Sg} {people goal N p i : Nat} (hw : jWf V) (hpp : people < 2 ^ V 0 1) (h0 : 0 < V 0 0) (ho : ∀ p, p < V 0 1 → sa τ 0 p < V 0 0) (hg : goal < V 0 0 ^ cnt people) (hr : rch V τ people N goal = true) (hN : N ≤ 30) (hp : p < V 0 1) (hi : i ≤ N) : pfl V τ people goal N (N + 1) 0 (31 * p + i) = if people.testBit p = true then nI (dig 10 (cnt people) (pthC V τ people (phi (V 0 0) (cnt people) goal) N i) (cntN people p)) else -1 := by
  unfold pfl
  rw [show (31 * p + i) % 31 = i by omega, show (31 * p + i) / 31 = p by omega]
  by_cases hb : people.testBit p = true
  · rw [if_pos ⟨Or.inl (by omega), hb⟩, if_pos hb, pth_phi hw hpp h0 ho hg hr i hi, dig_phi h0 (wf_np hw) (cntN_bit (mv_n hw hpp) (wf_nq hw) hpp hp hb)]
  · rw [if_neg (fun q => hb q.2), if_neg hb]
section JMG
variable {G : Gh} {M : Mm} {σ : Sg} {w people : Nat} {V : Vt}
theorem lp_mg52 {M9 M M0 : Mm} {ka : Nat} {x2 : Int32} {q : Int32 × Sg} (hM0 : jMm M0 σ) (hv9 : sv σ = some V) (h : jMk M0 w V (sgT σ 0 (-1)) people) (hka : ka < V 0 0) (hf0 : jfm M M0)
    (hoo : q = (if goN V (sgT σ 0 (-1)) people (allS V people ka) < 31 then (nI (goN V (sgT σ 0 (-1)) people (allS V people ka)), sgP V (sgT σ 0 (-1)) people (allS V people ka) (goN V (sgT σ 0 (-1)) people (allS V people ka))) else (-2, sgT σ 0 (-1)))) :
    ∀ x : Nat × Mm, (x.1 ≤ 31 ∧ (jsm spE M0 x.2 ∧ jSh x.2) ∧ (x.1 ≤ 30 → jCk x.2 V (sgT σ 0 (-1)) people x.1 (10 ^ cnt people) (canC V (sgT σ 0 (-1)) people x.1)) ∧ ∀ j, j < x.1 → rch V (sgT σ 0 (-1)) people j (allS V people ka) = false) → jW G mi_X5_go 9 M9 52 [some (jr (some 90)), some (.int (nI people)), some (.int x2), some (.int (nI (allC people ka))), some (.int (nI x.1))] [] x.2 (jOm M q) := by
  have hc3 := h.2.1.2.1
  have h1000 := q10 hc3
  have hw9 := h.1.w
  have h0 : 0 < V 0 0 := h.2.1.2.2.1
  have ho := h.2.1.2.2.2.1
  have hgl : allS V people ka < V 0 0 ^ cnt people := codeN_lt (fun _ _ => hka)
  have hgc := all_phi (people := people) hw9 hka
  have hgl2 : allC people ka < 10 ^ cnt people := by rw [hgc]; exact phi_lt h0 (wf_np hw9)
  refine jW.loop (σ := Nat × Mm) _ (fun x => 31 - x.1) _ (fun _ => []) (fun x => x.2) (fun x hI ih => ?_)
  obtain ⟨i, M1⟩ := x
  obtain ⟨hi, ⟨hf, hS⟩, hC, hno⟩ := hI
  dsimp only at hi hf hS hC hno ih ⊢
  have h2 := h.fr hf hS (fun a => spE_k)
  have hM1 := hM0.mv hf (fun a => spE_k) hS
  have hf1 : jfm M M1 := hf0.tr (frmk hf (fun a => spE_k))
  by_cases hkn : i < 31
  · have hC1 := hC (by omega)
    have e1 := hC1.2 (allC people ka) hgl2
    rw [hgc, canC_phi hw9 h.2.1.1 h0 ho _ _ hgl, ← hgc] at e1
    have hno2 : rch V (sgT σ 0 (-1)) people i (allS V people ka) = false → ∀ j, j < i + 1 → rch V (sgT σ 0 (-1)) people j (allS V people ka) = false := fun z j hj => by
      by_cases e : j = i
      · subst e; exact z
      · exact hno j (by omega)
    have hok := fun (z : rch V (sgT σ 0 (-1)) people i (allS V people ka) = true) => pth_ok (nowS_lt hw9 h.2.1.1 ho) hgl z
    refine jw_iload (pc := 52) dX5_go_52 rfl ?_
    refine jw_bipush (pc := 54) dX5_go_54 bp_30 ?_
    first | refine jx_icmp_gt (pc := 56) (tgt := 110) dX5_go_56 (by decide) (by omega) (by omega) ?_ ?_ | refine jw_icmp_gt (pc := 56) (tgt := 110) dX5_go_56 (by decide) ?_ ?_
    · intro h_56
      omega
    · intro h_56
      refine jw_aload_n (pc := 59) dX5_go_59 rfl ?_
      refine jx_getRs (pc := 60) (jf_X5_33_4.r) rfl dX5_go_60 rfl (is_90 hS) (by decide) (sr_90_78 hS) ?_
      refine jw_sipush (pc := 63) dX5_go_63 sp_1000 ?_
      refine jw_iload (pc := 66) dX5_go_66 rfl ?_
      first | refine jx_imul (pc := 68) dX5_go_68 ?_ | refine jw_imul (pc := 68) dX5_go_68 ?_
      refine jw_iload_n (pc := 69) dX5_go_69 rfl ?_
      first | refine jx_iadd (pc := 70) dX5_go_70 ?_ | refine jw_iadd (pc := 70) dX5_go_70 ?_
      refine jx_zalds (pc := 71) dX5_go_71 (ok_97 hS) (nn_97 hS) rfl (by omega) (e1) ?_
      first | refine jx_ifb_eq (pc := 72) (tgt := 91) dX5_go_72 (by decide) ?_ ?_ | refine jx_if_eq (pc := 72) (tgt := 91) dX5_go_72 (by decide) (by omega) ?_ ?_ | refine jw_if_eq (pc := 72) (tgt := 91) dX5_go_72 (by decide) ?_ ?_
      · intro h_72
        refine jw_iload (pc := 91) dX5_go_91 rfl ?_
        refine jw_bipush (pc := 93) dX5_go_93 bp_30 ?_
        first | refine jx_icmp_ge (pc := 95) (tgt := 104) dX5_go_95 (by decide) (by omega) (by omega) ?_ ?_ | refine jw_icmp_ge (pc := 95) (tgt := 104) dX5_go_95 (by decide) ?_ ?_
        · intro h_95
          first | refine jx_iinc (pc := 104) dX5_go_104 rfl rfl ?_ | refine jw_iinc (pc := 104) dX5_go_104 rfl rfl rfl ?_
          try dsimp only [jput1, jkill, jclr, jis2_i, jis2_l, jis2_rs, jis2_rn, cond]
          refine jw_goto (pc := 107) (tgt := 52) dX5_go_107 (by decide) ?_
          first
            | exact ih (i + 1, M_101) ⟨by dsimp only; omega, ⟨hf.tr q1, q2⟩, fun _ => q3, hno2 h_72⟩ (by dsimp only; omega)
            | exact ih (i + 1, M1) ⟨by dsimp only; omega, ⟨hf, hS⟩, fun z => by dsimp only at z; omega, hno2 h_72⟩ (by dsimp only; omega)
        · intro h_95
          refine jw_aload_n (pc := 98) dX5_go_98 rfl ?_
          refine jw_iload (pc := 99) dX5_go_99 rfl ?_
          refine jx_cVv (mi1 := mi_X5_spreads) (pc := 101) rfl dX5_go_101 lk_X5_513 rfl fi_X5_spreads rfl rfl rfl (by decide) (is_90 hS) (t_X5_spreads h2 (by omega) hC1) (by first | decide | omega) rfl rfl (by decide) ?_
          intro M_101 q_101
          obtain ⟨q1, q2, q3⟩ := q_101
          have hS := q2
          first | refine jx_iinc (pc := 104) dX5_go_104 rfl rfl ?_ | refine jw_iinc (pc := 104) dX5_go_104 rfl rfl rfl ?_
          try dsimp only [jput1, jkill, jclr, jis2_i, jis2_l, jis2_rs, jis2_rn, cond]
          refine jw_goto (pc := 107) (tgt := 52) dX5_go_107 (by decide) ?_
          first
            | exact ih (i + 1, M_101) ⟨by dsimp only; omega, ⟨hf.tr q1, q2⟩, fun _ => q3, hno2 h_72⟩ (by dsimp only; omega)
            | exact ih (i + 1, M1) ⟨by dsimp only; omega, ⟨hf, hS⟩, fun z => by dsimp only at z; omega, hno2 h_72⟩ (by dsimp only; omega)
      · intro h_72
        refine jw_aload_n (pc := 75) dX5_go_75 rfl ?_
        refine jw_iload_n (pc := 76) dX5_go_76 rfl ?_
        refine jw_iload_n (pc := 77) dX5_go_77 rfl ?_
        refine jw_iload (pc := 78) dX5_go_78 rfl ?_
        refine jx_cVv (mi1 := mi_X5_keepsPath) (pc := 80) rfl dX5_go_80 lk_X5_509 rfl fi_X5_keepsPath rfl rfl rfl (by decide) (is_90 hS) (t_X5_keepsPath (V := V) (f := pfl V (sgT σ 0 (-1)) people (allS V people ka) i (i + 1) 0) h2 hM1 hv9 (by omega) hgl2 hC1 (fun i' hi' => by rw [hgc, pth_phi hw9 h.2.1.1 h0 ho hgl h_72 i' hi']; exact ⟨phi_lt h0 (wf_np hw9), valB_phi h0 (wf_np hw9)⟩) (fun p i' hp hi' => by rw [hgc]; exact pfl_m hw9 h.2.1.1 h0 ho hgl h_72 (by omega) hp hi')) (by first | decide | omega) rfl rfl (by decide) ?_
        intro M_80 q_80
        obtain ⟨q1, q2⟩ := q_80
        have hS := q1.1
        refine jw_aload_n (pc := 83) dX5_go_83 rfl ?_
        refine jw_iload (pc := 84) dX5_go_84 rfl ?_
        refine jw_iconst (pc := 86) dX5_go_86 ic_0 ?_
        refine jx_cVi (mi1 := mi_X5_told) (pc := 87) rfl dX5_go_87 lk_X5_66 rfl fi_X5_told rfl rfl rfl (by decide) (is_90 hS) (t_X5_told0 q1) (by first | decide | omega) rfl rfl (by decide) ?_
        intro x_87 M_87 q_87
        refine jw_ireturn (pc := 90) dX5_go_90 rfl (rfl) ?_
        obtain ⟨z1, z2, z3⟩ := q_87
        have e9 : goN V (sgT σ 0 (-1)) people (allS V people ka) = i := fst_hit hkn h_72 hno
        rw [hoo, e9, if_pos hkn]
        refine ⟨_, rfl, z1, ?_, hf1.tr (q2.tr z3)⟩
        rw [sgT_P] at z2; exact z2
  · have hk' : i = 31 := by omega
    subst hk'
    refine jw_iload (pc := 52) dX5_go_52 rfl ?_
    refine jw_bipush (pc := 54) dX5_go_54 bp_30 ?_
    first | refine jx_icmp_gt (pc := 56) (tgt := 110) dX5_go_56 (by decide) (by omega) (by omega) ?_ ?_ | refine jw_icmp_gt (pc := 56) (tgt := 110) dX5_go_56 (by decide) ?_ ?_
    · intro h_56
      refine jw_aload_n (pc := 110) dX5_go_110 rfl ?_
      refine jw_bipush (pc := 111) dX5_go_111 bp_m2 ?_
      refine jw_iconst (pc := 113) dX5_go_113 ic_0 ?_
      refine jx_cVi (mi1 := mi_X5_told) (pc := 114) rfl dX5_go_114 lk_X5_66 rfl fi_X5_told rfl rfl rfl (by decide) (is_90 hS) (t_X5_told0 hM1) (by first | decide | omega) rfl rfl (by decide) ?_
      intro x_114 M_114 q_114
      refine jw_ireturn (pc := 117) dX5_go_117 rfl (rfl) ?_
      obtain ⟨z1, z2, z3⟩ := q_114
      have e9 : goN V (sgT σ 0 (-1)) people (allS V people ka) = 31 := fst_none hno
      rw [hoo, e9, if_neg (Nat.lt_irrefl _)]
      exact ⟨_, rfl, z1, z2, hf1.tr z3⟩
    · intro h_56
      omega
theorem t_X5_go {p a : Int32} (h : jMm M σ) : jT G mi_X5_go 9 [jr (some 90), .int p, .int a] M (jOm M (o_go σ p a)) := by
  have hS := h.1
  refine jT.of (by decide) rfl (Nat.le_of_ble_eq_true rfl) ?_
  refine jw_aload_n (pc := 0) dX5_go_0 rfl ?_
  refine jw_iconst (pc := 1) dX5_go_1 ic_0 ?_
  refine jx_putI (pc := 2) jf_X5_56_4 rfl dX5_go_2 rfl rfl (is_90 hS) (by decide) ?_
  have hM := mthr (x := nI 0) h
  have hf : jfm M (js_I M 90 49 (nI 0)) := jsm.I (by decide)
  generalize js_I M 90 49 (nI 0) = M0 at hM hf ⊢
  clear hS
  have hS := hM.1
  refine jw_aload_n (pc := 5) dX5_go_5 rfl ?_
  refine jw_iload_n (pc := 6) dX5_go_6 rfl ?_
  refine jx_cVE (mi1 := mi_X5_isPlace) (pc := 7) rfl dX5_go_7 lk_X5_414 rfl fi_X5_isPlace rfl rfl rfl (by decide) (is_90 hS) (t_X5_isPlace (o := sv σ) hM rfl) (by first | decide | omega) rfl rfl (by decide) ?_
  first | refine jx_ifb_ne (pc := 10) (tgt := 19) dX5_go_10 (by decide) ?_ ?_ | refine jx_if_ne (pc := 10) (tgt := 19) dX5_go_10 (by decide) (by omega) ?_ ?_ | refine jw_if_ne (pc := 10) (tgt := 19) dX5_go_10 (by decide) ?_ ?_
  · intro h_10
    refine jw_aload_n (pc := 19) dX5_go_19 rfl ?_
    refine jw_iload_n (pc := 20) dX5_go_20 rfl ?_
    refine jw_iconst (pc := 21) dX5_go_21 ic_3 ?_
    refine jx_cVE (mi1 := mi_X5_isMovers) (pc := 22) rfl dX5_go_22 lk_X5_497 rfl fi_X5_isMovers rfl rfl rfl (by decide) (is_90 hS) (t_X5_isMovers hM (by decide)) (by first | decide | omega) rfl rfl (by decide) ?_
    first | refine jx_ifb_ne (pc := 25) (tgt := 34) dX5_go_25 (by decide) ?_ ?_ | refine jx_if_ne (pc := 25) (tgt := 34) dX5_go_25 (by decide) (by omega) ?_ ?_ | refine jw_if_ne (pc := 25) (tgt := 34) dX5_go_25 (by decide) ?_ ?_
    · intro h_25
      obtain ⟨V, ka, hv9, hka, rfl⟩ := ixV_t h_10
      have h5 : pplW (sv σ) p 3 = 0 := of_decide_eq_true h_25
      obtain ⟨V2, kp, eV, hkp, hk1, rfl, hc3, hiN⟩ := pplW_0 h5
      have eW : V2 = V := Option.some.inj (eV.symm.trans hv9)
      subst eW
      have hw9 := (hM.2.1.2 V2 hv9).1
      have hnp := wf_np hw9
      refine jw_aload_n (pc := 34) dX5_go_34 rfl ?_
      refine jw_iload_n (pc := 35) dX5_go_35 rfl ?_
      refine jx_cVv (mi1 := mi_X5_takesMovers) (pc := 36) rfl dX5_go_36 lk_X5_500 rfl fi_X5_takesMovers rfl rfl rfl (by decide) (is_90 hS) (t_X5_takesMovers hM hv9 hkp hc3) (by first | decide | omega) rfl rfl (by decide) ?_
      intro M_36 q_36
      obtain ⟨hM2, hf2, w, hk⟩ := q_36
      have hS := hM2.1
      refine jw_aload_n (pc := 39) dX5_go_39 rfl ?_
      refine jw_iload_n (pc := 40) dX5_go_40 rfl ?_
      refine jx_cVE (mi1 := mi_X5_allAt) (pc := 41) rfl dX5_go_41 lk_X5_503 rfl fi_X5_allAt rfl rfl rfl (by decide) (is_90 hS) (t_X5_allAt hk (by omega)) (by first | decide | omega) rfl rfl (by decide) ?_
      refine jw_istore_n (pc := 44) dX5_go_44 (Nat.le_of_ble_eq_true rfl) rfl ?_
      try dsimp only [jput1, jput2, jkill, jclr, jis2_i, jis2_l, jis2_rs, jis2_rn, cond]
      refine jw_aload_n (pc := 45) dX5_go_45 rfl ?_
      refine jx_cVv (mi1 := mi_X5_sets) (pc := 46) rfl dX5_go_46 lk_X5_506 rfl fi_X5_sets rfl rfl rfl (by decide) (is_90 hS) (t_X5_sets hk) (by first | decide | omega) rfl rfl (by decide) ?_
      intro M_46 q_46
      obtain ⟨q1, q2, q3⟩ := q_46
      have hS := q2
      refine jw_iconst (pc := 49) dX5_go_49 ic_0 ?_
      refine jw_istore (pc := 50) dX5_go_50 (Nat.le_of_ble_eq_true rfl) rfl ?_
      try dsimp only [jput1, jput2, jkill, jclr, jis2_i, jis2_l, jis2_rs, jis2_rn, cond]
      refine lp_mg52 (hM2.mv q1 (fun a z => by unfold mkE; omega) q2) hv9 (hk.fr q1 q2 (fun a z => by unfold mkE; omega)) hka (hf.tr (hf2.tr (q1.wk (fun a z => by subst z; decide)))) ?_ (0, M_46) ⟨Nat.zero_le _, ⟨jsm.rf, q2⟩, fun _ => q3, fun j hj => absurd hj (Nat.not_lt_zero _)⟩
      unfold o_go
      rw [if_pos h_10, if_pos h5, vv_s hv9, hiN, iN_n (show ka < 2 ^ 31 by omega)]
    · intro h_25
      refine jw_aload_n (pc := 28) dX5_go_28 rfl ?_
      refine jw_iconst (pc := 29) dX5_go_29 ic_2 ?_
      refine jx_cVi (mi1 := mi_X5_refused) (pc := 30) rfl dX5_go_30 lk_X5_62 rfl fi_X5_refused rfl rfl rfl (by decide) (is_90 hS) (t_X5_refused hM) (by first | decide | omega) rfl rfl (by decide) ?_
      intro x_30 M_30 q_30
      refine jw_ireturn (pc := 33) dX5_go_33 rfl (rfl) ?_
      obtain ⟨z1, z2, z3⟩ := q_30
      have h5 : ¬ pplW (sv σ) p 3 = 0 := of_decide_eq_false h_25
      obtain ⟨V, ka, hv9, hka, rfl⟩ := ixV_t h_10
      have h6 : pplW (sv σ) p 3 = 2 := by
        rw [hv9] at h5 ⊢
        rw [pplW_s] at h5 ⊢
        split at h5
        · exact absurd rfl h5
        · rename_i q; rw [if_neg q]
      refine ⟨_, rfl, ?_⟩
      unfold o_go
      rw [if_pos h_10, if_neg h5, h6]
      exact ⟨z1, z2, hf.tr z3⟩
  · intro h_10
    refine jw_aload_n (pc := 13) dX5_go_13 rfl ?_
    refine jw_iconst (pc := 14) dX5_go_14 ic_1 ?_
    refine jx_cVi (mi1 := mi_X5_refused) (pc := 15) rfl dX5_go_15 lk_X5_62 rfl fi_X5_refused rfl rfl rfl (by decide) (is_90 hS) (t_X5_refused hM) (by first | decide | omega) rfl rfl (by decide) ?_
    intro x_15 M_15 q_15
    refine jw_ireturn (pc := 18) dX5_go_18 rfl (rfl) ?_
    obtain ⟨z1, z2, z3⟩ := q_15
    refine ⟨_, rfl, ?_⟩
    unfold o_go
    rw [h_10]
    exact ⟨z1, z2, hf.tr z3⟩
end JMG
