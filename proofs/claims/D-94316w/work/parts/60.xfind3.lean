/-! ===== x: find, the whole ===== -/
theorem nowS_lt {V : Vt} {σ : Sg} {people : Nat} (hw : jWf V) (hp : people < 2 ^ V 0 1) (ho : ∀ p, p < V 0 1 → sa σ 0 p < V 0 0) : nowS V σ people < V 0 0 ^ cnt people := codeN_lt (fun k hk => ho _ (bit_lt hp (mv_ok (mv_n hw hp) hk).2.1))
theorem pw2 {P n : Nat} (hP : P ≤ 10) (hn : n ≤ 2) : P ^ n ≤ 100 := Nat.le_trans (Nat.pow_le_pow_left hP n) (Nat.le_trans (Nat.pow_le_pow_right (n := 10) (by decide) hn) (by decide))
theorem lkR_s (V : Vt) (σ : Sg) (people places i : Nat) : lkR V σ people places (i + 1) = furS V σ people places (sn σ 0 + (i + 1)) (lkR V σ people places i) (V 0 0 ^ cnt people) := rfl
section JXF3
variable {G : Gh} {M : Mm} {σ : Sg}
theorem lp_fd109 {M9 M0 : Mm} {V : Vt} {people places : Nat} {x1 : Value} {x3 : Int32} {P : Rs → Mm → Prop} (h : jXx M0 σ) (hv9 : sv σ = some V) (hm : jMv M0 V people) (hN : V 0 0 ^ cnt people ≤ 100) (hpl : places < 1024)
    (fin : ∀ M', jsm mvf M0 M' → jSh M' → P (.inl (some (.int (findI V σ people places)))) M') :
    ∀ x : Nat × Mm, (x.1 ≤ 13 ∧ (jsm mvf M0 x.2 ∧ jSh x.2) ∧ (x.1 ≤ 12 → jLk x.2 88 (V 0 0 ^ cnt people) (lkR V σ people places x.1)) ∧ ∀ j, j < x.1 → findAt V σ people places j = false) → jW G mi_X1_find 8 M9 109 [some (jr (some 64)), some x1, some (.int (nI places)), some (.int x3), some (.int (nI x.1))] [] x.2 P := by
  have hst := (h.2.1.2 V hv9).2.2.2.1
  refine jW.loop (σ := Nat × Mm) _ (fun x => 13 - x.1) _ (fun _ => []) (fun x => x.2) (fun x hI ih => ?_)
  obtain ⟨n, M1⟩ := x
  obtain ⟨hn, ⟨hf, hS⟩, hL, hno⟩ := hI
  dsimp only at hn hf hS hL hno ih ⊢
  have hX1 := h.mv hf (fun a => mvf_E) hS
  have hm1 := hm.fr h.1 hf (fun a => mvf_E)
  obtain ⟨v, hs, hN1⟩ := hX1.so hv9
  by_cases hkn : n < 13
  · have hL1 := hL (by omega)
    have hno2 : findAt V σ people places n = false → ∀ j, j < n + 1 → findAt V σ people places j = false := fun q j hj => by
      by_cases e : j = n
      · subst e; exact q
      · exact hno j (by omega)
    by_cases hk2 : n < 12
    ·
      refine jw_iload (pc := 109) dX1_find_109 rfl ?_
      refine jw_bipush (pc := 111) dX1_find_111 bp_12 ?_
      first | refine jx_icmp_gt (pc := 113) (tgt := 153) dX1_find_113 (by decide) (by omega) (by omega) ?_ ?_ | refine jw_icmp_gt (pc := 113) (tgt := 153) dX1_find_113 (by decide) ?_ ?_
      · intro h_113
        omega
      · intro h_113
        refine jw_aload_n (pc := 116) dX1_find_116 rfl ?_
        refine jw_aload_n (pc := 117) dX1_find_117 rfl ?_
        refine jx_getRs (pc := 118) (jf_X1_75_0.r) rfl dX1_find_118 rfl (is_64 hS) (by decide) (sr_64_26 hS) ?_
        refine jw_iload_n (pc := 121) dX1_find_121 rfl ?_
        refine jx_cVE (mi1 := mi_X1_isFound) (pc := 122) rfl dX1_find_122 lk_X1_356 rfl fi_X1_isFound rfl rfl rfl (by decide) (is_64 hS) (t_X1_isFound hX1 hv9 hm1 hN hpl hL1) (by first | decide | omega) rfl rfl (by decide) ?_
        first | refine jx_ifb_ne (pc := 125) (tgt := 153) dX1_find_125 (by decide) ?_ ?_ | refine jx_if_ne (pc := 125) (tgt := 153) dX1_find_125 (by decide) (by omega) ?_ ?_ | refine jw_if_ne (pc := 125) (tgt := 153) dX1_find_125 (by decide) ?_ ?_
        · intro h_125
          refine jw_iload (pc := 153) dX1_find_153 rfl ?_
          refine jw_bipush (pc := 155) dX1_find_155 bp_12 ?_
          first | refine jx_icmp_gt (pc := 157) (tgt := 165) dX1_find_157 (by decide) (by omega) (by omega) ?_ ?_ | refine jw_icmp_gt (pc := 157) (tgt := 165) dX1_find_157 (by decide) ?_ ?_
          · intro h_157
            omega
          · intro h_157
            refine jw_iload (pc := 160) dX1_find_160 rfl ?_
            refine jw_goto (pc := 162) (tgt := 167) dX1_find_162 (by decide) ?_
            refine jw_ireturn (pc := 167) dX1_find_167 rfl (rfl) ?_
            refine cast ?_ (fin M1 hf hS)
            have e9 : findN V σ people places = n := fst_hit hkn h_125 hno
            unfold findI; rw [e9, if_pos hkn]
        · intro h_125
          first | refine jx_iinc (pc := 128) dX1_find_128 rfl rfl ?_ | refine jw_iinc (pc := 128) dX1_find_128 rfl rfl rfl ?_
          try dsimp only [jput1, jkill, jclr, jis2_i, jis2_l, jis2_rs, jis2_rn, cond]
          refine jw_iload (pc := 131) dX1_find_131 rfl ?_
          refine jw_bipush (pc := 133) dX1_find_133 bp_12 ?_
          first | refine jx_icmp_gt (pc := 135) (tgt := 109) dX1_find_135 (by decide) (by omega) (by omega) ?_ ?_ | refine jw_icmp_gt (pc := 135) (tgt := 109) dX1_find_135 (by decide) ?_ ?_
          · intro h_135
            omega
          · intro h_135
            refine jw_aload_n (pc := 138) dX1_find_138 rfl ?_
            refine jw_iload_n (pc := 139) dX1_find_139 rfl ?_
            refine jw_aload_n (pc := 140) dX1_find_140 rfl ?_
            refine jx_getIs (pc := 141) (jf_X1_131_0.r) rfl dX1_find_141 rfl (is_64 hS) (by decide) (hN1.1) ?_
            refine jw_iload (pc := 144) dX1_find_144 rfl ?_
            first | refine jx_iadd (pc := 146) dX1_find_146 ?_ | refine jw_iadd (pc := 146) dX1_find_146 ?_
            refine jx_cVv (mi1 := mi_X1_further) (pc := 147) rfl dX1_find_147 lk_X1_360 rfl fi_X1_further rfl rfl rfl (by decide) (is_64 hS) (t_X1_further (t := sn σ 0 + (n + 1)) hX1 hv9 hm1 hN (by omega) hpl hL1) (by first | decide | omega) rfl rfl (by decide) ?_
            intro M_147 q_147
            obtain ⟨q1, q2, q3⟩ := q_147
            refine jw_goto (pc := 150) (tgt := 109) dX1_find_150 (by decide) ?_
            exact ih (n + 1, M_147) ⟨show n + 1 ≤ 13 by omega, ⟨hf.tr q1, q2⟩, fun _ => (lkR_s V σ people places n ▸ q3), hno2 h_125⟩ (by dsimp only; omega)
    · have hk12 : n = 12 := by omega
      subst hk12
      refine jw_iload (pc := 109) dX1_find_109 rfl ?_
      refine jw_bipush (pc := 111) dX1_find_111 bp_12 ?_
      first | refine jx_icmp_gt (pc := 113) (tgt := 153) dX1_find_113 (by decide) (by omega) (by omega) ?_ ?_ | refine jw_icmp_gt (pc := 113) (tgt := 153) dX1_find_113 (by decide) ?_ ?_
      · intro h_113
        omega
      · intro h_113
        refine jw_aload_n (pc := 116) dX1_find_116 rfl ?_
        refine jw_aload_n (pc := 117) dX1_find_117 rfl ?_
        refine jx_getRs (pc := 118) (jf_X1_75_0.r) rfl dX1_find_118 rfl (is_64 hS) (by decide) (sr_64_26 hS) ?_
        refine jw_iload_n (pc := 121) dX1_find_121 rfl ?_
        refine jx_cVE (mi1 := mi_X1_isFound) (pc := 122) rfl dX1_find_122 lk_X1_356 rfl fi_X1_isFound rfl rfl rfl (by decide) (is_64 hS) (t_X1_isFound hX1 hv9 hm1 hN hpl hL1) (by first | decide | omega) rfl rfl (by decide) ?_
        first | refine jx_ifb_ne (pc := 125) (tgt := 153) dX1_find_125 (by decide) ?_ ?_ | refine jx_if_ne (pc := 125) (tgt := 153) dX1_find_125 (by decide) (by omega) ?_ ?_ | refine jw_if_ne (pc := 125) (tgt := 153) dX1_find_125 (by decide) ?_ ?_
        · intro h_125
          refine jw_iload (pc := 153) dX1_find_153 rfl ?_
          refine jw_bipush (pc := 155) dX1_find_155 bp_12 ?_
          first | refine jx_icmp_gt (pc := 157) (tgt := 165) dX1_find_157 (by decide) (by omega) (by omega) ?_ ?_ | refine jw_icmp_gt (pc := 157) (tgt := 165) dX1_find_157 (by decide) ?_ ?_
          · intro h_157
            omega
          · intro h_157
            refine jw_iload (pc := 160) dX1_find_160 rfl ?_
            refine jw_goto (pc := 162) (tgt := 167) dX1_find_162 (by decide) ?_
            refine jw_ireturn (pc := 167) dX1_find_167 rfl (rfl) ?_
            refine cast ?_ (fin M1 hf hS)
            have e9 : findN V σ people places = 12 := fst_hit hkn h_125 hno
            unfold findI; rw [e9, if_pos hkn]
        · intro h_125
          first | refine jx_iinc (pc := 128) dX1_find_128 rfl rfl ?_ | refine jw_iinc (pc := 128) dX1_find_128 rfl rfl rfl ?_
          try dsimp only [jput1, jkill, jclr, jis2_i, jis2_l, jis2_rs, jis2_rn, cond]
          refine jw_iload (pc := 131) dX1_find_131 rfl ?_
          refine jw_bipush (pc := 133) dX1_find_133 bp_12 ?_
          first | refine jx_icmp_gt (pc := 135) (tgt := 109) dX1_find_135 (by decide) (by omega) (by omega) ?_ ?_ | refine jw_icmp_gt (pc := 135) (tgt := 109) dX1_find_135 (by decide) ?_ ?_
          · intro h_135
            exact ih (13, M1) ⟨Nat.le_refl _, ⟨hf, hS⟩, fun c => absurd c (show ¬ (13 ≤ 12) by decide), hno2 h_125⟩ (by dsimp only; omega)
          · intro h_135
            omega
  · have hk' : n = 13 := by omega
    subst hk'
    refine jw_iload (pc := 109) dX1_find_109 rfl ?_
    refine jw_bipush (pc := 111) dX1_find_111 bp_12 ?_
    first | refine jx_icmp_gt (pc := 113) (tgt := 153) dX1_find_113 (by decide) (by omega) (by omega) ?_ ?_ | refine jw_icmp_gt (pc := 113) (tgt := 153) dX1_find_113 (by decide) ?_ ?_
    · intro h_113
      refine jw_iload (pc := 153) dX1_find_153 rfl ?_
      refine jw_bipush (pc := 155) dX1_find_155 bp_12 ?_
      first | refine jx_icmp_gt (pc := 157) (tgt := 165) dX1_find_157 (by decide) (by omega) (by omega) ?_ ?_ | refine jw_icmp_gt (pc := 157) (tgt := 165) dX1_find_157 (by decide) ?_ ?_
      · intro h_157
        refine jw_bipush (pc := 165) dX1_find_165 bp_m2 ?_
        refine jw_ireturn (pc := 167) dX1_find_167 rfl (rfl) ?_
        refine cast ?_ (fin M1 hf hS)
        have e9 : findN V σ people places = 13 := fst_none hno
        unfold findI; rw [e9, if_neg (Nat.lt_irrefl _)]
      · intro h_157
        omega
    · intro h_113
      omega
theorem lp_fd50 {M9 M : Mm} {V : Vt} {people places : Nat} {x1 : Value} {x3 : Int32} {P : Rs → Mm → Prop} (h : jXx M σ) (hv9 : sv σ = some V) (hm : jMv M V people) (hN : V 0 0 ^ cnt people ≤ 100) (hpl : places < 1024)
    (fin : ∀ M', jsm mvf M M' → jSh M' → P (.inl (some (.int (findI V σ people places)))) M') : ∀ k : Nat, k ≤ 1024 * V 0 0 ^ cnt people → jW G mi_X1_find 8 M9 50 [some (jr (some 64)), some x1, some (.int (nI places)), some (.int x3), some (.int (nI k))] [] (js_As M 88 (fun j => if j < k then nI 0 else jm_A M 88 j)) P := by
  have hS := h.1
  have hst := (h.2.1.2 V hv9).2.2.2.1
  have hw9 := (h.2.1.2 V hv9).1
  have ho := (h.2.1.2 V hv9).2.1
  refine jW.loop _ (fun k => 1024 * V 0 0 ^ cnt people - k) _ (fun _ => []) (fun k => js_As M 88 (fun j => if j < k then nI 0 else jm_A M 88 j)) (fun k hk ih => ?_)
  by_cases hkn : k < 1024 * V 0 0 ^ cnt people
  ·
    refine jw_iload (pc := 50) dX1_find_50 rfl ?_
    refine jw_sipush (pc := 52) dX1_find_52 sp_1024 ?_
    refine jw_aload_n (pc := 55) dX1_find_55 rfl ?_
    refine jx_getIs (pc := 56) (jf_X1_290_0.r) rfl dX1_find_56 rfl (is_64 hS) (by decide) (hm.2.2.1) ?_
    first | refine jx_imul (pc := 59) dX1_find_59 ?_ | refine jw_imul (pc := 59) dX1_find_59 ?_
    first | refine jx_icmp_ge (pc := 60) (tgt := 77) dX1_find_60 (by decide) (by omega) (by omega) ?_ ?_ | refine jw_icmp_ge (pc := 60) (tgt := 77) dX1_find_60 (by decide) ?_ ?_
    · intro h_60
      omega
    · intro h_60
      refine jw_aload_n (pc := 63) dX1_find_63 rfl ?_
      refine jx_getRs (pc := 64) (jf_X1_75_0.r) rfl dX1_find_64 rfl (is_64 hS) (by decide) (sr_64_26 hS) ?_
      refine jw_iload (pc := 67) dX1_find_67 rfl ?_
      refine jw_iconst (pc := 69) dX1_find_69 ic_0 ?_
      refine jx_zast (pc := 70) dX1_find_70 (by decide) (ok_88 hS) (nn_88 hS) rfl (by omega) (by exact jnar_0) ?_
      first | refine jx_iinc (pc := 71) dX1_find_71 rfl rfl ?_ | refine jw_iinc (pc := 71) dX1_find_71 rfl rfl rfl ?_
      try dsimp only [jput1, jkill, jclr, jis2_i, jis2_l, jis2_rs, jis2_rn, cond]
      refine jw_goto (pc := 74) (tgt := 50) dX1_find_74 (by decide) ?_
      refine jW.eq rfl rfl ?_ (ih (k + 1) hkn (by omega))
      rw [jAs_A]
      refine jAs_cg (fun i => ?_)
      by_cases e : i = k
      · rw [if_pos e, if_pos (by omega)]
      · rw [if_neg e]
        by_cases e2 : i < k
        · rw [if_pos e2, if_pos (by omega)]
        · rw [if_neg e2, if_neg (by omega)]
  · have hk' : k = 1024 * V 0 0 ^ cnt people := by omega
    subst hk'
    have hnow := nowS_lt (σ := σ) hw9 hm.1.1 ho
    have g1 : jsm mvf M (js_As M 88 (fun j => if j < 1024 * V 0 0 ^ cnt people then nI 0 else jm_A M 88 j)) := jsm.As (by unfold mvf; omega)
    have hZ : jLk (js_As M 88 (fun j => if j < 1024 * V 0 0 ^ cnt people then nI 0 else jm_A M 88 j)) 88 (V 0 0 ^ cnt people) (fun _ _ => false) := fun s set q1 q2 => by rw [jA_rd, if_pos (by omega)]; rfl
    have hX1 := h.mv g1 (fun a => mvf_E) hS
    have hm1 := hm.fr hS g1 (fun a => mvf_E)
    have hS1 : jSh (js_As M 88 (fun j => if j < 1024 * V 0 0 ^ cnt people then nI 0 else jm_A M 88 j)) := hS
    generalize js_As M 88 (fun j => if j < 1024 * V 0 0 ^ cnt people then nI 0 else jm_A M 88 j) = M1 at g1 hZ hX1 hm1 hS1 ⊢
    clear hS
    have hS := hS1
    have g2 : jsm mvf M1 (js_As M1 82 (nowG M1 σ people (cnt people))) := jsm.As (by unfold mvf; omega)
    have hX2 := hX1.mv g2 (fun a => mvf_E) hS
    have hm2 := hm1.fr hS g2 (fun a => mvf_E)
    have hZ2 : jLk (js_As M1 82 (nowG M1 σ people (cnt people))) 88 (V 0 0 ^ cnt people) (fun _ _ => false) := fun s set q1 q2 => (jA_rn (by decide)).trans (hZ s set q1 q2)
    have hf2 := g1.tr g2
    have hS2 : jSh (js_As M1 82 (nowG M1 σ people (cnt people))) := hS
    have K : ∀ M2, jXx M2 σ → jMv M2 V people → jLk M2 88 (V 0 0 ^ cnt people) (fun _ _ => false) → jsm mvf M M2 → jSh M2 → jW G mi_X1_find 8 M9 88 [some (jr (some 64)), some x1, some (.int (nI places)), some (.int x3), some (.int (nI (1024 * V 0 0 ^ cnt people)))] [.int (nI (nowS V σ people)), .int (nI 1024), jr (some 88)] M2 P := by
      intro M2 hX2 hm2 hZ2 hf2 hS
      have g3 : jsm mvf M2 (js_As M2 82 (nowG M2 σ people (cnt people))) := jsm.As (by unfold mvf; omega)
      have hX3 := hX2.mv g3 (fun a => mvf_E) hS
      have hm3 := hm2.fr hS g3 (fun a => mvf_E)
      have hZ3 : jLk (js_As M2 82 (nowG M2 σ people (cnt people))) 88 (V 0 0 ^ cnt people) (fun _ _ => false) := fun s set q1 q2 => (jA_rn (by decide)).trans (hZ2 s set q1 q2)
      have hf3 := hf2.tr g3
      have hS3 : jSh (js_As M2 82 (nowG M2 σ people (cnt people))) := hS
      have K2 : ∀ M3, jXx M3 σ → jMv M3 V people → jLk M3 88 (V 0 0 ^ cnt people) (fun _ _ => false) → jsm mvf M M3 → jSh M3 → jW G mi_X1_find 8 M9 94 [some (jr (some 64)), some x1, some (.int (nI places)), some (.int x3), some (.int (nI (1024 * V 0 0 ^ cnt people)))] [.int (nI (nowS V σ people)), jr (some 64), .int (nI (1024 * nowS V σ people)), jr (some 88)] M3 P := by
        intro M3 hX3 hm3 hZ3 hf3 hS
        obtain ⟨v3, hs3, hN3⟩ := hX3.so hv9
        have g4 : jsm mvf M3 (js_As M3 83 (plcG M3 83 (V 0 0) (cnt people) (nowS V σ people) (cnt people))) := jsm.As (by unfold mvf; omega)
        have hX4 := hX3.mv g4 (fun a => mvf_E) hS
        have hm4 := hm3.fr hS g4 (fun a => mvf_E)
        have hZ4 : jLk (js_As M3 83 (plcG M3 83 (V 0 0) (cnt people) (nowS V σ people) (cnt people))) 88 (V 0 0 ^ cnt people) (fun _ _ => false) := fun s set q1 q2 => (jA_rn (by decide)).trans (hZ3 s set q1 q2)
        have hf4 := hf3.tr g4
        have hmo : lkS V people (sn σ 0) (nowS V σ people) &&& places < 1024 := Nat.lt_of_le_of_lt Nat.and_le_right hpl
        have hS4 : jSh (js_As M3 83 (plcG M3 83 (V 0 0) (cnt people) (nowS V σ people) (cnt people))) := hS
        refine jw_aload_n (pc := 94) dX1_find_94 rfl ?_
        refine jx_getIs (pc := 95) (jf_X1_131_0.r) rfl dX1_find_95 rfl (is_64 hS) (by decide) (hN3.1) ?_
        refine jx_cVE (mi1 := mi_X1_lookedAt) (pc := 98) rfl dX1_find_98 lk_X1_347 rfl fi_X1_lookedAt rfl rfl rfl (by decide) (is_64 hS) (t_X1_lookedAt hX3 hv9 hm3 (by omega) (by omega)) (by first | decide | omega) rfl rfl (by simp only [List.map_cons, List.map_nil, List.sum_cons, List.sum_nil, cat_i, cat_l, jr_cat]; decide) ?_
        refine jw_iload_n (pc := 101) dX1_find_101 rfl ?_
        refine jw_iand (pc := 102) dX1_find_102 ?_
        rw [nI_and']
        generalize js_As M3 83 (plcG M3 83 (V 0 0) (cnt people) (nowS V σ people) (cnt people)) = M4 at hX4 hm4 hZ4 hf4 hS4 ⊢
        clear hS
        have hS := hS4
        first | refine jx_iadd (pc := 103) dX1_find_103 ?_ | refine jw_iadd (pc := 103) dX1_find_103 ?_
        refine jw_iconst (pc := 104) dX1_find_104 ic_1 ?_
        refine jx_zast (pc := 105) dX1_find_105 (by decide) (ok_88 hS) (nn_88 hS) rfl (by omega) (by exact jnar_1) ?_
        refine jw_iconst (pc := 106) dX1_find_106 ic_0 ?_
        refine jw_istore (pc := 107) dX1_find_107 (Nat.le_of_ble_eq_true rfl) rfl ?_
        try dsimp only [jput1, jput2, jkill, jclr, jis2_i, jis2_l, jis2_rs, jis2_rn, cond]
        refine lp_fd109 (V := V) hX4 hv9 hm4 hN hpl (fun M' q1 q2 => fin M' (hf4.tr q1) q2) (0, js_A M4 88 (1024 * nowS V σ people + (lkS V people (sn σ 0) (nowS V σ people) &&& places)) (nI 1)) ⟨Nat.zero_le _, ⟨jsm.A (by unfold mvf; omega), hS⟩, fun _ => fun s set q1 q2 => ?_, fun j hj => absurd hj (Nat.not_lt_zero _)⟩
        show jm_A (js_A M4 88 (1024 * nowS V σ people + (lkS V people (sn σ 0) (nowS V σ people) &&& places)) (nI 1)) 88 (1024 * s + set) = jb (decide (s = nowS V σ people) && decide (set = lkS V people (sn σ 0) (nowS V σ people) &&& places))
        by_cases e : s = nowS V σ people ∧ set = lkS V people (sn σ 0) (nowS V σ people) &&& places
        · rw [e.1, e.2, jA_same, decide_eq_true rfl, decide_eq_true rfl]; rfl
        · rw [jA_oth (by omega), hZ4 s set q1 q2, ← Bool.decide_and, decide_eq_false e]
      first | refine jx_imul (pc := 88) dX1_find_88 ?_ | refine jw_imul (pc := 88) dX1_find_88 ?_
      refine jw_aload_n (pc := 89) dX1_find_89 rfl ?_
      refine jw_aload_n (pc := 90) dX1_find_90 rfl ?_
      refine jx_cVE (mi1 := mi_X1_nowState) (pc := 91) rfl dX1_find_91 lk_X1_304 rfl fi_X1_nowState rfl rfl rfl (by decide) (is_64 hS) (t_X1_nowState hX2 hv9 hm2) (by first | decide | omega) rfl rfl (by simp only [List.map_cons, List.map_nil, List.sum_cons, List.sum_nil, cat_i, cat_l, jr_cat]; decide) ?_
      exact K2 _ hX3 hm3 hZ3 hf3 hS3
    refine jw_iload (pc := 50) dX1_find_50 rfl ?_
    refine jw_sipush (pc := 52) dX1_find_52 sp_1024 ?_
    refine jw_aload_n (pc := 55) dX1_find_55 rfl ?_
    refine jx_getIs (pc := 56) (jf_X1_290_0.r) rfl dX1_find_56 rfl (is_64 hS) (by decide) (hm1.2.2.1) ?_
    first | refine jx_imul (pc := 59) dX1_find_59 ?_ | refine jw_imul (pc := 59) dX1_find_59 ?_
    first | refine jx_icmp_ge (pc := 60) (tgt := 77) dX1_find_60 (by decide) (by omega) (by omega) ?_ ?_ | refine jw_icmp_ge (pc := 60) (tgt := 77) dX1_find_60 (by decide) ?_ ?_
    · intro h_60
      refine jw_aload_n (pc := 77) dX1_find_77 rfl ?_
      refine jx_getRs (pc := 78) (jf_X1_75_0.r) rfl dX1_find_78 rfl (is_64 hS) (by decide) (sr_64_26 hS) ?_
      refine jw_sipush (pc := 81) dX1_find_81 sp_1024 ?_
      refine jw_aload_n (pc := 84) dX1_find_84 rfl ?_
      refine jx_cVE (mi1 := mi_X1_nowState) (pc := 85) rfl dX1_find_85 lk_X1_304 rfl fi_X1_nowState rfl rfl rfl (by decide) (is_64 hS) (t_X1_nowState hX1 hv9 hm1) (by first | decide | omega) rfl rfl (by simp only [List.map_cons, List.map_nil, List.sum_cons, List.sum_nil, cat_i, cat_l, jr_cat]; decide) ?_
      exact K _ hX2 hm2 hZ2 hf2 hS2
    · intro h_60
      omega
theorem lp_fd32g {M9 M M1 : Mm} {V : Vt} {kp kq : Nat} {why : Int32} {q : Int32 × Int32} (hX : jXx M1 (sgT σ 0 (-1))) (hf : jfx M M1) (hv9 : sv σ = some V) (hkp : kp < 2 ^ V 0 1) (hc3 : cnt kp ≤ 2) (hkq : kq < 1024) (h0 : why = 0) (e : q = (findI V (sgT σ 0 (-1)) kp kq, 0)) : jW G mi_X1_find 8 M9 32 [some (jr (some 64)), some (.int (nI kp)), some (.int (nI kq)), some (.int why), none] [] M1 (jQx M σ q) := by
  have hS := hX.1
  have hw9 := (hX.2.1.2 V hv9).1
  have hnp := wf_np hw9
  refine jw_iload_n (pc := 32) dX1_find_32 rfl ?_
  refine jw_if_eq (pc := 33) (tgt := 42) dX1_find_33 (by decide) ?_ ?_
  · intro h_33
    refine jw_aload_n (pc := 42) dX1_find_42 rfl ?_
    refine jw_iload_n (pc := 43) dX1_find_43 rfl ?_
    refine jx_cVv (mi1 := mi_X1_choose) (pc := 44) rfl dX1_find_44 lk_X1_326 rfl fi_X1_choose rfl rfl rfl (by decide) (is_64 hS) (t_X1_choose hX hv9 hkp (by omega)) (by first | decide | omega) rfl rfl (by decide) ?_
    intro M_44 q_44
    obtain ⟨hX2, hf2, hm2⟩ := q_44
    have hS := hX2.1
    refine jw_iconst (pc := 47) dX1_find_47 ic_0 ?_
    refine jw_istore (pc := 48) dX1_find_48 (Nat.le_of_ble_eq_true rfl) rfl ?_
    try dsimp only [jput1, jput2, jkill, jclr, jis2_i, jis2_l, jis2_rs, jis2_rn, cond]
    refine jW.eq rfl rfl ?_ (lp_fd50 (V := V) (people := kp) (places := kq) hX2 hv9 hm2 (pw2 hnp hc3) hkq (fun M' q1 q2 => ?_) 0 (Nat.zero_le _))
    · exact jAs_0 (fun i => by rw [if_neg (Nat.not_lt_zero _)])
    · exact qx_ok e (hf.tr (hf2.tr (frmv q1 (fun a => mvf_E)))) (hX2.mv q1 (fun a => mvf_E) q2)
  · intro h_33
    exact absurd h0 h_33
theorem lp_fd32 {M9 M M1 : Mm} {p q why : Int32} (hX : jXx M1 (sgT σ 0 (-1))) (hf : jfx M M1) (h0 : why ≠ 0) (hw : why = 0 ∨ why = 1 ∨ why = 2) (e : findW (sv σ) p q = why) : jW G mi_X1_find 8 M9 32 [some (jr (some 64)), some (.int p), some (.int q), some (.int why), none] [] M1 (jQx M σ (q_find σ p q)) := by
  have hS := hX.1
  refine jw_iload_n (pc := 32) dX1_find_32 rfl ?_
  refine jw_if_eq (pc := 33) (tgt := 42) dX1_find_33 (by decide) ?_ ?_
  · intro h_33
    exact absurd h_33 h0
  · intro h_33
    refine jw_aload_n (pc := 36) dX1_find_36 rfl ?_
    refine jw_iload_n (pc := 37) dX1_find_37 rfl ?_
    refine jx_cVi (mi1 := mi_X1_no) (pc := 38) rfl dX1_find_38 lk_X1_98 rfl fi_X1_no rfl rfl rfl (by decide) (is_64 hS) (t_X1_no hX (wc_4 hw)) (by first | decide | omega) rfl rfl (by decide) ?_
    intro x_38 M_38 q_38
    refine jw_ireturn (pc := 41) dX1_find_41 rfl (rfl) ?_
    refine qx_no ?_ hf q_38
    unfold q_find; rw [e, if_neg h0]
theorem t_X1_find {p q : Int32} (h : jXx M σ) : jT G mi_X1_find 8 [jr (some 64), .int p, .int q] M (jQx M σ (q_find σ p q)) := by
  have hS := h.1
  refine jT.of (by decide) rfl (Nat.le_of_ble_eq_true rfl) ?_
  cases hv9 : sv σ with
  | none =>
    refine jw_aload_n (pc := 0) dX1_find_0 rfl ?_
    refine jx_cVv (mi1 := mi_X1_anew) (pc := 1) rfl dX1_find_1 lk_X1_84 rfl fi_X1_anew rfl rfl rfl (by decide) (is_64 hS) (t_X1_anew h) (by first | decide | omega) rfl rfl (by decide) ?_
    intro M_1 q_1
    obtain ⟨hX, hf⟩ := q_1
    have hS := hX.1
    refine jw_aload_n (pc := 4) dX1_find_4 rfl ?_
    refine jw_iload_n (pc := 5) dX1_find_5 rfl ?_
    refine jw_iconst (pc := 6) dX1_find_6 ic_2 ?_
    refine jx_cVE (mi1 := mi_X1_peopleWhy) (pc := 7) rfl dX1_find_7 lk_X1_323 rfl fi_X1_peopleWhy rfl rfl rfl (by decide) (is_64 hS) (t_X1_peopleWhy (o := none) (most := 2) hX hv9 (by decide)) (by first | decide | omega) rfl rfl (by decide) ?_
    refine jw_istore_n (pc := 10) dX1_find_10 (Nat.le_of_ble_eq_true rfl) rfl ?_
    try dsimp only [jput1, jput2, jkill, jclr, jis2_i, jis2_l, jis2_rs, jis2_rn, cond]
    refine jw_iload_n (pc := 11) dX1_find_11 rfl ?_
    refine jw_if_ne (pc := 12) (tgt := 32) dX1_find_12 (by decide) ?_ ?_
    · intro h_12
      exact lp_fd32 hX hf (show (1 : Int32) ≠ 0 by decide) (Or.inr (Or.inl rfl)) (by rw [hv9]; rfl)
    · intro h_12
      exact absurd (show (1 : Int32) = 0 from h_12) (by decide)
  | some V =>
    have hw9 := (h.2.1.2 V hv9).1
    have hnp := wf_np hw9
    have h1p := Nat.one_le_two_pow (n := V 0 0)
    have hpw : 2 ^ V 0 0 ≤ 1024 := Nat.pow_le_pow_right (n := 2) (by decide) hnp
    have hw0 : pplW (some V) p 2 = 0 → findW (some V) p q = if isIx (2 ^ V 0 0) q && decide (iN q ≠ 0) then 0 else 2 := fun c => by unfold findW; rw [if_pos c]
    refine jw_aload_n (pc := 0) dX1_find_0 rfl ?_
    refine jx_cVv (mi1 := mi_X1_anew) (pc := 1) rfl dX1_find_1 lk_X1_84 rfl fi_X1_anew rfl rfl rfl (by decide) (is_64 hS) (t_X1_anew h) (by first | decide | omega) rfl rfl (by decide) ?_
    intro M_1 q_1
    obtain ⟨hX, hf⟩ := q_1
    have hS := hX.1
    obtain ⟨v, hs, hN⟩ := hX.so hv9
    have hv := hs.s
    refine jw_aload_n (pc := 4) dX1_find_4 rfl ?_
    refine jw_iload_n (pc := 5) dX1_find_5 rfl ?_
    refine jw_iconst (pc := 6) dX1_find_6 ic_2 ?_
    refine jx_cVE (mi1 := mi_X1_peopleWhy) (pc := 7) rfl dX1_find_7 lk_X1_323 rfl fi_X1_peopleWhy rfl rfl rfl (by decide) (is_64 hS) (t_X1_peopleWhy (o := some V) (most := 2) hX hv9 (by decide)) (by first | decide | omega) rfl rfl (by decide) ?_
    refine jw_istore_n (pc := 10) dX1_find_10 (Nat.le_of_ble_eq_true rfl) rfl ?_
    try dsimp only [jput1, jput2, jkill, jclr, jis2_i, jis2_l, jis2_rs, jis2_rn, cond]
    refine jw_iload_n (pc := 11) dX1_find_11 rfl ?_
    refine jw_if_ne (pc := 12) (tgt := 32) dX1_find_12 (by decide) ?_ ?_
    · intro h_12
      first
        | exact lp_fd32 hX hf h_12 (pplW_c _ _ _) (by rw [hv9]; unfold findW; rw [if_neg h_12])
        | exact lp_fd32 hX hf (by decide) (Or.inr (Or.inr rfl)) (by rw [hv9, hw0 h_12, h_27]; rfl)
        | skip
    · intro h_12
      refine jw_iload_n (pc := 15) dX1_find_15 rfl ?_
      refine jw_iconst (pc := 16) dX1_find_16 ic_1 ?_
      refine jw_aload_n (pc := 17) dX1_find_17 rfl ?_
      refine jx_getRs (pc := 18) (jf_X1_109_0.r) rfl dX1_find_18 rfl (is_64 hS) (by decide) (hs.r) ?_
      refine jx_cVE (mi1 := mi_X6_all) (pc := 21) rfl dX1_find_21 lk_X1_179 rfl fi_X6_all rfl rfl rfl (by decide) (vis hv) (t_X6_all hs.V hs.w) (by first | decide | omega) rfl rfl (by simp only [List.map_cons, List.map_nil, List.sum_cons, List.sum_nil, Value.category]; decide) ?_
      rw [← sub1 h1p]
      refine jx_cSE (mi1 := mi_X1_in) (pc := 24) rfl dX1_find_24 lk_X1_94 rfl fi_X1_in (t_X1_in) (by first | decide | omega) rfl rfl (by decide) ?_
      rw [inb_1 h1p (by omega)]
      first | refine jx_ifb_ne (pc := 27) (tgt := 32) dX1_find_27 (by decide) ?_ ?_ | refine jx_if_ne (pc := 27) (tgt := 32) dX1_find_27 (by decide) (by omega) ?_ ?_ | refine jw_if_ne (pc := 27) (tgt := 32) dX1_find_27 (by decide) ?_ ?_
      · intro h_27
        have hq := h_27
        rw [Bool.and_eq_true, decide_eq_true_eq] at hq
        obtain ⟨kq, hq1, rfl⟩ := isIx_of hq.1
        obtain ⟨V2, kp, eV, hkp, hk1, rfl, hc3, hiN⟩ := pplW_0 h_12
        cases eV
        have e9 := hw0 h_12
        rw [h_27, if_pos rfl] at e9
        have e8 : q_find σ (nI kp) (nI kq) = (findI V (sgT σ 0 (-1)) kp kq, 0) := by
          unfold q_find
          rw [hv9, if_pos e9, vv_s hv9, hiN, iN_n (show kq < 2 ^ 31 by omega)]
        refine lp_fd32g hX hf hv9 hkp hc3 (by omega) h_12 e8
        first
          | exact lp_fd32 hX hf h_12 (pplW_c _ _ _) (by rw [hv9]; unfold findW; rw [if_neg h_12])
          | exact lp_fd32 hX hf (by decide) (Or.inr (Or.inr rfl)) (by rw [hv9, hw0 h_12, h_27]; rfl)
          | skip
      · intro h_27
        refine jw_iconst (pc := 30) dX1_find_30 ic_2 ?_
        refine jw_istore_n (pc := 31) dX1_find_31 (Nat.le_of_ble_eq_true rfl) rfl ?_
        try dsimp only [jput1, jput2, jkill, jclr, jis2_i, jis2_l, jis2_rs, jis2_rn, cond]
        first
          | exact lp_fd32 hX hf h_12 (pplW_c _ _ _) (by rw [hv9]; unfold findW; rw [if_neg h_12])
          | exact lp_fd32 hX hf (by decide) (Or.inr (Or.inr rfl)) (by rw [hv9, hw0 h_12, h_27]; rfl)
          | skip
end JXF3
