/-! ===== the plan is judged, by the reference ===== -/
section JMJ
variable {G : Gh} {M : Mm} {σ : Sg}
theorem t_X14_near {a w : Nat} {V : Vt} (hV : jVm M w V) (hwf : jWf V) (ha : a < V 0 0) : jE G mi_X14_near 1 [jr (some w), .int (nI a)] M (some (.int (nI (V 3 a)))) M := by
  have hw := hV.1
  have hn := wf_np hwf
  have hny := wf_ny hwf
  refine jE.of (by decide) rfl (Nat.le_of_ble_eq_true rfl) ?_
  have J : ∀ k : Nat, k ≤ V 0 4 → jW G mi_X14_near 1 M 4 [some (jr (some w)), some (.int (nI a)), some (.int (nI (nearK V a k))), some (.int (nI k))] [] M (fun r M' => r = .inl (some (.int (nI (V 3 a)))) ∧ M' = M) := by
    refine jW.loop _ (fun k => V 0 4 - k) _ (fun _ => []) (fun _ => M) (fun k hk ih => ?_)
    by_cases hkn : k < V 0 4
    · obtain ⟨y1, y2⟩ := wf_y hwf hkn
      refine jw_iload_n (pc := 4) dX14_near_4 rfl ?_
      refine jw_aload_n (pc := 5) dX14_near_5 rfl ?_
      refine jx_getIs (pc := 6) (jf_X14_90_12.r) rfl dX14_near_6 rfl (wis hw) (by decide) (mi_ny hV) ?_
      first | refine jx_icmp_ge (pc := 9) (tgt := 60) dX14_near_9 (by decide) (by omega) (by omega) ?_ ?_ | refine jw_icmp_ge (pc := 9) (tgt := 60) dX14_near_9 (by decide) ?_ ?_
      · intro h_9
        omega
      · intro h_9
        refine jw_aload_n (pc := 12) dX14_near_12 rfl ?_
        refine jx_getRs (pc := 13) (jf_X14_24_12.r) rfl dX14_near_13 rfl (wis hw) (by decide) (wr_5 hw) ?_
        refine jw_iload_n (pc := 16) dX14_near_16 rfl ?_
        refine jx_ialds (pc := 17) dX14_near_17 (wok_5 hw) (wnn_5 hw) rfl (by omega) ((ma_y hV hkn).1) ?_
        refine jw_iload_n (pc := 18) dX14_near_18 rfl ?_
        first | refine jx_icmp_ne (pc := 19) (tgt := 33) dX14_near_19 (by decide) (by omega) (by omega) ?_ ?_ | refine jw_icmp_ne (pc := 19) (tgt := 33) dX14_near_19 (by decide) ?_ ?_
        · intro h_19
          refine jw_aload_n (pc := 33) dX14_near_33 rfl ?_
          refine jx_getRs (pc := 34) (jf_X14_27_12.r) rfl dX14_near_34 rfl (wis hw) (by decide) (wr_6 hw) ?_
          refine jw_iload_n (pc := 37) dX14_near_37 rfl ?_
          refine jx_ialds (pc := 38) dX14_near_38 (wok_6 hw) (wnn_6 hw) rfl (by omega) ((ma_y hV hkn).2) ?_
          refine jw_iload_n (pc := 39) dX14_near_39 rfl ?_
          first | refine jx_icmp_ne (pc := 40) (tgt := 54) dX14_near_40 (by decide) (by omega) (by omega) ?_ ?_ | refine jw_icmp_ne (pc := 40) (tgt := 54) dX14_near_40 (by decide) ?_ ?_
          · intro h_40
            first | refine jx_iinc (pc := 54) dX14_near_54 rfl rfl ?_ | refine jw_iinc (pc := 54) dX14_near_54 rfl rfl rfl ?_
            try dsimp only [jput1, jkill, jclr, jis2_i, jis2_l, jis2_rs, jis2_rn, cond]
            refine jw_goto (pc := 57) (tgt := 4) dX14_near_57 (by decide) ?_
            refine jW.eq ?_ rfl rfl (ih (k + 1) hkn (by omega))
            rw [nearK_s]
            first
              | rw [if_pos h_19, if_pos h_40]
              | rw [if_pos h_19, if_neg h_40, Nat.or_zero]
              | rw [if_neg h_19, if_pos h_40, Nat.or_zero]
              | rw [if_neg h_19, if_neg h_40, Nat.or_zero, Nat.or_zero]
          · intro h_40
            refine jw_iload_n (pc := 43) dX14_near_43 rfl ?_
            refine jw_iconst (pc := 44) dX14_near_44 ic_1 ?_
            refine jw_aload_n (pc := 45) dX14_near_45 rfl ?_
            refine jx_getRs (pc := 46) (jf_X14_24_12.r) rfl dX14_near_46 rfl (wis hw) (by decide) (wr_5 hw) ?_
            refine jw_iload_n (pc := 49) dX14_near_49 rfl ?_
            refine jx_ialds (pc := 50) dX14_near_50 (wok_5 hw) (wnn_5 hw) rfl (by omega) ((ma_y hV hkn).1) ?_
            refine jw_ishl (pc := 51) dX14_near_51 ?_
            rw [shl1 (by omega)]
            refine jw_ior (pc := 52) dX14_near_52 ?_
            rw [nI_or']
            refine jw_istore_n (pc := 53) dX14_near_53 (Nat.le_of_ble_eq_true rfl) rfl ?_
            try dsimp only [jput1, jput2, jkill, jclr, jis2_i, jis2_l, jis2_rs, jis2_rn, cond]
            first | refine jx_iinc (pc := 54) dX14_near_54 rfl rfl ?_ | refine jw_iinc (pc := 54) dX14_near_54 rfl rfl rfl ?_
            try dsimp only [jput1, jkill, jclr, jis2_i, jis2_l, jis2_rs, jis2_rn, cond]
            refine jw_goto (pc := 57) (tgt := 4) dX14_near_57 (by decide) ?_
            refine jW.eq ?_ rfl rfl (ih (k + 1) hkn (by omega))
            rw [nearK_s]
            first
              | rw [if_pos h_19, if_pos h_40]
              | rw [if_pos h_19, if_neg h_40, Nat.or_zero]
              | rw [if_neg h_19, if_pos h_40, Nat.or_zero]
              | rw [if_neg h_19, if_neg h_40, Nat.or_zero, Nat.or_zero]
        · intro h_19
          refine jw_iload_n (pc := 22) dX14_near_22 rfl ?_
          refine jw_iconst (pc := 23) dX14_near_23 ic_1 ?_
          refine jw_aload_n (pc := 24) dX14_near_24 rfl ?_
          refine jx_getRs (pc := 25) (jf_X14_27_12.r) rfl dX14_near_25 rfl (wis hw) (by decide) (wr_6 hw) ?_
          refine jw_iload_n (pc := 28) dX14_near_28 rfl ?_
          refine jx_ialds (pc := 29) dX14_near_29 (wok_6 hw) (wnn_6 hw) rfl (by omega) ((ma_y hV hkn).2) ?_
          refine jw_ishl (pc := 30) dX14_near_30 ?_
          rw [shl1 (by omega)]
          refine jw_ior (pc := 31) dX14_near_31 ?_
          rw [nI_or']
          refine jw_istore_n (pc := 32) dX14_near_32 (Nat.le_of_ble_eq_true rfl) rfl ?_
          try dsimp only [jput1, jput2, jkill, jclr, jis2_i, jis2_l, jis2_rs, jis2_rn, cond]
          refine jw_aload_n (pc := 33) dX14_near_33 rfl ?_
          refine jx_getRs (pc := 34) (jf_X14_27_12.r) rfl dX14_near_34 rfl (wis hw) (by decide) (wr_6 hw) ?_
          refine jw_iload_n (pc := 37) dX14_near_37 rfl ?_
          refine jx_ialds (pc := 38) dX14_near_38 (wok_6 hw) (wnn_6 hw) rfl (by omega) ((ma_y hV hkn).2) ?_
          refine jw_iload_n (pc := 39) dX14_near_39 rfl ?_
          first | refine jx_icmp_ne (pc := 40) (tgt := 54) dX14_near_40 (by decide) (by omega) (by omega) ?_ ?_ | refine jw_icmp_ne (pc := 40) (tgt := 54) dX14_near_40 (by decide) ?_ ?_
          · intro h_40
            first | refine jx_iinc (pc := 54) dX14_near_54 rfl rfl ?_ | refine jw_iinc (pc := 54) dX14_near_54 rfl rfl rfl ?_
            try dsimp only [jput1, jkill, jclr, jis2_i, jis2_l, jis2_rs, jis2_rn, cond]
            refine jw_goto (pc := 57) (tgt := 4) dX14_near_57 (by decide) ?_
            refine jW.eq ?_ rfl rfl (ih (k + 1) hkn (by omega))
            rw [nearK_s]
            first
              | rw [if_pos h_19, if_pos h_40]
              | rw [if_pos h_19, if_neg h_40, Nat.or_zero]
              | rw [if_neg h_19, if_pos h_40, Nat.or_zero]
              | rw [if_neg h_19, if_neg h_40, Nat.or_zero, Nat.or_zero]
          · intro h_40
            refine jw_iload_n (pc := 43) dX14_near_43 rfl ?_
            refine jw_iconst (pc := 44) dX14_near_44 ic_1 ?_
            refine jw_aload_n (pc := 45) dX14_near_45 rfl ?_
            refine jx_getRs (pc := 46) (jf_X14_24_12.r) rfl dX14_near_46 rfl (wis hw) (by decide) (wr_5 hw) ?_
            refine jw_iload_n (pc := 49) dX14_near_49 rfl ?_
            refine jx_ialds (pc := 50) dX14_near_50 (wok_5 hw) (wnn_5 hw) rfl (by omega) ((ma_y hV hkn).1) ?_
            refine jw_ishl (pc := 51) dX14_near_51 ?_
            rw [shl1 (by omega)]
            refine jw_ior (pc := 52) dX14_near_52 ?_
            rw [nI_or']
            refine jw_istore_n (pc := 53) dX14_near_53 (Nat.le_of_ble_eq_true rfl) rfl ?_
            try dsimp only [jput1, jput2, jkill, jclr, jis2_i, jis2_l, jis2_rs, jis2_rn, cond]
            first | refine jx_iinc (pc := 54) dX14_near_54 rfl rfl ?_ | refine jw_iinc (pc := 54) dX14_near_54 rfl rfl rfl ?_
            try dsimp only [jput1, jkill, jclr, jis2_i, jis2_l, jis2_rs, jis2_rn, cond]
            refine jw_goto (pc := 57) (tgt := 4) dX14_near_57 (by decide) ?_
            refine jW.eq ?_ rfl rfl (ih (k + 1) hkn (by omega))
            rw [nearK_s]
            first
              | rw [if_pos h_19, if_pos h_40]
              | rw [if_pos h_19, if_neg h_40, Nat.or_zero]
              | rw [if_neg h_19, if_pos h_40, Nat.or_zero]
              | rw [if_neg h_19, if_neg h_40, Nat.or_zero, Nat.or_zero]
    · have hk' : k = V 0 4 := by omega
      subst hk'
      refine jw_iload_n (pc := 4) dX14_near_4 rfl ?_
      refine jw_aload_n (pc := 5) dX14_near_5 rfl ?_
      refine jx_getIs (pc := 6) (jf_X14_90_12.r) rfl dX14_near_6 rfl (wis hw) (by decide) (mi_ny hV) ?_
      first | refine jx_icmp_ge (pc := 9) (tgt := 60) dX14_near_9 (by decide) (by omega) (by omega) ?_ ?_ | refine jw_icmp_ge (pc := 9) (tgt := 60) dX14_near_9 (by decide) ?_ ?_
      · intro h_9
        refine jw_iload_n (pc := 60) dX14_near_60 rfl ?_
        refine jw_ireturn (pc := 61) dX14_near_61 rfl (rfl) ?_
        exact ⟨by rw [nearK_end hwf ha], rfl⟩
      · intro h_9
        omega
  refine jw_iconst (pc := 0) dX14_near_0 ic_0 ?_
  refine jw_istore_n (pc := 1) dX14_near_1 (Nat.le_of_ble_eq_true rfl) rfl ?_
  try dsimp only [jput1, jput2, jkill, jclr, jis2_i, jis2_l, jis2_rs, jis2_rn, cond]
  refine jw_iconst (pc := 2) dX14_near_2 ic_0 ?_
  refine jw_istore_n (pc := 3) dX14_near_3 (Nat.le_of_ble_eq_true rfl) rfl ?_
  try dsimp only [jput1, jput2, jkill, jclr, jis2_i, jis2_l, jis2_rs, jis2_rn, cond]
  exact J 0 (Nat.zero_le _)
theorem row_s1 (pl : Nat → Nat) (b c n : Nat) : rowR pl b c (n + 1) ≤ rowR pl b c n + 1 := by rw [rowR_s]; split <;> omega
theorem t_X5_isPlanDone {e w : Nat} {V : Vt} (hs : jMs M w V 0 0) (hN : jMn M V σ) (ho : jSo σ) (hv9 : sv σ = some V) (he : e < V 0 2) : jE G mi_X5_isPlanDone 2 [jr (some 90), .int (nI e)] M (some (.int (jb (doneB V (sa σ 1) e)))) M := by
  have hS := hs.1
  have hw := hs.s
  have hn := wf_nq hs.w
  have hnp := wf_np hs.w
  have hne := wf_ne hs.w
  obtain ⟨d1, d2, d3, d4, d5⟩ := wf_d hs.w
  obtain ⟨g1, g2, g3, g4, g5, g6, g7⟩ := wf_e hs.w he
  obtain ⟨o1, o2, o3, o4⟩ := ho.2 V hv9
  obtain ⟨c1, c2, c3, c4, c5⟩ := ma_e hs.V he
  have hE : errN V e = min (V 19 e) (V 0 12) - V 18 e := rfl
  refine jE.of (by decide) rfl (Nat.le_of_ble_eq_true rfl) ?_
  have J : ∀ n : Nat, (n ≤ errN V e ∧ bestR (sa σ 1) (100 * V 16 e + V 18 e) (V 17 e) n < V 20 e) → jW G mi_X5_isPlanDone 2 M 12 [some (jr (some 90)), some (.int (nI e)), some (.int (nI (rowR (sa σ 1) (100 * V 16 e + V 18 e) (V 17 e) n))), some (.int (nI (V 18 e + n)))] [] M (fun r M' => r = .inl (some (.int (jb (doneB V (sa σ 1) e)))) ∧ M' = M) := by
    refine jW.loop _ (fun n => errN V e - n) _ (fun _ => []) (fun _ => M) (fun n hI ih => ?_)
    obtain ⟨hn9, hbt⟩ := hI
    have r1 := row_le (sa σ 1) (100 * V 16 e + V 18 e) (V 17 e) n
    have r3 := row_le (sa σ 1) (100 * V 16 e + V 18 e) (V 17 e) (n + 1)
    have r4 := row_best (sa σ 1) (100 * V 16 e + V 18 e) (V 17 e) n
    have r5 := row_best (sa σ 1) (100 * V 16 e + V 18 e) (V 17 e) (n + 1)
    have r6 := row_s1 (sa σ 1) (100 * V 16 e + V 18 e) (V 17 e) n
    by_cases hkn : n < errN V e
    · have ht1 : V 18 e + n < V 19 e := by omega
      have ht2 : V 18 e + n < V 0 12 := by omega
      have r7 := best_mono (sa σ 1) (100 * V 16 e + V 18 e) (V 17 e) (show n + 1 ≤ errN V e from hkn)
      have hb : sa σ 1 (100 * V 16 e + V 18 e + n) < V 0 0 := by rw [Nat.add_assoc]; exact o3 _ _ g1 (by omega)
      have he9 : jm_A M 94 (100 * V 16 e + (V 18 e + n)) = nI (sa σ 1 (100 * V 16 e + V 18 e + n)) := by rw [Nat.add_assoc]; exact hN.2.2.2.2.1 (V 16 e) (V 18 e + n) g1 (by omega)
      have J74 : jW G mi_X5_isPlanDone 2 M 74 [some (jr (some 90)), some (.int (nI e)), some (.int (nI (rowR (sa σ 1) (100 * V 16 e + V 18 e) (V 17 e) n))), some (.int (nI (V 18 e + n)))] [.int (nI (rowR (sa σ 1) (100 * V 16 e + V 18 e) (V 17 e) (n + 1)))] M (fun r M' => r = .inl (some (.int (jb (doneB V (sa σ 1) e)))) ∧ M' = M) := by
        refine jw_istore_n (pc := 74) dX5_isPlanDone_74 (Nat.le_of_ble_eq_true rfl) rfl ?_
        try dsimp only [jput1, jput2, jkill, jclr, jis2_i, jis2_l, jis2_rs, jis2_rn, cond]
        refine jw_iload_n (pc := 75) dX5_isPlanDone_75 rfl ?_
        refine jw_aload_n (pc := 76) dX5_isPlanDone_76 rfl ?_
        refine jx_getRs (pc := 77) (jf_X5_380_4.r) rfl dX5_isPlanDone_77 rfl (is_90 hS) (by decide) (hs.r) ?_
        refine jx_getRs (pc := 80) jg_X5_361_12 rfl dX5_isPlanDone_80 rfl (wis hw) (by decide) (wr_19 hw) ?_
        refine jw_iload_n (pc := 83) dX5_isPlanDone_83 rfl ?_
        refine jx_ialds (pc := 84) dX5_isPlanDone_84 (wok_19 hw) (wnn_19 hw) rfl (by omega) (c5) ?_
        first | refine jx_icmp_ne (pc := 85) (tgt := 90) dX5_isPlanDone_85 (by decide) (by omega) (by omega) ?_ ?_ | refine jw_icmp_ne (pc := 85) (tgt := 90) dX5_isPlanDone_85 (by decide) ?_ ?_
        · intro h_85
          first | refine jx_iinc (pc := 90) dX5_isPlanDone_90 rfl rfl ?_ | refine jw_iinc (pc := 90) dX5_isPlanDone_90 rfl rfl rfl ?_
          try dsimp only [jput1, jkill, jclr, jis2_i, jis2_l, jis2_rs, jis2_rn, cond]
          refine jw_goto (pc := 93) (tgt := 12) dX5_isPlanDone_93 (by decide) ?_
          refine ih (n + 1) ⟨hkn, ?_⟩ (by omega)
          rw [bestR_s]; exact Nat.max_lt.mpr ⟨hbt, by omega⟩
        · intro h_85
          refine jw_iconst (pc := 88) dX5_isPlanDone_88 ic_1 ?_
          refine jw_ireturn (pc := 89) dX5_isPlanDone_89 rfl (by first | exact jnar_b _ | exact jnar_0 | exact jnar_1 | decide +kernel) ?_
          refine ⟨jret_t ?_, rfl⟩
          unfold doneB; exact decide_eq_true (by omega)
      refine jw_iload_n (pc := 12) dX5_isPlanDone_12 rfl ?_
      refine jw_aload_n (pc := 13) dX5_isPlanDone_13 rfl ?_
      refine jx_getRs (pc := 14) (jf_X5_380_4.r) rfl dX5_isPlanDone_14 rfl (is_90 hS) (by decide) (hs.r) ?_
      refine jx_getRs (pc := 17) jg_X5_358_12 rfl dX5_isPlanDone_17 rfl (wis hw) (by decide) (wr_18 hw) ?_
      refine jw_iload_n (pc := 20) dX5_isPlanDone_20 rfl ?_
      refine jx_ialds (pc := 21) dX5_isPlanDone_21 (wok_18 hw) (wnn_18 hw) rfl (by omega) (c4) ?_
      first | refine jx_icmp_ge (pc := 22) (tgt := 96) dX5_isPlanDone_22 (by decide) (by omega) (by omega) ?_ ?_ | refine jw_icmp_ge (pc := 22) (tgt := 96) dX5_isPlanDone_22 (by decide) ?_ ?_
      · intro h_22
        omega
      · intro h_22
        refine jw_iload_n (pc := 25) dX5_isPlanDone_25 rfl ?_
        refine jw_aload_n (pc := 26) dX5_isPlanDone_26 rfl ?_
        refine jx_getRs (pc := 27) (jf_X5_380_4.r) rfl dX5_isPlanDone_27 rfl (is_90 hS) (by decide) (hs.r) ?_
        refine jx_getIs (pc := 30) (jf_X5_273_12.r) rfl dX5_isPlanDone_30 rfl (wis hw) (by decide) (mi_steps hs.V) ?_
        first | refine jx_icmp_ge (pc := 33) (tgt := 96) dX5_isPlanDone_33 (by decide) (by omega) (by omega) ?_ ?_ | refine jw_icmp_ge (pc := 33) (tgt := 96) dX5_isPlanDone_33 (by decide) ?_ ?_
        · intro h_33
          omega
        · intro h_33
          refine jw_aload_n (pc := 36) dX5_isPlanDone_36 rfl ?_
          refine jx_getRs (pc := 37) (jf_X5_24_4.r) rfl dX5_isPlanDone_37 rfl (is_90 hS) (by decide) (sr_90_72 hS) ?_
          refine jw_bipush (pc := 40) dX5_isPlanDone_40 bp_100 ?_
          refine jw_aload_n (pc := 42) dX5_isPlanDone_42 rfl ?_
          refine jx_getRs (pc := 43) (jf_X5_380_4.r) rfl dX5_isPlanDone_43 rfl (is_90 hS) (by decide) (hs.r) ?_
          refine jx_getRs (pc := 46) jg_X5_349_12 rfl dX5_isPlanDone_46 rfl (wis hw) (by decide) (wr_15 hw) ?_
          refine jw_iload_n (pc := 49) dX5_isPlanDone_49 rfl ?_
          refine jx_ialds (pc := 50) dX5_isPlanDone_50 (wok_15 hw) (wnn_15 hw) rfl (by omega) (c1) ?_
          first | refine jx_imul (pc := 51) dX5_isPlanDone_51 ?_ | refine jw_imul (pc := 51) dX5_isPlanDone_51 ?_
          refine jw_iload_n (pc := 52) dX5_isPlanDone_52 rfl ?_
          first | refine jx_iadd (pc := 53) dX5_isPlanDone_53 ?_ | refine jw_iadd (pc := 53) dX5_isPlanDone_53 ?_
          refine jx_ialds (pc := 54) dX5_isPlanDone_54 (ok_94 hS) (nn_94 hS) rfl (by omega) (he9) ?_
          refine jw_aload_n (pc := 55) dX5_isPlanDone_55 rfl ?_
          refine jx_getRs (pc := 56) (jf_X5_380_4.r) rfl dX5_isPlanDone_56 rfl (is_90 hS) (by decide) (hs.r) ?_
          refine jx_getRs (pc := 59) jg_X5_352_12 rfl dX5_isPlanDone_59 rfl (wis hw) (by decide) (wr_16 hw) ?_
          refine jw_iload_n (pc := 62) dX5_isPlanDone_62 rfl ?_
          refine jx_ialds (pc := 63) dX5_isPlanDone_63 (wok_16 hw) (wnn_16 hw) rfl (by omega) (c2) ?_
          first | refine jx_icmp_ne (pc := 64) (tgt := 73) dX5_isPlanDone_64 (by decide) (by omega) (by omega) ?_ ?_ | refine jw_icmp_ne (pc := 64) (tgt := 73) dX5_isPlanDone_64 (by decide) ?_ ?_
          · intro h_64
            refine jw_iconst (pc := 73) dX5_isPlanDone_73 ic_0 ?_
            refine jW.eq rfl ?_ rfl J74
            first | rw [rowR_s, if_pos h_64] | rw [rowR_s, if_neg h_64]
          · intro h_64
            refine jw_iload_n (pc := 67) dX5_isPlanDone_67 rfl ?_
            refine jw_iconst (pc := 68) dX5_isPlanDone_68 ic_1 ?_
            first | refine jx_iadd (pc := 69) dX5_isPlanDone_69 ?_ | refine jw_iadd (pc := 69) dX5_isPlanDone_69 ?_
            refine jw_goto (pc := 70) (tgt := 74) dX5_isPlanDone_70 (by decide) ?_
            refine jW.eq rfl ?_ rfl J74
            first | rw [rowR_s, if_pos h_64] | rw [rowR_s, if_neg h_64]
    · have hk' : n = errN V e := by omega
      subst hk'
      refine jw_iload_n (pc := 12) dX5_isPlanDone_12 rfl ?_
      refine jw_aload_n (pc := 13) dX5_isPlanDone_13 rfl ?_
      refine jx_getRs (pc := 14) (jf_X5_380_4.r) rfl dX5_isPlanDone_14 rfl (is_90 hS) (by decide) (hs.r) ?_
      refine jx_getRs (pc := 17) jg_X5_358_12 rfl dX5_isPlanDone_17 rfl (wis hw) (by decide) (wr_18 hw) ?_
      refine jw_iload_n (pc := 20) dX5_isPlanDone_20 rfl ?_
      refine jx_ialds (pc := 21) dX5_isPlanDone_21 (wok_18 hw) (wnn_18 hw) rfl (by omega) (c4) ?_
      first | refine jx_icmp_ge (pc := 22) (tgt := 96) dX5_isPlanDone_22 (by decide) (by omega) (by omega) ?_ ?_ | refine jw_icmp_ge (pc := 22) (tgt := 96) dX5_isPlanDone_22 (by decide) ?_ ?_
      · intro h_22
        refine jw_iconst (pc := 96) dX5_isPlanDone_96 ic_0 ?_
        refine jw_ireturn (pc := 97) dX5_isPlanDone_97 rfl (by first | exact jnar_b _ | exact jnar_0 | exact jnar_1 | decide +kernel) ?_
        refine ⟨jret_f ?_, rfl⟩
        unfold doneB; exact decide_eq_false (by omega)
      · intro h_22
        refine jw_iload_n (pc := 25) dX5_isPlanDone_25 rfl ?_
        refine jw_aload_n (pc := 26) dX5_isPlanDone_26 rfl ?_
        refine jx_getRs (pc := 27) (jf_X5_380_4.r) rfl dX5_isPlanDone_27 rfl (is_90 hS) (by decide) (hs.r) ?_
        refine jx_getIs (pc := 30) (jf_X5_273_12.r) rfl dX5_isPlanDone_30 rfl (wis hw) (by decide) (mi_steps hs.V) ?_
        first | refine jx_icmp_ge (pc := 33) (tgt := 96) dX5_isPlanDone_33 (by decide) (by omega) (by omega) ?_ ?_ | refine jw_icmp_ge (pc := 33) (tgt := 96) dX5_isPlanDone_33 (by decide) ?_ ?_
        · intro h_33
          refine jw_iconst (pc := 96) dX5_isPlanDone_96 ic_0 ?_
          refine jw_ireturn (pc := 97) dX5_isPlanDone_97 rfl (by first | exact jnar_b _ | exact jnar_0 | exact jnar_1 | decide +kernel) ?_
          refine ⟨jret_f ?_, rfl⟩
          unfold doneB; exact decide_eq_false (by omega)
        · intro h_33
          omega
  refine jw_iconst (pc := 0) dX5_isPlanDone_0 ic_0 ?_
  refine jw_istore_n (pc := 1) dX5_isPlanDone_1 (Nat.le_of_ble_eq_true rfl) rfl ?_
  try dsimp only [jput1, jput2, jkill, jclr, jis2_i, jis2_l, jis2_rs, jis2_rn, cond]
  refine jw_aload_n (pc := 2) dX5_isPlanDone_2 rfl ?_
  refine jx_getRs (pc := 3) (jf_X5_380_4.r) rfl dX5_isPlanDone_3 rfl (is_90 hS) (by decide) (hs.r) ?_
  refine jx_getRs (pc := 6) jg_X5_355_12 rfl dX5_isPlanDone_6 rfl (wis hw) (by decide) (wr_17 hw) ?_
  refine jw_iload_n (pc := 9) dX5_isPlanDone_9 rfl ?_
  refine jx_ialds (pc := 10) dX5_isPlanDone_10 (wok_17 hw) (wnn_17 hw) rfl (by omega) (c3) ?_
  refine jw_istore_n (pc := 11) dX5_isPlanDone_11 (Nat.le_of_ble_eq_true rfl) rfl ?_
  try dsimp only [jput1, jput2, jkill, jclr, jis2_i, jis2_l, jis2_rs, jis2_rn, cond]
  exact J 0 ⟨Nat.zero_le _, by show 0 < _; omega⟩
theorem t_X5_done {e : Int32} (h : jMm M σ) : jT G mi_X5_done 9 [jr (some 90), .int e] M (jQm M σ (q_done σ e)) := by
  have hS := h.1
  refine jT.of (by decide) rfl (Nat.le_of_ble_eq_true rfl) ?_
  cases hv9 : sv σ with
  | none =>
    refine jw_aload_n (pc := 0) dX5_done_0 rfl ?_
    refine jw_iconst (pc := 1) dX5_done_1 ic_0 ?_
    refine jx_putI (pc := 2) jf_X5_56_4 rfl dX5_done_2 rfl rfl (is_90 hS) (by decide) ?_
    have hM := mthr (x := nI 0) h
    have hf : jfm M (js_I M 90 49 (nI 0)) := jsm.I (by decide)
    generalize js_I M 90 49 (nI 0) = M0 at hM hf ⊢
    clear hS
    have hS := hM.1
    refine jw_aload_n (pc := 5) dX5_done_5 rfl ?_
    refine jx_getRs (pc := 6) (jf_X5_380_4.r) rfl dX5_done_6 rfl (is_90 hS) (by decide) (hM.no hv9) ?_
    refine jw_ifnull (pc := 9) (tgt := 27) dX5_done_9 (by decide) (fun h => ?_) (fun ax h => by cases h)
    clear h
    refine jw_aload_n (pc := 27) dX5_done_27 rfl ?_
    refine jw_iconst (pc := 28) dX5_done_28 ic_1 ?_
    refine jx_cVi (mi1 := mi_X5_refused) (pc := 29) rfl dX5_done_29 lk_X5_62 rfl fi_X5_refused rfl rfl rfl (by decide) (is_90 hS) (t_X5_refused hM) (by first | decide | omega) rfl rfl (by decide) ?_
    intro x_29 M_29 q_29
    refine jw_ireturn (pc := 32) dX5_done_32 rfl (rfl) ?_
    refine qm ?_ hf q_29
    unfold q_done; rw [hv9] <;> rfl
  | some V =>
    refine jw_aload_n (pc := 0) dX5_done_0 rfl ?_
    refine jw_iconst (pc := 1) dX5_done_1 ic_0 ?_
    refine jx_putI (pc := 2) jf_X5_56_4 rfl dX5_done_2 rfl rfl (is_90 hS) (by decide) ?_
    have hM := mthr (x := nI 0) h
    have hf : jfm M (js_I M 90 49 (nI 0)) := jsm.I (by decide)
    generalize js_I M 90 49 (nI 0) = M0 at hM hf ⊢
    clear hS
    have hS := hM.1
    obtain ⟨w, hs, hN⟩ := hM.so hv9
    have hw := hs.s
    have hn := wf_ne hs.w
    refine jw_aload_n (pc := 5) dX5_done_5 rfl ?_
    refine jx_getRs (pc := 6) (jf_X5_380_4.r) rfl dX5_done_6 rfl (is_90 hS) (by decide) (hs.r) ?_
    refine jw_ifnull (pc := 9) (tgt := 27) dX5_done_9 (by decide) (fun h => by cases h) (fun ax h => ?_)
    clear h
    refine jw_iload_n (pc := 12) dX5_done_12 rfl ?_
    refine jw_if_lt (pc := 13) (tgt := 27) dX5_done_13 (by decide) ?_ ?_
    · intro h_13
      refine jw_aload_n (pc := 27) dX5_done_27 rfl ?_
      refine jw_iconst (pc := 28) dX5_done_28 ic_1 ?_
      refine jx_cVi (mi1 := mi_X5_refused) (pc := 29) rfl dX5_done_29 lk_X5_62 rfl fi_X5_refused rfl rfl rfl (by decide) (is_90 hS) (t_X5_refused hM) (by first | decide | omega) rfl rfl (by decide) ?_
      intro x_29 M_29 q_29
      refine jw_ireturn (pc := 32) dX5_done_32 rfl (rfl) ?_
      refine qm ?_ hf q_29
      unfold q_done; rw [hv9]
      first
        | rw [show ixV (some V) 2 e = false from ix_neg h_13] <;> rfl
        | rw [show ixV (some V) 2 e = false from ix_ge (by omega) (i_nlt.mp h_24)] <;> rfl
    · intro h_13
      refine jw_iload_n (pc := 16) dX5_done_16 rfl ?_
      refine jw_aload_n (pc := 17) dX5_done_17 rfl ?_
      refine jx_getRs (pc := 18) (jf_X5_380_4.r) rfl dX5_done_18 rfl (is_90 hS) (by decide) (hs.r) ?_
      refine jx_getIs (pc := 21) (jf_X5_344_12.r) rfl dX5_done_21 rfl (wis hw) (by decide) (mi_ne hs.V) ?_
      refine jw_icmp_lt (pc := 24) (tgt := 33) dX5_done_24 (by decide) ?_ ?_
      · intro h_24
        have hix : isIx (V 0 2) e = true := ix_in (by omega) h_13 (i_nle.mpr h_24)
        obtain ⟨ke, hke, rfl⟩ := isIx_of hix
        refine jw_aload_n (pc := 33) dX5_done_33 rfl ?_
        refine jw_aload_n (pc := 34) dX5_done_34 rfl ?_
        refine jw_iload_n (pc := 35) dX5_done_35 rfl ?_
        refine jx_cVE (mi1 := mi_X5_isPlanDone) (pc := 36) rfl dX5_done_36 lk_X5_455 rfl fi_X5_isPlanDone rfl rfl rfl (by decide) (is_90 hS) (t_X5_isPlanDone (σ := σ) hs hN h.2.1 hv9 hke) (by first | decide | omega) rfl rfl (by simp only [List.map_cons, List.map_nil, List.sum_cons, List.sum_nil, cat_i, cat_l, jr_cat]; decide) ?_
        first | refine jx_ifb_eq (pc := 39) (tgt := 46) dX5_done_39 (by decide) ?_ ?_ | refine jx_if_eq (pc := 39) (tgt := 46) dX5_done_39 (by decide) (by omega) ?_ ?_ | refine jw_if_eq (pc := 39) (tgt := 46) dX5_done_39 (by decide) ?_ ?_
        · intro h_39
          refine jw_iconst (pc := 46) dX5_done_46 ic_0 ?_
          refine jw_iconst (pc := 47) dX5_done_47 ic_0 ?_
          refine jx_cVi (mi1 := mi_X5_told) (pc := 48) rfl dX5_done_48 lk_X5_66 rfl fi_X5_told rfl rfl rfl (by decide) (is_90 hS) (t_X5_told0 hM) (by first | decide | omega) rfl rfl (by decide) ?_
          intro x_48 M_48 q_48
          refine jw_ireturn (pc := 51) dX5_done_51 rfl (rfl) ?_
          refine qm ?_ hf q_48
          unfold q_done; rw [hv9, show ixV (some V) 2 (nI ke) = true from hix, if_pos rfl, vv_s hv9, iN_n (by omega), h_39] <;> rfl
        · intro h_39
          refine jw_iconst (pc := 42) dX5_done_42 ic_1 ?_
          refine jw_goto (pc := 43) (tgt := 47) dX5_done_43 (by decide) ?_
          refine jw_iconst (pc := 47) dX5_done_47 ic_0 ?_
          refine jx_cVi (mi1 := mi_X5_told) (pc := 48) rfl dX5_done_48 lk_X5_66 rfl fi_X5_told rfl rfl rfl (by decide) (is_90 hS) (t_X5_told0 hM) (by first | decide | omega) rfl rfl (by decide) ?_
          intro x_48 M_48 q_48
          refine jw_ireturn (pc := 51) dX5_done_51 rfl (rfl) ?_
          refine qm ?_ hf q_48
          unfold q_done; rw [hv9, show ixV (some V) 2 (nI ke) = true from hix, if_pos rfl, vv_s hv9, iN_n (by omega), h_39] <;> rfl
      · intro h_24
        refine jw_aload_n (pc := 27) dX5_done_27 rfl ?_
        refine jw_iconst (pc := 28) dX5_done_28 ic_1 ?_
        refine jx_cVi (mi1 := mi_X5_refused) (pc := 29) rfl dX5_done_29 lk_X5_62 rfl fi_X5_refused rfl rfl rfl (by decide) (is_90 hS) (t_X5_refused hM) (by first | decide | omega) rfl rfl (by decide) ?_
        intro x_29 M_29 q_29
        refine jw_ireturn (pc := 32) dX5_done_32 rfl (rfl) ?_
        refine qm ?_ hf q_29
        unfold q_done; rw [hv9]
        first
          | rw [show ixV (some V) 2 e = false from ix_neg h_13] <;> rfl
          | rw [show ixV (some V) 2 e = false from ix_ge (by omega) (i_nlt.mp h_24)] <;> rfl
def jJm (M : Mm) (σ : Sg) (V : Vt) : Rs → Mm → Prop := jPi (fun r M' => r = (judN V (sa σ 1)).1 ∧ jMm M' σ ∧ jfm M M' ∧ jm_I M' 90 73 = nI (judN V (sa σ 1)).2)
theorem lp_mj7 {M2 M9 : Mm} {t k : Nat} {x4 : Option Value} {b1 b2 : Bool} {P : Rs → Mm → Prop} (hk : k < 5) (ih : jW G mi_X5_judged 8 M9 17 [some (jr (some 90)), some (.int (nI t)), some (.int (jb b2)), some (.int (nI (k + 1))), none] [] M2 P) : jW G mi_X5_judged 8 M9 117 [some (jr (some 90)), some (.int (nI t)), some (.int (jb b1)), some (.int (nI k)), x4] [.int (jb b2)] M2 P := by
  refine jw_istore_n (pc := 117) dX5_judged_117 (Nat.le_of_ble_eq_true rfl) rfl ?_
  try dsimp only [jput1, jput2, jkill, jclr, jis2_i, jis2_l, jis2_rs, jis2_rn, cond]
  first | refine jx_iinc (pc := 118) dX5_judged_118 rfl rfl ?_ | refine jw_iinc (pc := 118) dX5_judged_118 rfl rfl rfl ?_
  try dsimp only [jput1, jkill, jclr, jis2_i, jis2_l, jis2_rs, jis2_rn, cond]
  refine jw_goto (pc := 121) (tgt := 17) dX5_judged_121 (by decide) ?_
  refine jW.sub ?_ ih
  exact ⟨rfl, rfl, rfl, rfl, trivial⟩
theorem lp_mj {M0 : Mm} {t : Nat} {V : Vt} {P : Rs → Mm → Prop} (hv9 : sv σ = some V) (ht : t < 100) (M9 : Mm) (hfin : ∀ M', jMm M' σ → jfm M9 M' → (∀ q, q < V 0 1 → jm_A M' 93 q = nI (sa σ 1 (100 * q + t))) → jW G mi_X5_judged 8 M0 124 [some (jr (some 90)), some (.int (nI t)), some (.int (jb (!waysB V (sa σ 1) t))), some (.int (nI (V 0 1))), none] [] M' P) :
    ∀ x : Nat × Mm, (x.1 ≤ V 0 1 ∧ jMm x.2 σ ∧ jfm M9 x.2 ∧ ∀ q, q < x.1 → jm_A x.2 93 q = nI (sa σ 1 (100 * q + t))) → jW G mi_X5_judged 8 M0 17 [some (jr (some 90)), some (.int (nI t)), some (.int (jb (!allB x.1 (wayT V (sa σ 1) t)))), some (.int (nI x.1)), none] [] x.2 P := by
  refine jW.loop (σ := Nat × Mm) _ (fun x => V 0 1 - x.1) _ (fun _ => []) (fun x => x.2) (fun x hI ih => ?_)
  obtain ⟨k, M1⟩ := x
  obtain ⟨hk, hM, hf, ha⟩ := hI
  dsimp only at hk hM hf ha ih ⊢
  have hS := hM.1
  obtain ⟨w, hs, hN⟩ := hM.so hv9
  have hw := hs.s
  have hn := wf_nq hs.w
  have hnp := wf_np hs.w
  by_cases hkn : k < V 0 1
  · obtain ⟨o1, o2, o3, o4⟩ := hM.2.1.2 V hv9
    have hq1 := (wf_q hs.w hkn).1
    have hq2 := o3 k t hkn ht
    have hq3 : ¬ t = 0 → sa σ 1 (100 * k + t - 1) < V 0 0 := fun h => by rw [show 100 * k + t - 1 = 100 * k + (t - 1) by omega]; exact o3 k (t - 1) hkn (by omega)
    have hp9 := p10 hnp
    have hB1 : V 3 (V 11 k) < 1024 := by have := (wf_pl hs.w hq1).2.2.1; omega
    have hB3 : ¬ t = 0 → V 3 (sa σ 1 (100 * k + t - 1)) < 1024 := fun h => by have := (wf_pl hs.w (hq3 h)).2.2.1; omega
    refine jw_iload_n (pc := 17) dX5_judged_17 rfl ?_
    refine jw_aload_n (pc := 18) dX5_judged_18 rfl ?_
    refine jx_getRs (pc := 19) (jf_X5_380_4.r) rfl dX5_judged_19 rfl (is_90 hS) (by decide) (hs.r) ?_
    refine jx_getIs (pc := 22) (jf_X5_221_12.r) rfl dX5_judged_22 rfl (wis hw) (by decide) (mi_nq hs.V) ?_
    first | refine jx_icmp_ge (pc := 25) (tgt := 124) dX5_judged_25 (by decide) (by omega) (by omega) ?_ ?_ | refine jw_icmp_ge (pc := 25) (tgt := 124) dX5_judged_25 (by decide) ?_ ?_
    · intro h_25
      omega
    · intro h_25
      refine jw_aload_n (pc := 28) dX5_judged_28 rfl ?_
      refine jx_getRs (pc := 29) (jf_X5_21_4.r) rfl dX5_judged_29 rfl (is_90 hS) (by decide) (sr_90_69 hS) ?_
      refine jw_iload_n (pc := 32) dX5_judged_32 rfl ?_
      refine jw_aload_n (pc := 33) dX5_judged_33 rfl ?_
      refine jx_getRs (pc := 34) (jf_X5_24_4.r) rfl dX5_judged_34 rfl (is_90 hS) (by decide) (sr_90_72 hS) ?_
      refine jw_bipush (pc := 37) dX5_judged_37 bp_100 ?_
      refine jw_iload_n (pc := 39) dX5_judged_39 rfl ?_
      first | refine jx_imul (pc := 40) dX5_judged_40 ?_ | refine jw_imul (pc := 40) dX5_judged_40 ?_
      refine jw_iload_n (pc := 41) dX5_judged_41 rfl ?_
      first | refine jx_iadd (pc := 42) dX5_judged_42 ?_ | refine jw_iadd (pc := 42) dX5_judged_42 ?_
      refine jx_ialds (pc := 43) dX5_judged_43 (ok_94 hS) (nn_94 hS) rfl (by omega) (hN.2.2.2.2.1 _ _ hkn ht) ?_
      refine jx_iast (pc := 44) dX5_judged_44 (by decide) (ok_93 hS) (nn_93 hS) rfl (by omega) ?_
      have hM2 : jMm (js_A M1 93 k (nI (sa σ 1 (100 * k + t)))) σ := mA hM (by unfold msa; omega)
      have hf2 : jfm M9 (js_A M1 93 k (nI (sa σ 1 (100 * k + t)))) := hf.tr (jsm.A (by decide))
      have ha2 : ∀ q, q < k + 1 → jm_A (js_A M1 93 k (nI (sa σ 1 (100 * k + t)))) 93 q = nI (sa σ 1 (100 * q + t)) := fun q hq => by
        by_cases e : q = k
        · subst e; exact jA_same
        · exact (jA_oth e).trans (ha q (by omega))
      generalize js_A M1 93 k (nI (sa σ 1 (100 * k + t))) = M2 at hM2 hf2 ha2 ⊢
      have ih2 := ih (k + 1, M2) ⟨hkn, hM2, hf2, ha2⟩ (by dsimp only; omega)
      dsimp only at ih2
      clear hS hs hN hw
      have hS := hM2.1
      obtain ⟨w, hs, hN⟩ := hM2.so hv9
      have hw := hs.s
      have he3 : ¬ t = 0 → jm_A M2 94 (100 * k + t - 1) = nI (sa σ 1 (100 * k + t - 1)) := fun h => by rw [show 100 * k + t - 1 = 100 * k + (t - 1) by omega]; exact hN.2.2.2.2.1 k (t - 1) hkn (by omega)
      refine jw_iload_n (pc := 45) dX5_judged_45 rfl ?_
      refine jx_if_ne (pc := 46) (tgt := 61) dX5_judged_46 (by decide) (by omega) ?_ ?_
      · intro h_46
        refine jw_aload_n (pc := 61) dX5_judged_61 rfl ?_
        refine jx_getRs (pc := 62) (jf_X5_24_4.r) rfl dX5_judged_62 rfl (is_90 hS) (by decide) (sr_90_72 hS) ?_
        refine jw_bipush (pc := 65) dX5_judged_65 bp_100 ?_
        refine jw_iload_n (pc := 67) dX5_judged_67 rfl ?_
        first | refine jx_imul (pc := 68) dX5_judged_68 ?_ | refine jw_imul (pc := 68) dX5_judged_68 ?_
        refine jw_iload_n (pc := 69) dX5_judged_69 rfl ?_
        first | refine jx_iadd (pc := 70) dX5_judged_70 ?_ | refine jw_iadd (pc := 70) dX5_judged_70 ?_
        refine jw_iconst (pc := 71) dX5_judged_71 ic_1 ?_
        refine jw_isub (pc := 72) dX5_judged_72 ?_
        rw [sub1 (by omega)]
        refine jx_ialds (pc := 73) dX5_judged_73 (ok_94 hS) (nn_94 hS) rfl (by omega) (he3 h_46) ?_
        refine jw_istore (pc := 74) dX5_judged_74 (Nat.le_of_ble_eq_true rfl) rfl ?_
        try dsimp only [jput1, jput2, jkill, jclr, jis2_i, jis2_l, jis2_rs, jis2_rn, cond]
        refine jw_iload_n (pc := 76) dX5_judged_76 rfl ?_
        first | refine jx_ifb_ne (pc := 77) (tgt := 112) dX5_judged_77 (by decide) ?_ ?_ | refine jx_if_ne (pc := 77) (tgt := 112) dX5_judged_77 (by decide) (by omega) ?_ ?_ | refine jw_if_ne (pc := 77) (tgt := 112) dX5_judged_77 (by decide) ?_ ?_
        · intro h_77
          refine jw_iconst (pc := 112) dX5_judged_112 ic_1 ?_
          refine jw_goto (pc := 113) (tgt := 117) dX5_judged_113 (by decide) ?_
          refine jw_tt (b := !allB (k + 1) (wayT V (sa σ 1) t)) ?_ (lp_mj7 (by omega) ih2)
          rw [allB_s]
          first
            | (rw [show allB k (wayT V (sa σ 1) t) = false by simpa using h_77]; rfl)
            | (unfold wayT linkB; rw [if_pos h_46, decide_eq_false h_88, h_109, Bool.or_false, Bool.and_false]; rfl)
            | (unfold wayT linkB; rw [if_neg h_46, decide_eq_false h_88, h_109, Bool.or_false, Bool.and_false]; rfl)
        · intro h_77
          refine jw_iload (pc := 80) dX5_judged_80 rfl ?_
          refine jw_aload_n (pc := 82) dX5_judged_82 rfl ?_
          refine jx_getRs (pc := 83) (jf_X5_21_4.r) rfl dX5_judged_83 rfl (is_90 hS) (by decide) (sr_90_69 hS) ?_
          refine jw_iload_n (pc := 86) dX5_judged_86 rfl ?_
          refine jx_ialds (pc := 87) dX5_judged_87 (ok_93 hS) (nn_93 hS) rfl (by omega) (ha2 k (by omega)) ?_
          first | refine jx_icmp_eq (pc := 88) (tgt := 116) dX5_judged_88 (by decide) (by omega) (by omega) ?_ ?_ | refine jw_icmp_eq (pc := 88) (tgt := 116) dX5_judged_88 (by decide) ?_ ?_
          · intro h_88
            refine jw_iconst (pc := 116) dX5_judged_116 ic_0 ?_
            refine jw_ff (b := !allB (k + 1) (wayT V (sa σ 1) t)) ?_ (lp_mj7 (by omega) ih2)
            rw [allB_s, show allB k (wayT V (sa σ 1) t) = true by simpa using h_77]
            unfold wayT linkB
            first
              | (rw [if_pos h_46, decide_eq_true h_88]; rfl)
              | (rw [if_neg h_46, decide_eq_true h_88]; rfl)
              | (rw [if_pos h_46, h_109, Bool.or_true]; rfl)
              | (rw [if_neg h_46, h_109, Bool.or_true]; rfl)
          · intro h_88
            refine jw_aload_n (pc := 91) dX5_judged_91 rfl ?_
            refine jx_getRs (pc := 92) (jf_X5_380_4.r) rfl dX5_judged_92 rfl (is_90 hS) (by decide) (hs.r) ?_
            refine jw_iload (pc := 95) dX5_judged_95 rfl ?_
            refine jx_cVE (mi1 := mi_X14_near) (pc := 97) rfl dX5_judged_97 lk_X5_449 rfl fi_X14_near rfl rfl rfl (by decide) (wis hw) (t_X14_near hs.V hs.w (by first | exact hq1 | exact hq3 h_46)) (by first | decide | omega) rfl rfl (by decide) ?_
            refine jw_aload_n (pc := 100) dX5_judged_100 rfl ?_
            refine jx_getRs (pc := 101) (jf_X5_21_4.r) rfl dX5_judged_101 rfl (is_90 hS) (by decide) (sr_90_69 hS) ?_
            refine jw_iload_n (pc := 104) dX5_judged_104 rfl ?_
            refine jx_ialds (pc := 105) dX5_judged_105 (ok_93 hS) (nn_93 hS) rfl (by omega) (ha2 k (by omega)) ?_
            refine jx_cSE (mi1 := mi_X5_has) (pc := 106) rfl dX5_judged_106 lk_X5_398 rfl fi_X5_has (t_X5_has (by first | (have := hB3 h_46; omega) | omega) (by omega)) (by first | decide | omega) rfl rfl (by decide) ?_
            first | refine jx_ifb_ne (pc := 109) (tgt := 116) dX5_judged_109 (by decide) ?_ ?_ | refine jx_if_ne (pc := 109) (tgt := 116) dX5_judged_109 (by decide) (by omega) ?_ ?_ | refine jw_if_ne (pc := 109) (tgt := 116) dX5_judged_109 (by decide) ?_ ?_
            · intro h_109
              refine jw_iconst (pc := 116) dX5_judged_116 ic_0 ?_
              refine jw_ff (b := !allB (k + 1) (wayT V (sa σ 1) t)) ?_ (lp_mj7 (by omega) ih2)
              rw [allB_s, show allB k (wayT V (sa σ 1) t) = true by simpa using h_77]
              unfold wayT linkB
              first
                | (rw [if_pos h_46, decide_eq_true h_88]; rfl)
                | (rw [if_neg h_46, decide_eq_true h_88]; rfl)
                | (rw [if_pos h_46, h_109, Bool.or_true]; rfl)
                | (rw [if_neg h_46, h_109, Bool.or_true]; rfl)
            · intro h_109
              refine jw_iconst (pc := 112) dX5_judged_112 ic_1 ?_
              refine jw_goto (pc := 113) (tgt := 117) dX5_judged_113 (by decide) ?_
              refine jw_tt (b := !allB (k + 1) (wayT V (sa σ 1) t)) ?_ (lp_mj7 (by omega) ih2)
              rw [allB_s]
              first
                | (rw [show allB k (wayT V (sa σ 1) t) = false by simpa using h_77]; rfl)
                | (unfold wayT linkB; rw [if_pos h_46, decide_eq_false h_88, h_109, Bool.or_false, Bool.and_false]; rfl)
                | (unfold wayT linkB; rw [if_neg h_46, decide_eq_false h_88, h_109, Bool.or_false, Bool.and_false]; rfl)
      · intro h_46
        refine jw_aload_n (pc := 49) dX5_judged_49 rfl ?_
        refine jx_getRs (pc := 50) (jf_X5_380_4.r) rfl dX5_judged_50 rfl (is_90 hS) (by decide) (hs.r) ?_
        refine jx_getRs (pc := 53) jg_X5_323_12 rfl dX5_judged_53 rfl (wis hw) (by decide) (wr_8 hw) ?_
        refine jw_iload_n (pc := 56) dX5_judged_56 rfl ?_
        refine jx_ialds (pc := 57) dX5_judged_57 (wok_8 hw) (wnn_8 hw) rfl (by omega) ((ma_q hs.V hkn).1) ?_
        refine jw_goto (pc := 58) (tgt := 74) dX5_judged_58 (by decide) ?_
        refine jw_istore (pc := 74) dX5_judged_74 (Nat.le_of_ble_eq_true rfl) rfl ?_
        try dsimp only [jput1, jput2, jkill, jclr, jis2_i, jis2_l, jis2_rs, jis2_rn, cond]
        refine jw_iload_n (pc := 76) dX5_judged_76 rfl ?_
        first | refine jx_ifb_ne (pc := 77) (tgt := 112) dX5_judged_77 (by decide) ?_ ?_ | refine jx_if_ne (pc := 77) (tgt := 112) dX5_judged_77 (by decide) (by omega) ?_ ?_ | refine jw_if_ne (pc := 77) (tgt := 112) dX5_judged_77 (by decide) ?_ ?_
        · intro h_77
          refine jw_iconst (pc := 112) dX5_judged_112 ic_1 ?_
          refine jw_goto (pc := 113) (tgt := 117) dX5_judged_113 (by decide) ?_
          refine jw_tt (b := !allB (k + 1) (wayT V (sa σ 1) t)) ?_ (lp_mj7 (by omega) ih2)
          rw [allB_s]
          first
            | (rw [show allB k (wayT V (sa σ 1) t) = false by simpa using h_77]; rfl)
            | (unfold wayT linkB; rw [if_pos h_46, decide_eq_false h_88, h_109, Bool.or_false, Bool.and_false]; rfl)
            | (unfold wayT linkB; rw [if_neg h_46, decide_eq_false h_88, h_109, Bool.or_false, Bool.and_false]; rfl)
        · intro h_77
          refine jw_iload (pc := 80) dX5_judged_80 rfl ?_
          refine jw_aload_n (pc := 82) dX5_judged_82 rfl ?_
          refine jx_getRs (pc := 83) (jf_X5_21_4.r) rfl dX5_judged_83 rfl (is_90 hS) (by decide) (sr_90_69 hS) ?_
          refine jw_iload_n (pc := 86) dX5_judged_86 rfl ?_
          refine jx_ialds (pc := 87) dX5_judged_87 (ok_93 hS) (nn_93 hS) rfl (by omega) (ha2 k (by omega)) ?_
          first | refine jx_icmp_eq (pc := 88) (tgt := 116) dX5_judged_88 (by decide) (by omega) (by omega) ?_ ?_ | refine jw_icmp_eq (pc := 88) (tgt := 116) dX5_judged_88 (by decide) ?_ ?_
          · intro h_88
            refine jw_iconst (pc := 116) dX5_judged_116 ic_0 ?_
            refine jw_ff (b := !allB (k + 1) (wayT V (sa σ 1) t)) ?_ (lp_mj7 (by omega) ih2)
            rw [allB_s, show allB k (wayT V (sa σ 1) t) = true by simpa using h_77]
            unfold wayT linkB
            first
              | (rw [if_pos h_46, decide_eq_true h_88]; rfl)
              | (rw [if_neg h_46, decide_eq_true h_88]; rfl)
              | (rw [if_pos h_46, h_109, Bool.or_true]; rfl)
              | (rw [if_neg h_46, h_109, Bool.or_true]; rfl)
          · intro h_88
            refine jw_aload_n (pc := 91) dX5_judged_91 rfl ?_
            refine jx_getRs (pc := 92) (jf_X5_380_4.r) rfl dX5_judged_92 rfl (is_90 hS) (by decide) (hs.r) ?_
            refine jw_iload (pc := 95) dX5_judged_95 rfl ?_
            refine jx_cVE (mi1 := mi_X14_near) (pc := 97) rfl dX5_judged_97 lk_X5_449 rfl fi_X14_near rfl rfl rfl (by decide) (wis hw) (t_X14_near hs.V hs.w (by first | exact hq1 | exact hq3 h_46)) (by first | decide | omega) rfl rfl (by decide) ?_
            refine jw_aload_n (pc := 100) dX5_judged_100 rfl ?_
            refine jx_getRs (pc := 101) (jf_X5_21_4.r) rfl dX5_judged_101 rfl (is_90 hS) (by decide) (sr_90_69 hS) ?_
            refine jw_iload_n (pc := 104) dX5_judged_104 rfl ?_
            refine jx_ialds (pc := 105) dX5_judged_105 (ok_93 hS) (nn_93 hS) rfl (by omega) (ha2 k (by omega)) ?_
            refine jx_cSE (mi1 := mi_X5_has) (pc := 106) rfl dX5_judged_106 lk_X5_398 rfl fi_X5_has (t_X5_has (by first | (have := hB3 h_46; omega) | omega) (by omega)) (by first | decide | omega) rfl rfl (by decide) ?_
            first | refine jx_ifb_ne (pc := 109) (tgt := 116) dX5_judged_109 (by decide) ?_ ?_ | refine jx_if_ne (pc := 109) (tgt := 116) dX5_judged_109 (by decide) (by omega) ?_ ?_ | refine jw_if_ne (pc := 109) (tgt := 116) dX5_judged_109 (by decide) ?_ ?_
            · intro h_109
              refine jw_iconst (pc := 116) dX5_judged_116 ic_0 ?_
              refine jw_ff (b := !allB (k + 1) (wayT V (sa σ 1) t)) ?_ (lp_mj7 (by omega) ih2)
              rw [allB_s, show allB k (wayT V (sa σ 1) t) = true by simpa using h_77]
              unfold wayT linkB
              first
                | (rw [if_pos h_46, decide_eq_true h_88]; rfl)
                | (rw [if_neg h_46, decide_eq_true h_88]; rfl)
                | (rw [if_pos h_46, h_109, Bool.or_true]; rfl)
                | (rw [if_neg h_46, h_109, Bool.or_true]; rfl)
            · intro h_109
              refine jw_iconst (pc := 112) dX5_judged_112 ic_1 ?_
              refine jw_goto (pc := 113) (tgt := 117) dX5_judged_113 (by decide) ?_
              refine jw_tt (b := !allB (k + 1) (wayT V (sa σ 1) t)) ?_ (lp_mj7 (by omega) ih2)
              rw [allB_s]
              first
                | (rw [show allB k (wayT V (sa σ 1) t) = false by simpa using h_77]; rfl)
                | (unfold wayT linkB; rw [if_pos h_46, decide_eq_false h_88, h_109, Bool.or_false, Bool.and_false]; rfl)
                | (unfold wayT linkB; rw [if_neg h_46, decide_eq_false h_88, h_109, Bool.or_false, Bool.and_false]; rfl)
  · have hk' : k = V 0 1 := by omega
    subst hk'
    refine jw_iload_n (pc := 17) dX5_judged_17 rfl ?_
    refine jw_aload_n (pc := 18) dX5_judged_18 rfl ?_
    refine jx_getRs (pc := 19) (jf_X5_380_4.r) rfl dX5_judged_19 rfl (is_90 hS) (by decide) (hs.r) ?_
    refine jx_getIs (pc := 22) (jf_X5_221_12.r) rfl dX5_judged_22 rfl (wis hw) (by decide) (mi_nq hs.V) ?_
    first | refine jx_icmp_ge (pc := 25) (tgt := 124) dX5_judged_25 (by decide) (by omega) (by omega) ?_ ?_ | refine jw_icmp_ge (pc := 25) (tgt := 124) dX5_judged_25 (by decide) ?_ ?_
    · intro h_25
      exact hfin M1 hM hf ha
    · intro h_25
      omega
theorem lp_mje {M0 : Mm} {V : Vt} (hv9 : sv σ = some V) (h0 : ∀ j, j < V 0 12 → whyAt V (sa σ 1) j = 0) {M1 : Mm} (hM : jMm M1 σ) (hf : jfm M0 M1) (hj : jm_I M1 90 73 = nI 0) :
    ∀ k : Nat, (k ≤ V 0 2 ∧ allB k (doneB V (sa σ 1)) = true) → jW G mi_X5_judged 8 M0 171 [some (jr (some 90)), some (.int (nI k)), none, none, none] [] M1 (jJm M0 σ V) := by
  have hS := hM.1
  obtain ⟨w, hs, hN⟩ := hM.so hv9
  have hw := hs.s
  have hn := wf_ne hs.w
  refine jW.loop _ (fun k => V 0 2 - k) _ (fun _ => []) (fun _ => M1) (fun k hI ih => ?_)
  obtain ⟨hk, hall⟩ := hI
  by_cases hkn : k < V 0 2
  ·
    refine jw_iload_n (pc := 171) dX5_judged_171 rfl ?_
    refine jw_aload_n (pc := 172) dX5_judged_172 rfl ?_
    refine jx_getRs (pc := 173) (jf_X5_380_4.r) rfl dX5_judged_173 rfl (is_90 hS) (by decide) (hs.r) ?_
    refine jx_getIs (pc := 176) (jf_X5_344_12.r) rfl dX5_judged_176 rfl (wis hw) (by decide) (mi_ne hs.V) ?_
    first | refine jx_icmp_ge (pc := 179) (tgt := 212) dX5_judged_179 (by decide) (by omega) (by omega) ?_ ?_ | refine jw_icmp_ge (pc := 179) (tgt := 212) dX5_judged_179 (by decide) ?_ ?_
    · intro h_179
      omega
    · intro h_179
      refine jw_aload_n (pc := 182) dX5_judged_182 rfl ?_
      refine jw_iload_n (pc := 183) dX5_judged_183 rfl ?_
      refine jx_cVE (mi1 := mi_X5_isPlanDone) (pc := 184) rfl dX5_judged_184 lk_X5_455 rfl fi_X5_isPlanDone rfl rfl rfl (by decide) (is_90 hS) (t_X5_isPlanDone (σ := σ) hs hN hM.2.1 hv9 hkn) (by first | decide | omega) rfl rfl (by decide) ?_
      first | refine jx_ifb_eq (pc := 187) (tgt := 193) dX5_judged_187 (by decide) ?_ ?_ | refine jx_if_eq (pc := 187) (tgt := 193) dX5_judged_187 (by decide) (by omega) ?_ ?_ | refine jw_if_eq (pc := 187) (tgt := 193) dX5_judged_187 (by decide) ?_ ?_
      · intro h_187
        refine jw_aload_n (pc := 193) dX5_judged_193 rfl ?_
        refine jw_iconst (pc := 194) dX5_judged_194 ic_3 ?_
        refine jx_putI (pc := 195) jf_X5_452_4 rfl dX5_judged_195 rfl rfl (is_90 hS) (by decide) ?_
        refine jw_aload_n (pc := 198) dX5_judged_198 rfl ?_
        refine jx_getRs (pc := 199) (jf_X5_380_4.r) rfl dX5_judged_199 rfl (is_90 hS) (by decide) (hs.r) ?_
        refine jx_getIs (pc := 202) (jf_X5_273_12.r) rfl dX5_judged_202 rfl (wis hw) (by decide) (mi_steps hs.V) ?_
        refine jw_ireturn (pc := 205) dX5_judged_205 rfl (rfl) ?_
        refine ⟨_, rfl, ?_, mI hM (by decide), hf.tr (jsm.I (by decide)), ?_⟩
        · rw [jud_2 h0, allB_f hkn (by rw [allB_s, h_187, Bool.and_false])]; rfl
        · rw [jud_2 h0, allB_f hkn (by rw [allB_s, h_187, Bool.and_false])]; exact jI_same
      · intro h_187
        refine jw_goto (pc := 190) (tgt := 206) dX5_judged_190 (by decide) ?_
        first | refine jx_iinc (pc := 206) dX5_judged_206 rfl rfl ?_ | refine jw_iinc (pc := 206) dX5_judged_206 rfl rfl rfl ?_
        try dsimp only [jput1, jkill, jclr, jis2_i, jis2_l, jis2_rs, jis2_rn, cond]
        refine jw_goto (pc := 209) (tgt := 171) dX5_judged_209 (by decide) ?_
        exact ih (k + 1) ⟨hkn, by rw [allB_s, hall, h_187]; rfl⟩ (by omega)
  · have hk' : k = V 0 2 := by omega
    subst hk'
    refine jw_iload_n (pc := 171) dX5_judged_171 rfl ?_
    refine jw_aload_n (pc := 172) dX5_judged_172 rfl ?_
    refine jx_getRs (pc := 173) (jf_X5_380_4.r) rfl dX5_judged_173 rfl (is_90 hS) (by decide) (hs.r) ?_
    refine jx_getIs (pc := 176) (jf_X5_344_12.r) rfl dX5_judged_176 rfl (wis hw) (by decide) (mi_ne hs.V) ?_
    first | refine jx_icmp_ge (pc := 179) (tgt := 212) dX5_judged_179 (by decide) (by omega) (by omega) ?_ ?_ | refine jw_icmp_ge (pc := 179) (tgt := 212) dX5_judged_179 (by decide) ?_ ?_
    · intro h_179
      refine jw_bipush (pc := 212) dX5_judged_212 bp_m2 ?_
      refine jw_ireturn (pc := 214) dX5_judged_214 rfl (rfl) ?_
      refine ⟨_, rfl, ?_, hM, hf, ?_⟩
      · rw [jud_2 h0, hall]; rfl
      · rw [jud_2 h0, hall]; exact hj
    · intro h_179
      omega
theorem t_X5_judged {V : Vt} (h : jMm M σ) (hv9 : sv σ = some V) : jT G mi_X5_judged 8 [jr (some 90)] M (jJm M σ V) := by
  have hS := h.1
  refine jT.of (by decide) rfl (Nat.le_of_ble_eq_true rfl) ?_
  obtain ⟨o1, o2, o3, o4⟩ := h.2.1.2 V hv9
  have hst1 := (h.2.1.1.2 V hv9).2.2
  have J : ∀ x : Nat × Mm, (x.1 ≤ V 0 12 ∧ (∀ j, j < x.1 → whyAt V (sa σ 1) j = 0) ∧ jMm x.2 σ ∧ jfm M x.2 ∧ (x.1 = 0 ∨ jm_I x.2 90 73 = nI 0)) → jW G mi_X5_judged 8 M 2 [some (jr (some 90)), some (.int (nI x.1)), none, none, none] [] x.2 (jJm M σ V) := by
    refine jW.loop (σ := Nat × Mm) _ (fun x => V 0 12 - x.1) _ (fun _ => []) (fun x => x.2) (fun x hI ih => ?_)
    obtain ⟨k, M1⟩ := x
    obtain ⟨hk, h0, hM, hf, hz⟩ := hI
    dsimp only at hk h0 hM hf hz ih ⊢
    have hS := hM.1
    obtain ⟨w, hs, hN⟩ := hM.so hv9
    have hw := hs.s
    obtain ⟨d1, d2, d3, d4, d5⟩ := wf_d hs.w
    by_cases hkn : k < V 0 12
    · have L124 : ∀ M', jMm M' σ → jfm M M' → (∀ q, q < V 0 1 → jm_A M' 93 q = nI (sa σ 1 (100 * q + k))) → jW G mi_X5_judged 8 M 124 [some (jr (some 90)), some (.int (nI k)), some (.int (jb (!waysB V (sa σ 1) k))), some (.int (nI (V 0 1))), none] [] M' (jJm M σ V) := by
        intro M' hM2 hf2 ha2
        have hS := hM2.1
        obtain ⟨w, hs, hN⟩ := hM2.so hv9
        have hw := hs.s
        have J151 : ∀ c, c = whyAt V (sa σ 1) k → jW G mi_X5_judged 8 M 151 [some (jr (some 90)), some (.int (nI k)), some (.int (jb (!waysB V (sa σ 1) k))), some (.int (nI (V 0 1))), none] [.int (nI c), jr (some 90)] M' (jJm M σ V) := by
          intro c hc
          have hc3 : c < 3 := by rw [hc]; exact why_lt _ _ _
          refine jx_putI (pc := 151) jf_X5_452_4 rfl dX5_judged_151 rfl rfl (is_90 hS) (by decide) ?_
          refine jw_aload_n (pc := 154) dX5_judged_154 rfl ?_
          refine jx_getIs (pc := 155) (jf_X5_452_4.r) rfl dX5_judged_155 rfl (is_90 hS) (by decide) (jI_same) ?_
          refine jw_if_le (pc := 158) (tgt := 163) dX5_judged_158 (by decide) ?_ ?_
          · intro h_158
            first | refine jx_iinc (pc := 163) dX5_judged_163 rfl rfl ?_ | refine jw_iinc (pc := 163) dX5_judged_163 rfl rfl rfl ?_
            try dsimp only [jput1, jkill, jclr, jis2_i, jis2_l, jis2_rs, jis2_rn, cond]
            refine jw_goto (pc := 166) (tgt := 2) dX5_judged_166 (by decide) ?_
            have hc0 : c = 0 := (le0 (by omega)).mp h_158
            refine jW.sub ?_ (ih (k + 1, js_I M' 90 73 (nI c)) ⟨hkn, fun j hj => ?_, mI hM2 (by decide), hf2.tr (jsm.I (by decide)), Or.inr ?_⟩ (by dsimp only; omega))
            · exact ⟨rfl, rfl, trivial⟩
            · by_cases e : j = k
              · subst e; rw [← hc]; exact hc0
              · exact h0 j (by dsimp only at hj; omega)
            · rw [hc0]; exact jI_same
          · intro h_158
            refine jw_iload_n (pc := 161) dX5_judged_161 rfl ?_
            refine jw_ireturn (pc := 162) dX5_judged_162 rfl (rfl) ?_
            have hc0 : whyAt V (sa σ 1) k ≠ 0 := fun e => h_158 (by rw [hc, e]; decide +kernel)
            refine ⟨_, rfl, ?_, mI hM2 (by decide), hf2.tr (jsm.I (by decide)), ?_⟩
            · rw [jud_1 hkn h0 hc0]
            · rw [jud_1 hkn h0 hc0, ← hc]; exact jI_same
        refine jw_aload_n (pc := 124) dX5_judged_124 rfl ?_
        refine jw_iload_n (pc := 125) dX5_judged_125 rfl ?_
        first | refine jx_ifb_eq (pc := 126) (tgt := 133) dX5_judged_126 (by decide) ?_ ?_ | refine jx_if_eq (pc := 126) (tgt := 133) dX5_judged_126 (by decide) (by omega) ?_ ?_ | refine jw_if_eq (pc := 126) (tgt := 133) dX5_judged_126 (by decide) ?_ ?_
        · intro h_126
          refine jw_aload_n (pc := 133) dX5_judged_133 rfl ?_
          refine jw_aload_n (pc := 134) dX5_judged_134 rfl ?_
          refine jx_getRs (pc := 135) (jf_X5_21_4.r) rfl dX5_judged_135 rfl (is_90 hS) (by decide) (sr_90_69 hS) ?_
          refine jw_iload_n (pc := 138) dX5_judged_138 rfl ?_
          refine jw_iconst (pc := 139) dX5_judged_139 ic_0 ?_
          refine jx_cVE (mi1 := mi_X5_isLawful) (pc := 140) rfl dX5_judged_140 lk_X5_433 rfl fi_X5_isLawful rfl rfl rfl (by decide) (is_90 hS) (t_X5_isLawful (t := k) (sh := 0) (pl := fun q => sa σ 1 (100 * q + k)) hs (by decide) (by decide) (by omega) ⟨ok_93 hS, nn_93 hS, fun q hq => ⟨ha2 q hq, o3 q k hq (by omega)⟩⟩ (by decide)) (by first | decide | omega) rfl rfl (by simp only [List.map_cons, List.map_nil, List.sum_cons, List.sum_nil, cat_i, cat_l, jr_cat]; decide) ?_
          first | refine jx_ifb_eq (pc := 143) (tgt := 150) dX5_judged_143 (by decide) ?_ ?_ | refine jx_if_eq (pc := 143) (tgt := 150) dX5_judged_143 (by decide) (by omega) ?_ ?_ | refine jw_if_eq (pc := 143) (tgt := 150) dX5_judged_143 (by decide) ?_ ?_
          · intro h_143
            refine jw_iconst (pc := 150) dX5_judged_150 ic_2 ?_
            refine J151 _ ?_
            first
              | exact (xway_m (by simpa using h_126)).symm
              | exact (why_0 (by simpa using h_126) h_143).symm
              | exact (why_2 (by simpa using h_126) h_143).symm
          · intro h_143
            refine jw_iconst (pc := 146) dX5_judged_146 ic_0 ?_
            refine jw_goto (pc := 147) (tgt := 151) dX5_judged_147 (by decide) ?_
            refine J151 _ ?_
            first
              | exact (xway_m (by simpa using h_126)).symm
              | exact (why_0 (by simpa using h_126) h_143).symm
              | exact (why_2 (by simpa using h_126) h_143).symm
        · intro h_126
          refine jw_iconst (pc := 129) dX5_judged_129 ic_1 ?_
          refine jw_goto (pc := 130) (tgt := 151) dX5_judged_130 (by decide) ?_
          refine J151 _ ?_
          first
            | exact (xway_m (by simpa using h_126)).symm
            | exact (why_0 (by simpa using h_126) h_143).symm
            | exact (why_2 (by simpa using h_126) h_143).symm
      refine jw_iload_n (pc := 2) dX5_judged_2 rfl ?_
      refine jw_aload_n (pc := 3) dX5_judged_3 rfl ?_
      refine jx_getRs (pc := 4) (jf_X5_380_4.r) rfl dX5_judged_4 rfl (is_90 hS) (by decide) (hs.r) ?_
      refine jx_getIs (pc := 7) (jf_X5_273_12.r) rfl dX5_judged_7 rfl (wis hw) (by decide) (mi_steps hs.V) ?_
      first | refine jx_icmp_ge (pc := 10) (tgt := 169) dX5_judged_10 (by decide) (by omega) (by omega) ?_ ?_ | refine jw_icmp_ge (pc := 10) (tgt := 169) dX5_judged_10 (by decide) ?_ ?_
      · intro h_10
        omega
      · intro h_10
        refine jw_iconst (pc := 13) dX5_judged_13 ic_0 ?_
        refine jw_istore_n (pc := 14) dX5_judged_14 (Nat.le_of_ble_eq_true rfl) rfl ?_
        try dsimp only [jput1, jput2, jkill, jclr, jis2_i, jis2_l, jis2_rs, jis2_rn, cond]
        refine jw_iconst (pc := 15) dX5_judged_15 ic_0 ?_
        refine jw_istore_n (pc := 16) dX5_judged_16 (Nat.le_of_ble_eq_true rfl) rfl ?_
        try dsimp only [jput1, jput2, jkill, jclr, jis2_i, jis2_l, jis2_rs, jis2_rn, cond]
        exact lp_mj hv9 (by omega) M L124 (0, M1) ⟨Nat.zero_le _, hM, hf, fun q hq => absurd hq (Nat.not_lt_zero _)⟩
    · have hk' : k = V 0 12 := by omega
      subst hk'
      have hz2 : jm_I M1 90 73 = nI 0 := by rcases hz with e | e; omega; exact e
      refine jw_iload_n (pc := 2) dX5_judged_2 rfl ?_
      refine jw_aload_n (pc := 3) dX5_judged_3 rfl ?_
      refine jx_getRs (pc := 4) (jf_X5_380_4.r) rfl dX5_judged_4 rfl (is_90 hS) (by decide) (hs.r) ?_
      refine jx_getIs (pc := 7) (jf_X5_273_12.r) rfl dX5_judged_7 rfl (wis hw) (by decide) (mi_steps hs.V) ?_
      first | refine jx_icmp_ge (pc := 10) (tgt := 169) dX5_judged_10 (by decide) (by omega) (by omega) ?_ ?_ | refine jw_icmp_ge (pc := 10) (tgt := 169) dX5_judged_10 (by decide) ?_ ?_
      · intro h_10
        refine jw_iconst (pc := 169) dX5_judged_169 ic_0 ?_
        refine jw_istore_n (pc := 170) dX5_judged_170 (Nat.le_of_ble_eq_true rfl) rfl ?_
        try dsimp only [jput1, jput2, jkill, jclr, jis2_i, jis2_l, jis2_rs, jis2_rn, cond]
        exact lp_mje hv9 h0 hM hf hz2 0 ⟨Nat.zero_le _, rfl⟩
      · intro h_10
        omega
  refine jw_iconst (pc := 0) dX5_judged_0 ic_0 ?_
  refine jw_istore_n (pc := 1) dX5_judged_1 (Nat.le_of_ble_eq_true rfl) rfl ?_
  try dsimp only [jput1, jput2, jkill, jclr, jis2_i, jis2_l, jis2_rs, jis2_rn, cond]
  exact J (0, M) ⟨Nat.zero_le _, fun j hj => absurd hj (Nat.not_lt_zero _), h, jsm.rf, Or.inl rfl⟩
theorem t_X5_judge (h : jMm M σ) : jT G mi_X5_judge 9 [jr (some 90)] M (jQm M σ (q_judge σ)) := by
  have hS := h.1
  refine jT.of (by decide) rfl (Nat.le_of_ble_eq_true rfl) ?_
  cases hv9 : sv σ with
  | none =>
    refine jw_aload_n (pc := 0) dX5_judge_0 rfl ?_
    refine jw_iconst (pc := 1) dX5_judge_1 ic_0 ?_
    refine jx_putI (pc := 2) jf_X5_56_4 rfl dX5_judge_2 rfl rfl (is_90 hS) (by decide) ?_
    have hM := mthr (x := nI 0) h
    have hf : jfm M (js_I M 90 49 (nI 0)) := jsm.I (by decide)
    generalize js_I M 90 49 (nI 0) = M0 at hM hf ⊢
    clear hS
    have hS := hM.1
    refine jw_aload_n (pc := 5) dX5_judge_5 rfl ?_
    refine jx_getRs (pc := 6) (jf_X5_380_4.r) rfl dX5_judge_6 rfl (is_90 hS) (by decide) (hM.no hv9) ?_
    refine jw_ifnonnull (pc := 9) (tgt := 20) dX5_judge_9 (by decide) (fun ax h => by cases h) (fun h => ?_)
    clear h
    refine jw_aload_n (pc := 12) dX5_judge_12 rfl ?_
    refine jw_iconst (pc := 13) dX5_judge_13 ic_1 ?_
    refine jx_cVi (mi1 := mi_X5_refused) (pc := 14) rfl dX5_judge_14 lk_X5_62 rfl fi_X5_refused rfl rfl rfl (by decide) (is_90 hS) (t_X5_refused hM) (by first | decide | omega) rfl rfl (by decide) ?_
    intro x_14 M_14 q_14
    refine jw_goto (pc := 17) (tgt := 29) dX5_judge_17 (by decide) ?_
    refine jw_ireturn (pc := 29) dX5_judge_29 rfl (rfl) ?_
    refine qm ?_ hf q_14
    unfold q_judge; rw [hv9] <;> rfl
  | some V =>
    refine jw_aload_n (pc := 0) dX5_judge_0 rfl ?_
    refine jw_iconst (pc := 1) dX5_judge_1 ic_0 ?_
    refine jx_putI (pc := 2) jf_X5_56_4 rfl dX5_judge_2 rfl rfl (is_90 hS) (by decide) ?_
    have hM := mthr (x := nI 0) h
    have hf : jfm M (js_I M 90 49 (nI 0)) := jsm.I (by decide)
    generalize js_I M 90 49 (nI 0) = M0 at hM hf ⊢
    clear hS
    have hS := hM.1
    obtain ⟨w, hs, hN⟩ := hM.so hv9
    refine jw_aload_n (pc := 5) dX5_judge_5 rfl ?_
    refine jx_getRs (pc := 6) (jf_X5_380_4.r) rfl dX5_judge_6 rfl (is_90 hS) (by decide) (hs.r) ?_
    refine jw_ifnonnull (pc := 9) (tgt := 20) dX5_judge_9 (by decide) (fun ax h => ?_) (fun h => by cases h)
    clear h
    refine jw_aload_n (pc := 20) dX5_judge_20 rfl ?_
    refine jw_aload_n (pc := 21) dX5_judge_21 rfl ?_
    refine jx_cVi (mi1 := mi_X5_judged) (pc := 22) rfl dX5_judge_22 lk_X5_458 rfl fi_X5_judged rfl rfl rfl (by decide) (is_90 hS) (t_X5_judged (σ := σ) hM hv9) (by first | decide | omega) rfl rfl (by simp only [List.map_cons, List.map_nil, List.sum_cons, List.sum_nil, cat_i, cat_l, jr_cat]; decide) ?_
    intro x_22 M_22 q_22
    obtain ⟨e1, hM2, hf2, hj2⟩ := q_22
    subst e1
    have hS := hM2.1
    refine jw_iconst (pc := 25) dX5_judge_25 ic_0 ?_
    refine jx_cVi (mi1 := mi_X5_told) (pc := 26) rfl dX5_judge_26 lk_X5_66 rfl fi_X5_told rfl rfl rfl (by decide) (is_90 hS) (t_X5_told0 (σ := σ) hM2) (by first | decide | omega) rfl rfl (by decide) ?_
    intro x_26 M_26 q_26
    refine jw_ireturn (pc := 29) dX5_judge_29 rfl (rfl) ?_
    refine qm ?_ (hf.tr hf2) q_26
    unfold q_judge; rw [hv9] <;> rfl
theorem t_X5_why (h : jMm M σ) : jT G mi_X5_why 9 [jr (some 90)] M (jQm M σ (q_why σ)) := by
  have hS := h.1
  refine jT.of (by decide) rfl (Nat.le_of_ble_eq_true rfl) ?_
  cases hv9 : sv σ with
  | none =>
    refine jw_aload_n (pc := 0) dX5_why_0 rfl ?_
    refine jw_iconst (pc := 1) dX5_why_1 ic_0 ?_
    refine jx_putI (pc := 2) jf_X5_56_4 rfl dX5_why_2 rfl rfl (is_90 hS) (by decide) ?_
    have hM := mthr (x := nI 0) h
    have hf : jfm M (js_I M 90 49 (nI 0)) := jsm.I (by decide)
    generalize js_I M 90 49 (nI 0) = M0 at hM hf ⊢
    clear hS
    have hS := hM.1
    refine jw_aload_n (pc := 5) dX5_why_5 rfl ?_
    refine jx_getRs (pc := 6) (jf_X5_380_4.r) rfl dX5_why_6 rfl (is_90 hS) (by decide) (hM.no hv9) ?_
    refine jw_ifnonnull (pc := 9) (tgt := 18) dX5_why_9 (by decide) (fun ax h => by cases h) (fun h => ?_)
    clear h
    refine jw_aload_n (pc := 12) dX5_why_12 rfl ?_
    refine jw_iconst (pc := 13) dX5_why_13 ic_1 ?_
    refine jx_cVi (mi1 := mi_X5_refused) (pc := 14) rfl dX5_why_14 lk_X5_62 rfl fi_X5_refused rfl rfl rfl (by decide) (is_90 hS) (t_X5_refused hM) (by first | decide | omega) rfl rfl (by decide) ?_
    intro x_14 M_14 q_14
    refine jw_ireturn (pc := 17) dX5_why_17 rfl (rfl) ?_
    refine qm ?_ hf q_14
    unfold q_why; rw [hv9] <;> rfl
  | some V =>
    refine jw_aload_n (pc := 0) dX5_why_0 rfl ?_
    refine jw_iconst (pc := 1) dX5_why_1 ic_0 ?_
    refine jx_putI (pc := 2) jf_X5_56_4 rfl dX5_why_2 rfl rfl (is_90 hS) (by decide) ?_
    have hM := mthr (x := nI 0) h
    have hf : jfm M (js_I M 90 49 (nI 0)) := jsm.I (by decide)
    generalize js_I M 90 49 (nI 0) = M0 at hM hf ⊢
    clear hS
    have hS := hM.1
    obtain ⟨w, hs, hN⟩ := hM.so hv9
    refine jw_aload_n (pc := 5) dX5_why_5 rfl ?_
    refine jx_getRs (pc := 6) (jf_X5_380_4.r) rfl dX5_why_6 rfl (is_90 hS) (by decide) (hs.r) ?_
    refine jw_ifnonnull (pc := 9) (tgt := 18) dX5_why_9 (by decide) (fun ax h => ?_) (fun h => by cases h)
    clear h
    refine jw_aload_n (pc := 18) dX5_why_18 rfl ?_
    refine jx_cVi (mi1 := mi_X5_judged) (pc := 19) rfl dX5_why_19 lk_X5_458 rfl fi_X5_judged rfl rfl rfl (by decide) (is_90 hS) (t_X5_judged (σ := σ) hM hv9) (by first | decide | omega) rfl rfl (by decide) ?_
    intro x_19 M_19 q_19
    obtain ⟨e1, hM2, hf2, hj2⟩ := q_19
    subst e1
    have hS := hM2.1
    refine jw_pop (pc := 22) dX5_why_22 (rfl) ?_
    refine jw_aload_n (pc := 23) dX5_why_23 rfl ?_
    refine jw_aload_n (pc := 24) dX5_why_24 rfl ?_
    refine jx_getIs (pc := 25) (jf_X5_452_4.r) rfl dX5_why_25 rfl (is_90 hS) (by decide) (hj2) ?_
    refine jw_iconst (pc := 28) dX5_why_28 ic_0 ?_
    refine jx_cVi (mi1 := mi_X5_told) (pc := 29) rfl dX5_why_29 lk_X5_66 rfl fi_X5_told rfl rfl rfl (by decide) (is_90 hS) (t_X5_told0 (σ := σ) hM2) (by first | decide | omega) rfl rfl (by decide) ?_
    intro x_29 M_29 q_29
    refine jw_ireturn (pc := 32) dX5_why_32 rfl (rfl) ?_
    refine qm ?_ (hf.tr hf2) q_29
    unfold q_why; rw [hv9] <;> rfl
end JMJ
