/-! ===== fog, image, by the reference ===== -/
theorem mfog {M : Mm} {w a b : Nat} {V : Vt} (hs : jMs M w V a b) (fg : Nat) : jMs (js_I M 90 67 (nI fg)) w V a fg :=
  ⟨hs.1, hs.r, hs.V.sm (E := fun a => a = 90) (jsm.I rfl) (fun a ha => by omega), hs.w, hs.o, rfl⟩
theorem mfogc {M : Mm} {σ : Sg} {x : Int32} (h : jMm M σ) : jMm (js_I (js_I M 90 67 x) 90 67 (nI 0)) σ :=
  h.up (E := fun a => a = 90) ((jsm.I (E := fun a => a = 90) rfl).tr (jsm.I rfl)) h.1 (fun a q1 q2 => by omega) h.2.1 rfl rfl rfl h.2.2.1 ⟨h.2.2.2.1.1, rfl⟩ (fun V hV q => q)
theorem jI_id {M : Mm} {a k : Nat} {v : Int32} (h : jm_I M a k = v) : js_I M a k v = M := by
  have e : ju2 M.1 a k v = M.1 := funext (fun b => funext (fun j => by
    rw [ju2_eq]
    split
    · rename_i q; rw [q.1, q.2]; exact h.symm
    · rfl))
  show (⟨ju2 M.1 a k v, M.2⟩ : Mm) = M
  rw [e]
theorem jI_I2 {M : Mm} {a k : Nat} {v z : Int32} : js_I (js_I M a k v) a k z = js_I M a k z := by
  have e : ju2 (ju2 M.1 a k v) a k z = ju2 M.1 a k z := funext (fun b => funext (fun j => by
    rw [ju2_eq, ju2_eq, ju2_eq]
    split
    · rfl
    · rfl))
  show (⟨ju2 (ju2 M.1 a k v) a k z, M.2⟩ : Mm) = ⟨ju2 M.1 a k z, M.2⟩
  rw [e]
section JMFG
variable {G : Gh} {M : Mm} {σ : Sg}
theorem t_X5_isLawfulIn {set : Nat} {V : Vt} (h : jMm M σ) (hv9 : sv σ = some V) (hset : set < 2 ^ 31) : jT G mi_X5_isLawfulIn 8 [jr (some 90), .int (nI set)] M (jPi (fun r M' => r = jb (lawIn V σ set) ∧ jMm M' σ ∧ jfm M M')) := by
  have hS := h.1
  obtain ⟨w, hs0, hN0⟩ := h.so hv9
  have hnf := wf_nf hs0.w
  have ht : sn σ 0 < 100 := (h.2.1.2 V hv9).2.2.2.1
  refine jT.of (by decide) rfl (Nat.le_of_ble_eq_true rfl) ?_
  have J : ∀ k : Nat, k ≤ V 0 7 → jW G mi_X5_isLawfulIn 8 M 2 [some (jr (some 90)), some (.int (nI set)), some (.int (nI k))] [] (js_I M 90 67 (nI (dimS V set k))) (jPi (fun r M' => r = jb (lawIn V σ set) ∧ jMm M' σ ∧ jfm M M')) := by
    refine jW.loop _ (fun k => V 0 7 - k) _ (fun _ => []) (fun k => js_I M 90 67 (nI (dimS V set k))) (fun k hk ih => ?_)
    have hs := mfog hs0 (dimS V set k)
    have hw := hs.s
    have hd := dimS_lt hs.w set hk
    by_cases hkn : k < V 0 7
    · have hk9 := (wf_f hs.w hkn).1
      have hnp := wf_np hs.w
      refine jw_iload_n (pc := 2) dX5_isLawfulIn_2 rfl ?_
      refine jw_aload_n (pc := 3) dX5_isLawfulIn_3 rfl ?_
      refine jx_getRs (pc := 4) (jf_X5_380_4.r) rfl dX5_isLawfulIn_4 rfl (is_90 hS) (by decide) (hs.r) ?_
      refine jx_getIs (pc := 7) (jf_X5_363_12.r) rfl dX5_isLawfulIn_7 rfl (wis hw) (by decide) (mi_nf hs.V) ?_
      first | refine jx_icmp_ge (pc := 10) (tgt := 51) dX5_isLawfulIn_10 (by decide) (by omega) (by omega) ?_ ?_ | refine jw_icmp_ge (pc := 10) (tgt := 51) dX5_isLawfulIn_10 (by decide) ?_ ?_
      · intro h_10
        omega
      · intro h_10
        refine jw_aload_n (pc := 13) dX5_isLawfulIn_13 rfl ?_
        refine jw_dup (pc := 14) dX5_isLawfulIn_14 (jis2_r _) ?_
        refine jx_getIs (pc := 15) (jf_X5_395_4.r) rfl dX5_isLawfulIn_15 rfl (is_90 hS) (by decide) (hs.f) ?_
        refine jw_iload_n (pc := 18) dX5_isLawfulIn_18 rfl ?_
        refine jw_iload_n (pc := 19) dX5_isLawfulIn_19 rfl ?_
        refine jx_cSE (mi1 := mi_X5_has) (pc := 20) rfl dX5_isLawfulIn_20 lk_X5_398 rfl fi_X5_has (t_X5_has hset (by omega)) (by first | decide | omega) rfl rfl (by simp only [List.map_cons, List.map_nil, List.sum_cons, List.sum_nil, cat_i, cat_l, jr_cat]; decide) ?_
        first | refine jx_ifb_eq (pc := 23) (tgt := 40) dX5_isLawfulIn_23 (by decide) ?_ ?_ | refine jx_if_eq (pc := 23) (tgt := 40) dX5_isLawfulIn_23 (by decide) (by omega) ?_ ?_ | refine jw_if_eq (pc := 23) (tgt := 40) dX5_isLawfulIn_23 (by decide) ?_ ?_
        · intro h_23
          refine jw_iconst (pc := 40) dX5_isLawfulIn_40 ic_0 ?_
          refine jw_ior (pc := 41) dX5_isLawfulIn_41 ?_
          rw [nI_or']
          refine jx_putI (pc := 42) jf_X5_395_4 rfl dX5_isLawfulIn_42 rfl rfl (is_90 hS) (by decide) ?_
          first | refine jx_iinc (pc := 45) dX5_isLawfulIn_45 rfl rfl ?_ | refine jw_iinc (pc := 45) dX5_isLawfulIn_45 rfl rfl rfl ?_
          try dsimp only [jput1, jkill, jclr, jis2_i, jis2_l, jis2_rs, jis2_rn, cond]
          refine jw_goto (pc := 48) (tgt := 2) dX5_isLawfulIn_48 (by decide) ?_
          refine jW.eq rfl rfl ?_ (ih (k + 1) hkn (by omega))
          rw [jI_I2, dimS_s, h_23]; rfl
        · intro h_23
          refine jw_iconst (pc := 26) dX5_isLawfulIn_26 ic_1 ?_
          refine jw_aload_n (pc := 27) dX5_isLawfulIn_27 rfl ?_
          refine jx_getRs (pc := 28) (jf_X5_380_4.r) rfl dX5_isLawfulIn_28 rfl (is_90 hS) (by decide) (hs.r) ?_
          refine jx_getRs (pc := 31) jg_X5_366_12 rfl dX5_isLawfulIn_31 rfl (wis hw) (by decide) (wr_20 hw) ?_
          refine jw_iload_n (pc := 34) dX5_isLawfulIn_34 rfl ?_
          refine jx_ialds (pc := 35) dX5_isLawfulIn_35 (wok_20 hw) (wnn_20 hw) rfl (by omega) ((ma_f hs.V hkn).1) ?_
          refine jw_ishl (pc := 36) dX5_isLawfulIn_36 ?_
          rw [shl1 (by omega)]
          refine jw_goto (pc := 37) (tgt := 41) dX5_isLawfulIn_37 (by decide) ?_
          refine jw_ior (pc := 41) dX5_isLawfulIn_41 ?_
          rw [nI_or']
          refine jx_putI (pc := 42) jf_X5_395_4 rfl dX5_isLawfulIn_42 rfl rfl (is_90 hS) (by decide) ?_
          first | refine jx_iinc (pc := 45) dX5_isLawfulIn_45 rfl rfl ?_ | refine jw_iinc (pc := 45) dX5_isLawfulIn_45 rfl rfl rfl ?_
          try dsimp only [jput1, jkill, jclr, jis2_i, jis2_l, jis2_rs, jis2_rn, cond]
          refine jw_goto (pc := 48) (tgt := 2) dX5_isLawfulIn_48 (by decide) ?_
          refine jW.eq rfl rfl ?_ (ih (k + 1) hkn (by omega))
          rw [jI_I2, dimS_s, h_23]; rfl
    · have hk' : k = V 0 7 := by omega
      subst hk'
      have hN : jMn (js_I M 90 67 (nI (dimS V set (V 0 7)))) V σ := hN0
      refine jw_iload_n (pc := 2) dX5_isLawfulIn_2 rfl ?_
      refine jw_aload_n (pc := 3) dX5_isLawfulIn_3 rfl ?_
      refine jx_getRs (pc := 4) (jf_X5_380_4.r) rfl dX5_isLawfulIn_4 rfl (is_90 hS) (by decide) (hs.r) ?_
      refine jx_getIs (pc := 7) (jf_X5_363_12.r) rfl dX5_isLawfulIn_7 rfl (wis hw) (by decide) (mi_nf hs.V) ?_
      first | refine jx_icmp_ge (pc := 10) (tgt := 51) dX5_isLawfulIn_10 (by decide) (by omega) (by omega) ?_ ?_ | refine jw_icmp_ge (pc := 10) (tgt := 51) dX5_isLawfulIn_10 (by decide) ?_ ?_
      · intro h_10
        refine jw_aload_n (pc := 51) dX5_isLawfulIn_51 rfl ?_
        refine jx_cVE (mi1 := mi_X5_isLawfulNow) (pc := 52) rfl dX5_isLawfulIn_52 lk_X5_446 rfl fi_X5_isLawfulNow rfl rfl rfl (by decide) (is_90 hS) (t_X5_isLawfulNow hs hN h.2.1 hv9 (by decide) (by omega)) (by first | decide | omega) rfl rfl (by decide) ?_
        refine jw_istore_n (pc := 55) dX5_isLawfulIn_55 (Nat.le_of_ble_eq_true rfl) rfl ?_
        try dsimp only [jput1, jput2, jkill, jclr, jis2_i, jis2_l, jis2_rs, jis2_rn, cond]
        refine jw_aload_n (pc := 56) dX5_isLawfulIn_56 rfl ?_
        refine jw_iconst (pc := 57) dX5_isLawfulIn_57 ic_0 ?_
        refine jx_putI (pc := 58) jf_X5_395_4 rfl dX5_isLawfulIn_58 rfl rfl (is_90 hS) (by decide) ?_
        refine jw_iload_n (pc := 61) dX5_isLawfulIn_61 rfl ?_
        refine jw_ireturn (pc := 62) dX5_isLawfulIn_62 rfl (by first | exact jnar_b _ | exact jnar_0 | exact jnar_1 | decide +kernel) ?_
        exact ⟨_, rfl, rfl, mfogc h, (jsm.I (by decide)).tr (jsm.I (by decide))⟩
      · intro h_10
        omega
  refine jw_iconst (pc := 0) dX5_isLawfulIn_0 ic_0 ?_
  refine jw_istore_n (pc := 1) dX5_isLawfulIn_1 (Nat.le_of_ble_eq_true rfl) rfl ?_
  try dsimp only [jput1, jput2, jkill, jclr, jis2_i, jis2_l, jis2_rs, jis2_rn, cond]
  refine jW.eq rfl rfl ?_ (J 0 (Nat.zero_le _))
  exact jI_id hs0.f
theorem lp_mfg1 {M9 : Mm} {w set : Nat} {V : Vt} {P : Rs → Mm → Prop} {s : Int64} (hs : jMs M w V 0 0) (hset : set < 2 ^ 31) (fin : jW G mi_X5_fog 9 M9 102 [some (jr (some 90)), some (.long s), none, some (.int (nI set)), some (.long (waysL V set (V 0 7))), none, none] [] M P) :
    ∀ k : Nat, k ≤ V 0 7 → jW G mi_X5_fog 9 M9 42 [some (jr (some 90)), some (.long s), none, some (.int (nI set)), some (.long (waysL V set k)), none, some (.int (nI k))] [] M P := by
  have hS := hs.1
  have hw := hs.s
  have hnf := wf_nf hs.w
  refine jW.loop _ (fun k => V 0 7 - k) _ (fun _ => []) (fun _ => M) (fun k hk ih => ?_)
  by_cases hkn : k < V 0 7
  ·
    refine jw_iload (pc := 42) dX5_fog_42 rfl ?_
    refine jw_aload_n (pc := 44) dX5_fog_44 rfl ?_
    refine jx_getRs (pc := 45) (jf_X5_380_4.r) rfl dX5_fog_45 rfl (is_90 hS) (by decide) (hs.r) ?_
    refine jx_getIs (pc := 48) (jf_X5_363_12.r) rfl dX5_fog_48 rfl (wis hw) (by decide) (mi_nf hs.V) ?_
    first | refine jx_icmp_ge (pc := 51) (tgt := 102) dX5_fog_51 (by decide) (by omega) (by omega) ?_ ?_ | refine jw_icmp_ge (pc := 51) (tgt := 102) dX5_fog_51 (by decide) ?_ ?_
    · intro h_51
      omega
    · intro h_51
      refine jw_lload (pc := 54) dX5_fog_54 rfl ?_
      refine jw_iload_n (pc := 56) dX5_fog_56 rfl ?_
      refine jw_iload (pc := 57) dX5_fog_57 rfl ?_
      refine jx_cSE (mi1 := mi_X5_has) (pc := 59) rfl dX5_fog_59 lk_X5_398 rfl fi_X5_has (t_X5_has hset (by omega)) (by first | decide | omega) rfl rfl (by simp only [List.map_cons, List.map_nil, List.sum_cons, List.sum_nil, Value.category]; decide) ?_
      first | refine jx_ifb_eq (pc := 62) (tgt := 79) dX5_fog_62 (by decide) ?_ ?_ | refine jx_if_eq (pc := 62) (tgt := 79) dX5_fog_62 (by decide) (by omega) ?_ ?_ | refine jw_if_eq (pc := 62) (tgt := 79) dX5_fog_62 (by decide) ?_ ?_
      · intro h_62
        refine jw_bipush (pc := 79) dX5_fog_79 bp_100 ?_
        refine jw_aload_n (pc := 81) dX5_fog_81 rfl ?_
        refine jx_getRs (pc := 82) (jf_X5_380_4.r) rfl dX5_fog_82 rfl (is_90 hS) (by decide) (hs.r) ?_
        refine jx_getRs (pc := 85) jg_X5_371_12 rfl dX5_fog_85 rfl (wis hw) (by decide) (wr_21 hw) ?_
        refine jw_iload (pc := 88) dX5_fog_88 rfl ?_
        refine jx_ialds (pc := 90) dX5_fog_90 (wok_21 hw) (wnn_21 hw) rfl (by omega) ((ma_f hs.V hkn).2) ?_
        refine jw_isub (pc := 91) dX5_fog_91 ?_
        refine jw_i2l (pc := 92) dX5_fog_92 (rfl) ?_
        refine jw_lmul (pc := 93) dX5_fog_93 ?_
        refine jw_lstore (pc := 94) dX5_fog_94 (Nat.le_of_ble_eq_true rfl) rfl ?_
        try dsimp only [jput1, jput2, jkill, jclr, jis2_i, jis2_l, jis2_rs, jis2_rn, cond]
        first | refine jx_iinc (pc := 96) dX5_fog_96 rfl rfl ?_ | refine jw_iinc (pc := 96) dX5_fog_96 rfl rfl rfl ?_
        try dsimp only [jput1, jkill, jclr, jis2_i, jis2_l, jis2_rs, jis2_rn, cond]
        refine jw_goto (pc := 99) (tgt := 42) dX5_fog_99 (by decide) ?_
        refine jW.eq ?_ rfl rfl (ih (k + 1) hkn (by omega))
        rw [waysL_s]; unfold chN; rw [h_62]; rfl
      · intro h_62
        refine jw_aload_n (pc := 65) dX5_fog_65 rfl ?_
        refine jx_getRs (pc := 66) (jf_X5_380_4.r) rfl dX5_fog_66 rfl (is_90 hS) (by decide) (hs.r) ?_
        refine jx_getRs (pc := 69) jg_X5_371_12 rfl dX5_fog_69 rfl (wis hw) (by decide) (wr_21 hw) ?_
        refine jw_iload (pc := 72) dX5_fog_72 rfl ?_
        refine jx_ialds (pc := 74) dX5_fog_74 (wok_21 hw) (wnn_21 hw) rfl (by omega) ((ma_f hs.V hkn).2) ?_
        refine jw_i2l (pc := 75) dX5_fog_75 (rfl) ?_
        refine jw_goto (pc := 76) (tgt := 93) dX5_fog_76 (by decide) ?_
        refine jw_lmul (pc := 93) dX5_fog_93 ?_
        refine jw_lstore (pc := 94) dX5_fog_94 (Nat.le_of_ble_eq_true rfl) rfl ?_
        try dsimp only [jput1, jput2, jkill, jclr, jis2_i, jis2_l, jis2_rs, jis2_rn, cond]
        first | refine jx_iinc (pc := 96) dX5_fog_96 rfl rfl ?_ | refine jw_iinc (pc := 96) dX5_fog_96 rfl rfl rfl ?_
        try dsimp only [jput1, jkill, jclr, jis2_i, jis2_l, jis2_rs, jis2_rn, cond]
        refine jw_goto (pc := 99) (tgt := 42) dX5_fog_99 (by decide) ?_
        refine jW.eq ?_ rfl rfl (ih (k + 1) hkn (by omega))
        rw [waysL_s]; unfold chN; rw [h_62]; rfl
  · have hk' : k = V 0 7 := by omega
    subst hk'
    refine jw_iload (pc := 42) dX5_fog_42 rfl ?_
    refine jw_aload_n (pc := 44) dX5_fog_44 rfl ?_
    refine jx_getRs (pc := 45) (jf_X5_380_4.r) rfl dX5_fog_45 rfl (is_90 hS) (by decide) (hs.r) ?_
    refine jx_getIs (pc := 48) (jf_X5_363_12.r) rfl dX5_fog_48 rfl (wis hw) (by decide) (mi_nf hs.V) ?_
    first | refine jx_icmp_ge (pc := 51) (tgt := 102) dX5_fog_51 (by decide) (by omega) (by omega) ?_ ?_ | refine jw_icmp_ge (pc := 51) (tgt := 102) dX5_fog_51 (by decide) ?_ ?_
    · intro h_51
      refine jW.sub ?_ fin
      exact ⟨rfl, rfl, rfl, rfl, trivial⟩
    · intro h_51
      omega
theorem t_X5_fog (h : jMm M σ) : jT G mi_X5_fog 9 [jr (some 90)] M (jLm M σ (q_fog σ)) := by
  have hS := h.1
  refine jT.of (by decide) rfl (Nat.le_of_ble_eq_true rfl) ?_
  cases hv9 : sv σ with
  | none =>
    refine jw_aload_n (pc := 0) dX5_fog_0 rfl ?_
    refine jw_iconst (pc := 1) dX5_fog_1 ic_0 ?_
    refine jx_putI (pc := 2) jf_X5_56_4 rfl dX5_fog_2 rfl rfl (is_90 hS) (by decide) ?_
    have hM := mthr (x := nI 0) h
    have hf : jfm M (js_I M 90 49 (nI 0)) := jsm.I (by decide)
    generalize js_I M 90 49 (nI 0) = M0 at hM hf ⊢
    clear hS
    have hS := hM.1
    refine jw_aload_n (pc := 5) dX5_fog_5 rfl ?_
    refine jx_getRs (pc := 6) (jf_X5_380_4.r) rfl dX5_fog_6 rfl (is_90 hS) (by decide) (hM.no hv9) ?_
    refine jw_ifnonnull (pc := 9) (tgt := 19) dX5_fog_9 (by decide) (fun ax h => by cases h) (fun h => ?_)
    clear h
    refine jw_aload_n (pc := 12) dX5_fog_12 rfl ?_
    refine jw_iconst (pc := 13) dX5_fog_13 ic_1 ?_
    refine jx_cVi (mi1 := mi_X5_refused) (pc := 14) rfl dX5_fog_14 lk_X5_62 rfl fi_X5_refused rfl rfl rfl (by decide) (is_90 hS) (t_X5_refused hM) (by first | decide | omega) rfl rfl (by decide) ?_
    intro x_14 M_14 q_14
    refine jw_i2l (pc := 17) dX5_fog_17 (rfl) ?_
    refine jw_lreturn (pc := 18) dX5_fog_18 rfl ?_
    refine lm_no ?_ hf q_14
    unfold q_fog; rw [hv9] <;> rfl
  | some V =>
    have hw9 := (h.2.1.2 V hv9).1
    have hnf := wf_nf hw9
    have hpf := p4 hnf
    have J : ∀ x : Nat × Mm, (x.1 ≤ 2 ^ V 0 7 ∧ jMm x.2 σ ∧ jfm M x.2) → jW G mi_X5_fog 9 M 23 [some (jr (some 90)), some (.long (fogL V σ x.1)), none, some (.int (nI x.1)), none, none, none] [] x.2 (jLm M σ (q_fog σ)) := by
      refine jW.loop (σ := Nat × Mm) _ (fun x => 2 ^ V 0 7 - x.1) _ (fun _ => []) (fun x => x.2) (fun x hI ih => ?_)
      obtain ⟨n, M1⟩ := x
      obtain ⟨hn, hM, hf⟩ := hI
      dsimp only at hn hM hf ih ⊢
      have hS := hM.1
      obtain ⟨w, hs, hN⟩ := hM.so hv9
      have hw := hs.s
      by_cases hkn : n < 2 ^ V 0 7
      · have L : jW G mi_X5_fog 9 M 102 [some (jr (some 90)), some (.long (fogL V σ n)), none, some (.int (nI n)), some (.long (waysL V n (V 0 7))), none, none] [] M1 (jLm M σ (q_fog σ)) := by
          refine jw_lload_n (pc := 102) dX5_fog_102 rfl ?_
          refine jw_aload_n (pc := 103) dX5_fog_103 rfl ?_
          refine jw_iload_n (pc := 104) dX5_fog_104 rfl ?_
          refine jx_cVi (mi1 := mi_X5_isLawfulIn) (pc := 105) rfl dX5_fog_105 lk_X5_558 rfl fi_X5_isLawfulIn rfl rfl rfl (by decide) (is_90 hS) (t_X5_isLawfulIn (V := V) hM hv9 (by omega)) (by first | decide | omega) rfl rfl (by simp only [List.map_cons, List.map_nil, List.sum_cons, List.sum_nil, Value.category]; decide) ?_
          intro x_105 M_105 q_105
          obtain ⟨e1, hM2, hf2⟩ := q_105
          subst e1
          first | refine jx_ifb_eq (pc := 108) (tgt := 116) dX5_fog_108 (by decide) ?_ ?_ | refine jx_if_eq (pc := 108) (tgt := 116) dX5_fog_108 (by decide) (by omega) ?_ ?_ | refine jw_if_eq (pc := 108) (tgt := 116) dX5_fog_108 (by decide) ?_ ?_
          · intro h_108
            refine jw_lconst (pc := 116) dX5_fog_116 rfl ?_
            refine jw_ladd (pc := 117) dX5_fog_117 ?_
            refine jw_lstore_n (pc := 118) dX5_fog_118 (Nat.le_of_ble_eq_true rfl) rfl ?_
            try dsimp only [jput1, jput2, jkill, jclr, jis2_i, jis2_l, jis2_rs, jis2_rn, cond]
            first | refine jx_iinc (pc := 119) dX5_fog_119 rfl rfl ?_ | refine jw_iinc (pc := 119) dX5_fog_119 rfl rfl rfl ?_
            try dsimp only [jput1, jkill, jclr, jis2_i, jis2_l, jis2_rs, jis2_rn, cond]
            refine jw_goto (pc := 122) (tgt := 23) dX5_fog_122 (by decide) ?_
            have ih2 := ih (n + 1, M_105) ⟨hkn, hM2, hf.tr hf2⟩ (by dsimp only; omega)
            refine jW.sub ?_ ih2
            dsimp only
            rw [fogL_s, h_108]
            exact ⟨rfl, rfl, rfl, trivial⟩
          · intro h_108
            refine jw_lload (pc := 111) dX5_fog_111 rfl ?_
            refine jw_goto (pc := 113) (tgt := 117) dX5_fog_113 (by decide) ?_
            refine jw_ladd (pc := 117) dX5_fog_117 ?_
            refine jw_lstore_n (pc := 118) dX5_fog_118 (Nat.le_of_ble_eq_true rfl) rfl ?_
            try dsimp only [jput1, jput2, jkill, jclr, jis2_i, jis2_l, jis2_rs, jis2_rn, cond]
            first | refine jx_iinc (pc := 119) dX5_fog_119 rfl rfl ?_ | refine jw_iinc (pc := 119) dX5_fog_119 rfl rfl rfl ?_
            try dsimp only [jput1, jkill, jclr, jis2_i, jis2_l, jis2_rs, jis2_rn, cond]
            refine jw_goto (pc := 122) (tgt := 23) dX5_fog_122 (by decide) ?_
            have ih2 := ih (n + 1, M_105) ⟨hkn, hM2, hf.tr hf2⟩ (by dsimp only; omega)
            refine jW.sub ?_ ih2
            dsimp only
            rw [fogL_s, h_108]
            exact ⟨rfl, rfl, rfl, trivial⟩
        refine jw_iload_n (pc := 23) dX5_fog_23 rfl ?_
        refine jw_iconst (pc := 24) dX5_fog_24 ic_1 ?_
        refine jw_aload_n (pc := 25) dX5_fog_25 rfl ?_
        refine jx_getRs (pc := 26) (jf_X5_380_4.r) rfl dX5_fog_26 rfl (is_90 hS) (by decide) (hs.r) ?_
        refine jx_getIs (pc := 29) (jf_X5_363_12.r) rfl dX5_fog_29 rfl (wis hw) (by decide) (mi_nf hs.V) ?_
        refine jw_ishl (pc := 32) dX5_fog_32 ?_
        rw [shl1 (by omega)]
        first | refine jx_icmp_ge (pc := 33) (tgt := 125) dX5_fog_33 (by decide) (by omega) (by omega) ?_ ?_ | refine jw_icmp_ge (pc := 33) (tgt := 125) dX5_fog_33 (by decide) ?_ ?_
        · intro h_33
          omega
        · intro h_33
          refine jw_lconst (pc := 36) dX5_fog_36 rfl ?_
          refine jw_lstore (pc := 37) dX5_fog_37 (Nat.le_of_ble_eq_true rfl) rfl ?_
          try dsimp only [jput1, jput2, jkill, jclr, jis2_i, jis2_l, jis2_rs, jis2_rn, cond]
          refine jw_iconst (pc := 39) dX5_fog_39 ic_0 ?_
          refine jw_istore (pc := 40) dX5_fog_40 (Nat.le_of_ble_eq_true rfl) rfl ?_
          try dsimp only [jput1, jput2, jkill, jclr, jis2_i, jis2_l, jis2_rs, jis2_rn, cond]
          refine jW.sub ?_ (lp_mfg1 hs (by omega) L 0 (Nat.zero_le _))
          exact ⟨rfl, rfl, rfl, rfl, rfl, trivial⟩
      · have hk' : n = 2 ^ V 0 7 := by omega
        subst hk'
        refine jw_iload_n (pc := 23) dX5_fog_23 rfl ?_
        refine jw_iconst (pc := 24) dX5_fog_24 ic_1 ?_
        refine jw_aload_n (pc := 25) dX5_fog_25 rfl ?_
        refine jx_getRs (pc := 26) (jf_X5_380_4.r) rfl dX5_fog_26 rfl (is_90 hS) (by decide) (hs.r) ?_
        refine jx_getIs (pc := 29) (jf_X5_363_12.r) rfl dX5_fog_29 rfl (wis hw) (by decide) (mi_nf hs.V) ?_
        refine jw_ishl (pc := 32) dX5_fog_32 ?_
        rw [shl1 (by omega)]
        first | refine jx_icmp_ge (pc := 33) (tgt := 125) dX5_fog_33 (by decide) (by omega) (by omega) ?_ ?_ | refine jw_icmp_ge (pc := 33) (tgt := 125) dX5_fog_33 (by decide) ?_ ?_
        · intro h_33
          refine jw_aload_n (pc := 125) dX5_fog_125 rfl ?_
          refine jw_iconst (pc := 126) dX5_fog_126 ic_0 ?_
          refine jw_iconst (pc := 127) dX5_fog_127 ic_0 ?_
          refine jx_cVi (mi1 := mi_X5_told) (pc := 128) rfl dX5_fog_128 lk_X5_66 rfl fi_X5_told rfl rfl rfl (by decide) (is_90 hS) (t_X5_told0 hM) (by first | decide | omega) rfl rfl (by decide) ?_
          intro x_128 M_128 q_128
          refine jw_pop (pc := 131) dX5_fog_131 (rfl) ?_
          refine jw_lload_n (pc := 132) dX5_fog_132 rfl ?_
          refine jw_lreturn (pc := 133) dX5_fog_133 rfl ?_
          refine lm_ok ?_ hf q_128
          unfold q_fog; rw [hv9] <;> rfl
        · intro h_33
          omega
    refine jw_aload_n (pc := 0) dX5_fog_0 rfl ?_
    refine jw_iconst (pc := 1) dX5_fog_1 ic_0 ?_
    refine jx_putI (pc := 2) jf_X5_56_4 rfl dX5_fog_2 rfl rfl (is_90 hS) (by decide) ?_
    have hM := mthr (x := nI 0) h
    have hf : jfm M (js_I M 90 49 (nI 0)) := jsm.I (by decide)
    generalize js_I M 90 49 (nI 0) = M0 at hM hf ⊢
    clear hS
    have hS := hM.1
    obtain ⟨w, hs, hN⟩ := hM.so hv9
    refine jw_aload_n (pc := 5) dX5_fog_5 rfl ?_
    refine jx_getRs (pc := 6) (jf_X5_380_4.r) rfl dX5_fog_6 rfl (is_90 hS) (by decide) (hs.r) ?_
    refine jw_ifnonnull (pc := 9) (tgt := 19) dX5_fog_9 (by decide) (fun ax h => ?_) (fun h => by cases h)
    clear h
    refine jw_lconst (pc := 19) dX5_fog_19 rfl ?_
    refine jw_lstore_n (pc := 20) dX5_fog_20 (Nat.le_of_ble_eq_true rfl) rfl ?_
    try dsimp only [jput1, jput2, jkill, jclr, jis2_i, jis2_l, jis2_rs, jis2_rn, cond]
    refine jw_iconst (pc := 21) dX5_fog_21 ic_0 ?_
    refine jw_istore_n (pc := 22) dX5_fog_22 (Nat.le_of_ble_eq_true rfl) rfl ?_
    try dsimp only [jput1, jput2, jkill, jclr, jis2_i, jis2_l, jis2_rs, jis2_rn, cond]
    refine jW.sub ?_ (J (0, M0) ⟨Nat.zero_le _, hM, hf⟩)
    exact ⟨rfl, rfl, rfl, trivial⟩
theorem t_X5_ready (h : jMm M σ) : jT G mi_X5_ready 9 [jr (some 90)] M (jQm M σ (q_ready σ)) := by
  have hS := h.1
  refine jT.of (by decide) rfl (Nat.le_of_ble_eq_true rfl) ?_
  cases hv9 : sv σ with
  | none =>
    refine jw_aload_n (pc := 0) dX5_ready_0 rfl ?_
    refine jw_iconst (pc := 1) dX5_ready_1 ic_0 ?_
    refine jx_putI (pc := 2) jf_X5_56_4 rfl dX5_ready_2 rfl rfl (is_90 hS) (by decide) ?_
    have hM := mthr (x := nI 0) h
    have hf : jfm M (js_I M 90 49 (nI 0)) := jsm.I (by decide)
    generalize js_I M 90 49 (nI 0) = M0 at hM hf ⊢
    clear hS
    have hS := hM.1
    refine jw_aload_n (pc := 5) dX5_ready_5 rfl ?_
    refine jx_getRs (pc := 6) (jf_X5_380_4.r) rfl dX5_ready_6 rfl (is_90 hS) (by decide) (hM.no hv9) ?_
    refine jw_ifnonnull (pc := 9) (tgt := 18) dX5_ready_9 (by decide) (fun ax h => by cases h) (fun h => ?_)
    clear h
    refine jw_aload_n (pc := 12) dX5_ready_12 rfl ?_
    refine jw_iconst (pc := 13) dX5_ready_13 ic_1 ?_
    refine jx_cVi (mi1 := mi_X5_refused) (pc := 14) rfl dX5_ready_14 lk_X5_62 rfl fi_X5_refused rfl rfl rfl (by decide) (is_90 hS) (t_X5_refused hM) (by first | decide | omega) rfl rfl (by decide) ?_
    intro x_14 M_14 q_14
    refine jw_ireturn (pc := 17) dX5_ready_17 rfl (rfl) ?_
    refine qm ?_ hf q_14
    unfold q_ready; rw [hv9] <;> rfl
  | some V =>
    have hw9 := (h.2.1.2 V hv9).1
    have hnf := wf_nf hw9
    have hpf := p4 hnf
    have J : ∀ x : Nat × Mm, (x.1 ≤ V 0 7 ∧ jMm x.2 σ ∧ jfm M x.2) → jW G mi_X5_ready 9 M 22 [some (jr (some 90)), some (.int (nI (msk x.1 (fun k => lawIn V σ (2 ^ k))))), some (.int (nI x.1))] [] x.2 (jQm M σ (q_ready σ)) := by
      refine jW.loop (σ := Nat × Mm) _ (fun x => V 0 7 - x.1) _ (fun _ => []) (fun x => x.2) (fun x hI ih => ?_)
      obtain ⟨n, M1⟩ := x
      obtain ⟨hn, hM, hf⟩ := hI
      dsimp only at hn hM hf ih ⊢
      have hS := hM.1
      obtain ⟨w, hs, hN⟩ := hM.so hv9
      have hw := hs.s
      by_cases hkn : n < V 0 7
      · have h2n : 2 ^ n < 32 := p5 (n := 5) (by decide) (by omega)
        refine jw_iload_n (pc := 22) dX5_ready_22 rfl ?_
        refine jw_aload_n (pc := 23) dX5_ready_23 rfl ?_
        refine jx_getRs (pc := 24) (jf_X5_380_4.r) rfl dX5_ready_24 rfl (is_90 hS) (by decide) (hs.r) ?_
        refine jx_getIs (pc := 27) (jf_X5_363_12.r) rfl dX5_ready_27 rfl (wis hw) (by decide) (mi_nf hs.V) ?_
        first | refine jx_icmp_ge (pc := 30) (tgt := 59) dX5_ready_30 (by decide) (by omega) (by omega) ?_ ?_ | refine jw_icmp_ge (pc := 30) (tgt := 59) dX5_ready_30 (by decide) ?_ ?_
        · intro h_30
          omega
        · intro h_30
          refine jw_iload_n (pc := 33) dX5_ready_33 rfl ?_
          refine jw_aload_n (pc := 34) dX5_ready_34 rfl ?_
          refine jw_iconst (pc := 35) dX5_ready_35 ic_1 ?_
          refine jw_iload_n (pc := 36) dX5_ready_36 rfl ?_
          refine jw_ishl (pc := 37) dX5_ready_37 ?_
          rw [shl1 (by omega)]
          refine jx_cVi (mi1 := mi_X5_isLawfulIn) (pc := 38) rfl dX5_ready_38 lk_X5_558 rfl fi_X5_isLawfulIn rfl rfl rfl (by decide) (is_90 hS) (t_X5_isLawfulIn (V := V) (set := 2 ^ n) hM hv9 (by omega)) (by first | decide | omega) rfl rfl (by simp only [List.map_cons, List.map_nil, List.sum_cons, List.sum_nil, Value.category]; decide) ?_
          intro x_38 M_38 q_38
          obtain ⟨e1, hM2, hf2⟩ := q_38
          subst e1
          first | refine jx_ifb_eq (pc := 41) (tgt := 50) dX5_ready_41 (by decide) ?_ ?_ | refine jx_if_eq (pc := 41) (tgt := 50) dX5_ready_41 (by decide) (by omega) ?_ ?_ | refine jw_if_eq (pc := 41) (tgt := 50) dX5_ready_41 (by decide) ?_ ?_
          · intro h_41
            refine jw_iconst (pc := 50) dX5_ready_50 ic_0 ?_
            refine jw_ior (pc := 51) dX5_ready_51 ?_
            rw [nI_or']
            refine jw_istore_n (pc := 52) dX5_ready_52 (Nat.le_of_ble_eq_true rfl) rfl ?_
            try dsimp only [jput1, jput2, jkill, jclr, jis2_i, jis2_l, jis2_rs, jis2_rn, cond]
            first | refine jx_iinc (pc := 53) dX5_ready_53 rfl rfl ?_ | refine jw_iinc (pc := 53) dX5_ready_53 rfl rfl rfl ?_
            try dsimp only [jput1, jkill, jclr, jis2_i, jis2_l, jis2_rs, jis2_rn, cond]
            refine jw_goto (pc := 56) (tgt := 22) dX5_ready_56 (by decide) ?_
            have ih2 := ih (n + 1, M_38) ⟨hkn, hM2, hf.tr hf2⟩ (by dsimp only; omega)
            refine jW.eq ?_ rfl rfl ih2
            dsimp only
            rw [msk_s, h_41]; rfl
          · intro h_41
            refine jw_iconst (pc := 44) dX5_ready_44 ic_1 ?_
            refine jw_iload_n (pc := 45) dX5_ready_45 rfl ?_
            refine jw_ishl (pc := 46) dX5_ready_46 ?_
            rw [shl1 (by omega)]
            refine jw_goto (pc := 47) (tgt := 51) dX5_ready_47 (by decide) ?_
            refine jw_ior (pc := 51) dX5_ready_51 ?_
            rw [nI_or']
            refine jw_istore_n (pc := 52) dX5_ready_52 (Nat.le_of_ble_eq_true rfl) rfl ?_
            try dsimp only [jput1, jput2, jkill, jclr, jis2_i, jis2_l, jis2_rs, jis2_rn, cond]
            first | refine jx_iinc (pc := 53) dX5_ready_53 rfl rfl ?_ | refine jw_iinc (pc := 53) dX5_ready_53 rfl rfl rfl ?_
            try dsimp only [jput1, jkill, jclr, jis2_i, jis2_l, jis2_rs, jis2_rn, cond]
            refine jw_goto (pc := 56) (tgt := 22) dX5_ready_56 (by decide) ?_
            have ih2 := ih (n + 1, M_38) ⟨hkn, hM2, hf.tr hf2⟩ (by dsimp only; omega)
            refine jW.eq ?_ rfl rfl ih2
            dsimp only
            rw [msk_s, h_41]; rfl
      · have hk' : n = V 0 7 := by omega
        subst hk'
        refine jw_iload_n (pc := 22) dX5_ready_22 rfl ?_
        refine jw_aload_n (pc := 23) dX5_ready_23 rfl ?_
        refine jx_getRs (pc := 24) (jf_X5_380_4.r) rfl dX5_ready_24 rfl (is_90 hS) (by decide) (hs.r) ?_
        refine jx_getIs (pc := 27) (jf_X5_363_12.r) rfl dX5_ready_27 rfl (wis hw) (by decide) (mi_nf hs.V) ?_
        first | refine jx_icmp_ge (pc := 30) (tgt := 59) dX5_ready_30 (by decide) (by omega) (by omega) ?_ ?_ | refine jw_icmp_ge (pc := 30) (tgt := 59) dX5_ready_30 (by decide) ?_ ?_
        · intro h_30
          refine jw_aload_n (pc := 59) dX5_ready_59 rfl ?_
          refine jw_iload_n (pc := 60) dX5_ready_60 rfl ?_
          refine jw_iconst (pc := 61) dX5_ready_61 ic_0 ?_
          refine jx_cVi (mi1 := mi_X5_told) (pc := 62) rfl dX5_ready_62 lk_X5_66 rfl fi_X5_told rfl rfl rfl (by decide) (is_90 hS) (t_X5_told0 hM) (by first | decide | omega) rfl rfl (by decide) ?_
          intro x_62 M_62 q_62
          refine jw_ireturn (pc := 65) dX5_ready_65 rfl (rfl) ?_
          refine qm ?_ hf q_62
          unfold q_ready; rw [hv9] <;> rfl
        · intro h_30
          omega
    refine jw_aload_n (pc := 0) dX5_ready_0 rfl ?_
    refine jw_iconst (pc := 1) dX5_ready_1 ic_0 ?_
    refine jx_putI (pc := 2) jf_X5_56_4 rfl dX5_ready_2 rfl rfl (is_90 hS) (by decide) ?_
    have hM := mthr (x := nI 0) h
    have hf : jfm M (js_I M 90 49 (nI 0)) := jsm.I (by decide)
    generalize js_I M 90 49 (nI 0) = M0 at hM hf ⊢
    clear hS
    have hS := hM.1
    obtain ⟨w, hs, hN⟩ := hM.so hv9
    refine jw_aload_n (pc := 5) dX5_ready_5 rfl ?_
    refine jx_getRs (pc := 6) (jf_X5_380_4.r) rfl dX5_ready_6 rfl (is_90 hS) (by decide) (hs.r) ?_
    refine jw_ifnonnull (pc := 9) (tgt := 18) dX5_ready_9 (by decide) (fun ax h => ?_) (fun h => by cases h)
    clear h
    refine jw_iconst (pc := 18) dX5_ready_18 ic_0 ?_
    refine jw_istore_n (pc := 19) dX5_ready_19 (Nat.le_of_ble_eq_true rfl) rfl ?_
    try dsimp only [jput1, jput2, jkill, jclr, jis2_i, jis2_l, jis2_rs, jis2_rn, cond]
    refine jw_iconst (pc := 20) dX5_ready_20 ic_0 ?_
    refine jw_istore_n (pc := 21) dX5_ready_21 (Nat.le_of_ble_eq_true rfl) rfl ?_
    try dsimp only [jput1, jput2, jkill, jclr, jis2_i, jis2_l, jis2_rs, jis2_rn, cond]
    exact J (0, M0) ⟨Nat.zero_le _, hM, hf⟩
theorem lp_mimg {M9 : Mm} {w k : Nat} {V : Vt} {P : Rs → Mm → Prop} (hs : jMs M w V 0 0) (hkn : k < V 0 1) (he : jm_A M 92 k = nI (sa σ 0 k)) (ih : jW G mi_X5_image 9 M9 40 [some (jr (some 90)), some (.long (imgL σ (k + 1))), none, some (.int (nI (k + 1)))] [] M P) : jW G mi_X5_image 9 M9 40 [some (jr (some 90)), some (.long (imgL σ k)), none, some (.int (nI k))] [] M P := by
  have hS := hs.1
  have hw := hs.s
  have hn := wf_nq hs.w
  refine jw_iload_n (pc := 40) dX5_image_40 rfl ?_
  refine jw_aload_n (pc := 41) dX5_image_41 rfl ?_
  refine jx_getRs (pc := 42) (jf_X5_380_4.r) rfl dX5_image_42 rfl (is_90 hS) (by decide) (hs.r) ?_
  refine jx_getIs (pc := 45) (jf_X5_221_12.r) rfl dX5_image_45 rfl (wis hw) (by decide) (mi_nq hs.V) ?_
  first | refine jx_icmp_ge (pc := 48) (tgt := 71) dX5_image_48 (by decide) (by omega) (by omega) ?_ ?_ | refine jw_icmp_ge (pc := 48) (tgt := 71) dX5_image_48 (by decide) ?_ ?_
  · intro h_48
    omega
  · intro h_48
    refine jw_ldc2 (pc := 51) q2245 rfl dX5_image_51 ?_
    refine jw_lload_n (pc := 54) dX5_image_54 rfl ?_
    refine jw_lmul (pc := 55) dX5_image_55 ?_
    refine jw_aload_n (pc := 56) dX5_image_56 rfl ?_
    refine jx_getRs (pc := 57) (jf_X5_17_4.r) rfl dX5_image_57 rfl (is_90 hS) (by decide) (sr_90_68 hS) ?_
    refine jw_iload_n (pc := 60) dX5_image_60 rfl ?_
    refine jx_ialds (pc := 61) dX5_image_61 (ok_92 hS) (nn_92 hS) rfl (by omega) (he) ?_
    refine jw_i2l (pc := 62) dX5_image_62 (rfl) ?_
    refine jw_ladd (pc := 63) dX5_image_63 ?_
    refine jw_lstore_n (pc := 64) dX5_image_64 (Nat.le_of_ble_eq_true rfl) rfl ?_
    try dsimp only [jput1, jput2, jkill, jclr, jis2_i, jis2_l, jis2_rs, jis2_rn, cond]
    first | refine jx_iinc (pc := 65) dX5_image_65 rfl rfl ?_ | refine jw_iinc (pc := 65) dX5_image_65 rfl rfl rfl ?_
    try dsimp only [jput1, jkill, jclr, jis2_i, jis2_l, jis2_rs, jis2_rn, cond]
    refine jw_goto (pc := 68) (tgt := 40) dX5_image_68 (by decide) ?_
    refine jW.eq rfl rfl rfl ih
theorem lp_mimg2 {M9 M0 : Mm} {w : Nat} {V : Vt} {q : Int64 × Int32} (hM : jMm M σ) (hf : jfm M0 M) (hs : jMs M w V 0 0) (hq : q = (imgL σ (V 0 1), 0)) : jW G mi_X5_image 9 M9 40 [some (jr (some 90)), some (.long (imgL σ (V 0 1))), none, some (.int (nI (V 0 1)))] [] M (jLm M0 σ q) := by
  have hS := hs.1
  have hw := hs.s
  have hn := wf_nq hs.w
  refine jw_iload_n (pc := 40) dX5_image_40 rfl ?_
  refine jw_aload_n (pc := 41) dX5_image_41 rfl ?_
  refine jx_getRs (pc := 42) (jf_X5_380_4.r) rfl dX5_image_42 rfl (is_90 hS) (by decide) (hs.r) ?_
  refine jx_getIs (pc := 45) (jf_X5_221_12.r) rfl dX5_image_45 rfl (wis hw) (by decide) (mi_nq hs.V) ?_
  first | refine jx_icmp_ge (pc := 48) (tgt := 71) dX5_image_48 (by decide) (by omega) (by omega) ?_ ?_ | refine jw_icmp_ge (pc := 48) (tgt := 71) dX5_image_48 (by decide) ?_ ?_
  · intro h_48
    refine jw_aload_n (pc := 71) dX5_image_71 rfl ?_
    refine jw_iconst (pc := 72) dX5_image_72 ic_0 ?_
    refine jw_iconst (pc := 73) dX5_image_73 ic_0 ?_
    refine jx_cVi (mi1 := mi_X5_told) (pc := 74) rfl dX5_image_74 lk_X5_66 rfl fi_X5_told rfl rfl rfl (by decide) (is_90 hS) (t_X5_told0 hM) (by first | decide | omega) rfl rfl (by decide) ?_
    intro x_74 M_74 q_74
    refine jw_pop (pc := 77) dX5_image_77 (rfl) ?_
    refine jw_lload_n (pc := 78) dX5_image_78 rfl ?_
    refine jw_lreturn (pc := 79) dX5_image_79 rfl ?_
    exact lm_ok hq hf q_74
  · intro h_48
    omega
theorem t_X5_image (h : jMm M σ) : jT G mi_X5_image 9 [jr (some 90)] M (jLm M σ (q_image σ)) := by
  have hS := h.1
  refine jT.of (by decide) rfl (Nat.le_of_ble_eq_true rfl) ?_
  cases hv9 : sv σ with
  | none =>
    refine jw_aload_n (pc := 0) dX5_image_0 rfl ?_
    refine jw_iconst (pc := 1) dX5_image_1 ic_0 ?_
    refine jx_putI (pc := 2) jf_X5_56_4 rfl dX5_image_2 rfl rfl (is_90 hS) (by decide) ?_
    have hM := mthr (x := nI 0) h
    have hf : jfm M (js_I M 90 49 (nI 0)) := jsm.I (by decide)
    generalize js_I M 90 49 (nI 0) = M0 at hM hf ⊢
    clear hS
    have hS := hM.1
    refine jw_aload_n (pc := 5) dX5_image_5 rfl ?_
    refine jx_getRs (pc := 6) (jf_X5_380_4.r) rfl dX5_image_6 rfl (is_90 hS) (by decide) (hM.no hv9) ?_
    refine jw_ifnonnull (pc := 9) (tgt := 19) dX5_image_9 (by decide) (fun ax h => by cases h) (fun h => ?_)
    clear h
    refine jw_aload_n (pc := 12) dX5_image_12 rfl ?_
    refine jw_iconst (pc := 13) dX5_image_13 ic_1 ?_
    refine jx_cVi (mi1 := mi_X5_refused) (pc := 14) rfl dX5_image_14 lk_X5_62 rfl fi_X5_refused rfl rfl rfl (by decide) (is_90 hS) (t_X5_refused hM) (by first | decide | omega) rfl rfl (by decide) ?_
    intro x_14 M_14 q_14
    refine jw_i2l (pc := 17) dX5_image_17 (rfl) ?_
    refine jw_lreturn (pc := 18) dX5_image_18 rfl ?_
    refine lm_no ?_ hf q_14
    unfold q_image; rw [hv9] <;> rfl
  | some V =>
    refine jw_aload_n (pc := 0) dX5_image_0 rfl ?_
    refine jw_iconst (pc := 1) dX5_image_1 ic_0 ?_
    refine jx_putI (pc := 2) jf_X5_56_4 rfl dX5_image_2 rfl rfl (is_90 hS) (by decide) ?_
    have hM := mthr (x := nI 0) h
    have hf : jfm M (js_I M 90 49 (nI 0)) := jsm.I (by decide)
    generalize js_I M 90 49 (nI 0) = M0 at hM hf ⊢
    clear hS
    have hS := hM.1
    obtain ⟨w, hs, hN⟩ := hM.so hv9
    have hw := hs.s
    have hn := wf_nq hs.w
    have ht : sn σ 0 < 100 := (h.2.1.2 V hv9).2.2.2.1
    have J : ∀ k : Nat, k ≤ V 0 1 → jW G mi_X5_image 9 M 40 [some (jr (some 90)), some (.long (imgL σ k)), none, some (.int (nI k))] [] M0 (jLm M σ (q_image σ)) := by
      refine jW.loop _ (fun k => V 0 1 - k) _ (fun _ => []) (fun _ => M0) (fun k hk ih => ?_)
      by_cases hkn : k < V 0 1
      · exact lp_mimg hs hkn (hN.2.2.2.1 k hkn) (ih (k + 1) hkn (by omega))
      · have hk' : k = V 0 1 := by omega
        subst hk'
        exact lp_mimg2 hM hf hs (by unfold q_image; rw [hv9])
    refine jw_aload_n (pc := 5) dX5_image_5 rfl ?_
    refine jx_getRs (pc := 6) (jf_X5_380_4.r) rfl dX5_image_6 rfl (is_90 hS) (by decide) (hs.r) ?_
    refine jw_ifnonnull (pc := 9) (tgt := 19) dX5_image_9 (by decide) (fun ax h => ?_) (fun h => by cases h)
    clear h
    refine jw_ldc2 (pc := 19) q2244 rfl dX5_image_19 ?_
    refine jw_aload_n (pc := 22) dX5_image_22 rfl ?_
    refine jx_getIs (pc := 23) (jf_X5_386_4.r) rfl dX5_image_23 rfl (is_90 hS) (by decide) (hN.2.1) ?_
    refine jw_i2l (pc := 26) dX5_image_26 (rfl) ?_
    refine jw_lmul (pc := 27) dX5_image_27 ?_
    refine jw_aload_n (pc := 28) dX5_image_28 rfl ?_
    refine jx_getIs (pc := 29) (jf_X5_383_4.r) rfl dX5_image_29 rfl (is_90 hS) (by decide) (hN.1) ?_
    refine jw_bipush (pc := 32) dX5_image_32 bp_100 ?_
    refine jw_irem (pc := 34) dX5_image_34 (by decide +kernel) ?_
    rw [i_rem (by omega) (by decide) (by decide), Nat.mod_eq_of_lt ht]
    refine jw_i2l (pc := 35) dX5_image_35 (rfl) ?_
    refine jw_ladd (pc := 36) dX5_image_36 ?_
    refine jw_lstore_n (pc := 37) dX5_image_37 (Nat.le_of_ble_eq_true rfl) rfl ?_
    try dsimp only [jput1, jput2, jkill, jclr, jis2_i, jis2_l, jis2_rs, jis2_rn, cond]
    refine jw_iconst (pc := 38) dX5_image_38 ic_0 ?_
    refine jw_istore_n (pc := 39) dX5_image_39 (Nat.le_of_ble_eq_true rfl) rfl ?_
    try dsimp only [jput1, jput2, jkill, jclr, jis2_i, jis2_l, jis2_rs, jis2_rn, cond]
    exact J 0 (Nat.zero_le _)
end JMFG
