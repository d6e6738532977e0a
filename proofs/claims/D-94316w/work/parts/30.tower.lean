/-! ===== towers ===== -/
theorem inb_20 (b : Int32) : inb b (nI 0) (nI 19) = isIx 20 b := inb_ix' (n := 19) (by decide)
section JTO
variable {G : Gh} {M : Mm} {σ : Sg}
theorem towF_le {V : Vt} (hw : jWf V) (h t p : Nat) : towF V h t p ≤ 10 := plainN_le hw _ _
theorem bestK_z {f : Nat → Nat} {n k : Nat} (h : k ≤ n ∨ k = 1) (h2 : n ≤ k) : bestK f k = bestK f n := by
  by_cases e : k = n
  · rw [e]
  · have : n = 0 := by omega
    have : k = 1 := by omega
    subst n; subst k; rw [bestK_1]; rfl
theorem lp_tow {M9 : Mm} {v ka kt : Nat} {V : Vt} {P : Rs → Mm → Prop} {τ : Sg} (hX : jXx M τ) (hs : jXs M v V) (hv : jVs M v) (hka : ka < 20) (hkt : kt < 200) (end9 : bestK (towF V ka kt) (V 0 0) = bestK (towF V ka kt) (V 0 0) → P (.inl (some (.int (nI (bestK (towF V ka kt) (V 0 0)))))) M) : ∀ k : Nat, (1 ≤ k ∧ (k ≤ V 0 0 ∨ k = 1)) → jW G mi_X1_tower 9 M9 45 [some (jr (some 64)), some (.int (nI ka)), some (.int (nI kt)), some (.int (nI (bestK (towF V ka kt) k))), some (.int (nI k))] [] M P := by
  have hS := hX.1
  have hn := wf_np hs.w
  have hr : rangeV V kt ≤ 19 := by obtain ⟨d1, d2, d3, d4, d5⟩ := wf_d hs.w; unfold rangeV; split <;> omega
  refine jW.loop _ (fun k => V 0 0 - k) _ (fun _ => []) (fun _ => M) (fun k hk ih => ?_)
  obtain ⟨hk1, hk2⟩ := hk
  by_cases hkn : k < V 0 0
  · have hb : bestK (towF V ka kt) k < V 0 0 := by have := bestK_le (towF V ka kt) k; omega
    have q1 := towF_le hs.w ka kt k
    have q2 := towF_le hs.w ka kt (bestK (towF V ka kt) k)
    refine jw_iload (pc := 45) dX1_tower_45 rfl ?_
    refine jw_aload_n (pc := 47) dX1_tower_47 rfl ?_
    refine jx_getRs (pc := 48) (jf_X1_109_0.r) rfl dX1_tower_48 rfl (is_64 hS) (by decide) (hs.r) ?_
    refine jx_getIs (pc := 51) (jf_X1_150_5.r) rfl dX1_tower_51 rfl (vis hv) (by decide) (xi_np hs.V) ?_
    first | refine jx_icmp_ge (pc := 54) (tgt := 104) dX1_tower_54 (by decide) (by omega) (by omega) ?_ ?_ | refine jw_icmp_ge (pc := 54) (tgt := 104) dX1_tower_54 (by decide) ?_ ?_
    · intro h_54
      omega
    · intro h_54
      refine jw_aload_n (pc := 57) dX1_tower_57 rfl ?_
      refine jw_iload (pc := 58) dX1_tower_58 rfl ?_
      refine jw_aload_n (pc := 60) dX1_tower_60 rfl ?_
      refine jx_getRs (pc := 61) (jf_X1_109_0.r) rfl dX1_tower_61 rfl (is_64 hS) (by decide) (hs.r) ?_
      refine jw_iload_n (pc := 64) dX1_tower_64 rfl ?_
      refine jx_cVE (mi1 := mi_X6_range) (pc := 65) rfl dX1_tower_65 lk_X1_369 rfl fi_X6_range rfl rfl rfl (by decide) (vis hv) (t_X6_range (t := kt) hs.V hs.w (by omega)) (by first | decide | omega) rfl rfl (by simp only [List.map_cons, List.map_nil, List.sum_cons, List.sum_nil, cat_i, cat_l, jr_cat]; decide) ?_
      refine jw_iload_n (pc := 68) dX1_tower_68 rfl ?_
      first | refine jx_iadd (pc := 69) dX1_tower_69 ?_ | refine jw_iadd (pc := 69) dX1_tower_69 ?_
      refine jx_cVE (mi1 := mi_X1_plainFrom) (pc := 70) rfl dX1_tower_70 lk_X1_390 rfl fi_X1_plainFrom rfl rfl rfl (by decide) (is_64 hS) (t_X1_plainFrom hs hkn (by omega)) (by first | decide | omega) rfl rfl (by decide) ?_
      refine jw_aload_n (pc := 73) dX1_tower_73 rfl ?_
      refine jw_iload_n (pc := 74) dX1_tower_74 rfl ?_
      refine jw_aload_n (pc := 75) dX1_tower_75 rfl ?_
      refine jx_getRs (pc := 76) (jf_X1_109_0.r) rfl dX1_tower_76 rfl (is_64 hS) (by decide) (hs.r) ?_
      refine jw_iload_n (pc := 79) dX1_tower_79 rfl ?_
      refine jx_cVE (mi1 := mi_X6_range) (pc := 80) rfl dX1_tower_80 lk_X1_369 rfl fi_X6_range rfl rfl rfl (by decide) (vis hv) (t_X6_range (t := kt) hs.V hs.w (by omega)) (by first | decide | omega) rfl rfl (by simp only [List.map_cons, List.map_nil, List.sum_cons, List.sum_nil, cat_i, cat_l, jr_cat]; decide) ?_
      refine jw_iload_n (pc := 83) dX1_tower_83 rfl ?_
      first | refine jx_iadd (pc := 84) dX1_tower_84 ?_ | refine jw_iadd (pc := 84) dX1_tower_84 ?_
      refine jx_cVE (mi1 := mi_X1_plainFrom) (pc := 85) rfl dX1_tower_85 lk_X1_390 rfl fi_X1_plainFrom rfl rfl rfl (by decide) (is_64 hS) (t_X1_plainFrom hs hb (by omega)) (by first | decide | omega) rfl rfl (by simp only [List.map_cons, List.map_nil, List.sum_cons, List.sum_nil, Value.category]; decide) ?_
      rw [show plainN V k (rangeV V kt + ka) = towF V ka kt k from rfl, show plainN V (bestK (towF V ka kt) k) (rangeV V kt + ka) = towF V ka kt (bestK (towF V ka kt) k) from rfl]
      first | refine jx_icmp_le (pc := 88) (tgt := 96) dX1_tower_88 (by decide) (by omega) (by omega) ?_ ?_ | refine jw_icmp_le (pc := 88) (tgt := 96) dX1_tower_88 (by decide) ?_ ?_
      · intro h_88
        refine jw_iload_n (pc := 96) dX1_tower_96 rfl ?_
        refine jw_istore_n (pc := 97) dX1_tower_97 (Nat.le_of_ble_eq_true rfl) rfl ?_
        try dsimp only [jput1, jput2, jkill, jclr, jis2_i, jis2_l, jis2_rs, jis2_rn, cond]
        first | refine jx_iinc (pc := 98) dX1_tower_98 rfl rfl ?_ | refine jw_iinc (pc := 98) dX1_tower_98 rfl rfl rfl ?_
        try dsimp only [jput1, jkill, jclr, jis2_i, jis2_l, jis2_rs, jis2_rn, cond]
        refine jw_goto (pc := 101) (tgt := 45) dX1_tower_101 (by decide) ?_
        refine jW.eq ?_ rfl rfl (ih (k + 1) ⟨by omega, Or.inl hkn⟩ (by omega))
        rw [bestK_s]
        first | rw [if_pos ⟨hk1, by omega⟩] | rw [if_neg (by omega)]
      · intro h_88
        refine jw_iload (pc := 91) dX1_tower_91 rfl ?_
        refine jw_goto (pc := 93) (tgt := 97) dX1_tower_93 (by decide) ?_
        refine jw_istore_n (pc := 97) dX1_tower_97 (Nat.le_of_ble_eq_true rfl) rfl ?_
        try dsimp only [jput1, jput2, jkill, jclr, jis2_i, jis2_l, jis2_rs, jis2_rn, cond]
        first | refine jx_iinc (pc := 98) dX1_tower_98 rfl rfl ?_ | refine jw_iinc (pc := 98) dX1_tower_98 rfl rfl rfl ?_
        try dsimp only [jput1, jkill, jclr, jis2_i, jis2_l, jis2_rs, jis2_rn, cond]
        refine jw_goto (pc := 101) (tgt := 45) dX1_tower_101 (by decide) ?_
        refine jW.eq ?_ rfl rfl (ih (k + 1) ⟨by omega, Or.inl hkn⟩ (by omega))
        rw [bestK_s]
        first | rw [if_pos ⟨hk1, by omega⟩] | rw [if_neg (by omega)]
  · have hk' : V 0 0 ≤ k := by omega
    have e := bestK_z (f := towF V ka kt) hk2 hk'
    refine jw_iload (pc := 45) dX1_tower_45 rfl ?_
    refine jw_aload_n (pc := 47) dX1_tower_47 rfl ?_
    refine jx_getRs (pc := 48) (jf_X1_109_0.r) rfl dX1_tower_48 rfl (is_64 hS) (by decide) (hs.r) ?_
    refine jx_getIs (pc := 51) (jf_X1_150_5.r) rfl dX1_tower_51 rfl (vis hv) (by decide) (xi_np hs.V) ?_
    first | refine jx_icmp_ge (pc := 54) (tgt := 104) dX1_tower_54 (by decide) (by omega) (by omega) ?_ ?_ | refine jw_icmp_ge (pc := 54) (tgt := 104) dX1_tower_54 (by decide) ?_ ?_
    · intro h_54
      refine jw_iload_n (pc := 104) dX1_tower_104 rfl ?_
      refine jw_ireturn (pc := 105) dX1_tower_105 rfl (rfl) ?_
      rw [e]; exact end9 rfl
    · intro h_54
      omega
theorem t_X1_tower {a t : Int32} (h : jXx M σ) : jT G mi_X1_tower 9 [jr (some 64), .int a, .int t] M (jQx M σ (q_tower σ a t)) := by
  have hS := h.1
  refine jT.of (by decide) rfl (Nat.le_of_ble_eq_true rfl) ?_
  cases hv9 : sv σ with
  | none =>
    refine jw_aload_n (pc := 0) dX1_tower_0 rfl ?_
    refine jx_cVv (mi1 := mi_X1_anew) (pc := 1) rfl dX1_tower_1 lk_X1_84 rfl fi_X1_anew rfl rfl rfl (by decide) (is_64 hS) (t_X1_anew h) (by first | decide | omega) rfl rfl (by decide) ?_
    intro M_1 q_1
    obtain ⟨hX, hf⟩ := q_1
    have hS := hX.1
    refine jw_aload_n (pc := 4) dX1_tower_4 rfl ?_
    refine jx_getRs (pc := 5) (jf_X1_109_0.r) rfl dX1_tower_5 rfl (is_64 hS) (by decide) (hX.no hv9) ?_
    refine jw_ifnonnull (pc := 8) (tgt := 17) dX1_tower_8 (by decide) (fun ax h => by cases h) (fun h => ?_)
    clear h
    refine jw_aload_n (pc := 11) dX1_tower_11 rfl ?_
    refine jw_iconst (pc := 12) dX1_tower_12 ic_1 ?_
    refine jx_cVi (mi1 := mi_X1_no) (pc := 13) rfl dX1_tower_13 lk_X1_98 rfl fi_X1_no rfl rfl rfl (by decide) (is_64 hS) (t_X1_no hX (by decide)) (by first | decide | omega) rfl rfl (by decide) ?_
    intro x_13 M_13 q_13
    refine jw_ireturn (pc := 16) dX1_tower_16 rfl (rfl) ?_
    refine qx_no ?_ hf q_13
    unfold q_tower; rw [hv9] <;> rfl
  | some V =>
    refine jw_aload_n (pc := 0) dX1_tower_0 rfl ?_
    refine jx_cVv (mi1 := mi_X1_anew) (pc := 1) rfl dX1_tower_1 lk_X1_84 rfl fi_X1_anew rfl rfl rfl (by decide) (is_64 hS) (t_X1_anew h) (by first | decide | omega) rfl rfl (by decide) ?_
    intro M_1 q_1
    obtain ⟨hX, hf⟩ := q_1
    have hS := hX.1
    obtain ⟨v, hs, hN⟩ := hX.so hv9
    have hv := hs.s
    have hn := wf_np hs.w
    refine jw_aload_n (pc := 4) dX1_tower_4 rfl ?_
    refine jx_getRs (pc := 5) (jf_X1_109_0.r) rfl dX1_tower_5 rfl (is_64 hS) (by decide) (hs.r) ?_
    refine jw_ifnonnull (pc := 8) (tgt := 17) dX1_tower_8 (by decide) (fun ax h => ?_) (fun h => by cases h)
    clear h
    refine jw_iload_n (pc := 17) dX1_tower_17 rfl ?_
    refine jw_iconst (pc := 18) dX1_tower_18 ic_0 ?_
    refine jw_bipush (pc := 19) dX1_tower_19 bp_19 ?_
    refine jx_cSE (mi1 := mi_X1_in) (pc := 21) rfl dX1_tower_21 lk_X1_94 rfl fi_X1_in (t_X1_in) (by first | decide | omega) rfl rfl (by decide) ?_
    rw [inb_20]
    first | refine jx_ifb_eq (pc := 24) (tgt := 34) dX1_tower_24 (by decide) ?_ ?_ | refine jx_if_eq (pc := 24) (tgt := 34) dX1_tower_24 (by decide) (by omega) ?_ ?_ | refine jw_if_eq (pc := 24) (tgt := 34) dX1_tower_24 (by decide) ?_ ?_
    · intro h_24
      refine jw_aload_n (pc := 34) dX1_tower_34 rfl ?_
      refine jw_iconst (pc := 35) dX1_tower_35 ic_2 ?_
      refine jx_cVi (mi1 := mi_X1_no) (pc := 36) rfl dX1_tower_36 lk_X1_98 rfl fi_X1_no rfl rfl rfl (by decide) (is_64 hS) (t_X1_no hX (by decide)) (by first | decide | omega) rfl rfl (by decide) ?_
      intro x_36 M_36 q_36
      refine jw_ireturn (pc := 39) dX1_tower_39 rfl (rfl) ?_
      refine qx_no ?_ hf q_36
      unfold q_tower; rw [hv9]; simp only [h_24]
      first | rfl | (simp only [h_31]; rfl)
    · intro h_24
      refine jw_iload_n (pc := 27) dX1_tower_27 rfl ?_
      refine jx_cSE (mi1 := mi_X1_isStep) (pc := 28) rfl dX1_tower_28 lk_X1_156 rfl fi_X1_isStep (t_X1_isStep) (by first | decide | omega) rfl rfl (by decide) ?_
      first | refine jx_ifb_ne (pc := 31) (tgt := 40) dX1_tower_31 (by decide) ?_ ?_ | refine jx_if_ne (pc := 31) (tgt := 40) dX1_tower_31 (by decide) (by omega) ?_ ?_ | refine jw_if_ne (pc := 31) (tgt := 40) dX1_tower_31 (by decide) ?_ ?_
      · intro h_31
        obtain ⟨ka, hka, rfl⟩ := isIx_of h_24
        obtain ⟨kt, hkt, rfl⟩ := isIx_of h_31
        refine jw_iconst (pc := 40) dX1_tower_40 ic_0 ?_
        refine jw_istore_n (pc := 41) dX1_tower_41 (Nat.le_of_ble_eq_true rfl) rfl ?_
        try dsimp only [jput1, jput2, jkill, jclr, jis2_i, jis2_l, jis2_rs, jis2_rn, cond]
        refine jw_iconst (pc := 42) dX1_tower_42 ic_1 ?_
        refine jw_istore (pc := 43) dX1_tower_43 (Nat.le_of_ble_eq_true rfl) rfl ?_
        try dsimp only [jput1, jput2, jkill, jclr, jis2_i, jis2_l, jis2_rs, jis2_rn, cond]
        refine jW.sub (ls1 := [some (jr (some 64)), some (.int (nI ka)), some (.int (nI kt)), some (.int (nI (bestK (towF V ka kt) 1))), some (.int (nI 1))]) ?_ (lp_tow hX hs hv hka hkt (fun e => qx_ok (by unfold q_tower; rw [hv9]; simp only [h_24, h_31, iN_n (show ka < 2 ^ 31 by omega), iN_n (show kt < 2 ^ 31 by omega)]; rw [e]; rfl) hf hX) 1 ⟨Nat.le_refl _, Or.inr rfl⟩)
        exact ⟨rfl, rfl, rfl, by rw [bestK_1]; rfl, rfl, trivial⟩
      · intro h_31
        refine jw_aload_n (pc := 34) dX1_tower_34 rfl ?_
        refine jw_iconst (pc := 35) dX1_tower_35 ic_2 ?_
        refine jx_cVi (mi1 := mi_X1_no) (pc := 36) rfl dX1_tower_36 lk_X1_98 rfl fi_X1_no rfl rfl rfl (by decide) (is_64 hS) (t_X1_no hX (by decide)) (by first | decide | omega) rfl rfl (by decide) ?_
        intro x_36 M_36 q_36
        refine jw_ireturn (pc := 39) dX1_tower_39 rfl (rfl) ?_
        refine qx_no ?_ hf q_36
        unfold q_tower; rw [hv9]; simp only [h_24]
        first | rfl | (simp only [h_31]; rfl)
theorem lp_mtow {M9 : Mm} {w ka kt : Nat} {V : Vt} {P : Rs → Mm → Prop} (hM : jMm M σ) (hs : jMs M w V 0 0) (hka : ka < 20) (hkt : kt < 200) (end9 : ∀ x M', bestK (towF V ka kt) (V 0 0) = bestK (towF V ka kt) (V 0 0) → (x = nI (bestK (towF V ka kt) (V 0 0)) ∧ jMm M' (sgT σ 0 (-1)) ∧ jfm M M') → P (.inl (some (.int x))) M') : ∀ k : Nat, (1 ≤ k ∧ (k ≤ V 0 0 ∨ k = 1)) → jW G mi_X5_tower 9 M9 46 [some (jr (some 90)), some (.int (nI ka)), some (.int (nI kt)), some (.int (nI (bestK (towF V ka kt) k))), some (.int (nI k))] [] M P := by
  have hS := hM.1
  have hw := hs.s
  have hn := wf_np hs.w
  have hr : rangeV V kt ≤ 19 := by obtain ⟨d1, d2, d3, d4, d5⟩ := wf_d hs.w; unfold rangeV; split <;> omega
  refine jW.loop _ (fun k => V 0 0 - k) _ (fun _ => []) (fun _ => M) (fun k hk ih => ?_)
  obtain ⟨hk1, hk2⟩ := hk
  by_cases hkn : k < V 0 0
  · have hb : bestK (towF V ka kt) k < V 0 0 := by have := bestK_le (towF V ka kt) k; omega
    have q1 := towF_le hs.w ka kt k
    have q2 := towF_le hs.w ka kt (bestK (towF V ka kt) k)
    refine jw_iload (pc := 46) dX5_tower_46 rfl ?_
    refine jw_aload_n (pc := 48) dX5_tower_48 rfl ?_
    refine jx_getRs (pc := 49) (jf_X5_380_4.r) rfl dX5_tower_49 rfl (is_90 hS) (by decide) (hs.r) ?_
    refine jx_getIs (pc := 52) (jf_X5_218_12.r) rfl dX5_tower_52 rfl (wis hw) (by decide) (mi_np hs.V) ?_
    first | refine jx_icmp_ge (pc := 55) (tgt := 95) dX5_tower_55 (by decide) (by omega) (by omega) ?_ ?_ | refine jw_icmp_ge (pc := 55) (tgt := 95) dX5_tower_55 (by decide) ?_ ?_
    · intro h_55
      omega
    · intro h_55
      refine jw_aload_n (pc := 58) dX5_tower_58 rfl ?_
      refine jw_iload (pc := 59) dX5_tower_59 rfl ?_
      refine jw_aload_n (pc := 61) dX5_tower_61 rfl ?_
      refine jw_iload_n (pc := 62) dX5_tower_62 rfl ?_
      refine jx_cVE (mi1 := mi_X5_rangeIn) (pc := 63) rfl dX5_tower_63 lk_X5_405 rfl fi_X5_rangeIn rfl rfl rfl (by decide) (is_90 hS) (t_X5_rangeIn (t := kt) hs (by omega)) (by first | decide | omega) rfl rfl (by simp only [List.map_cons, List.map_nil, List.sum_cons, List.sum_nil, cat_i, cat_l, jr_cat]; decide) ?_
      refine jw_iload_n (pc := 66) dX5_tower_66 rfl ?_
      first | refine jx_iadd (pc := 67) dX5_tower_67 ?_ | refine jw_iadd (pc := 67) dX5_tower_67 ?_
      refine jx_cVE (mi1 := mi_X5_plainTo) (pc := 68) rfl dX5_tower_68 lk_X5_543 rfl fi_X5_plainTo rfl rfl rfl (by decide) (is_90 hS) (t_X5_plainTo hs hkn (by omega)) (by first | decide | omega) rfl rfl (by decide) ?_
      refine jw_aload_n (pc := 71) dX5_tower_71 rfl ?_
      refine jw_iload_n (pc := 72) dX5_tower_72 rfl ?_
      refine jw_aload_n (pc := 73) dX5_tower_73 rfl ?_
      refine jw_iload_n (pc := 74) dX5_tower_74 rfl ?_
      refine jx_cVE (mi1 := mi_X5_rangeIn) (pc := 75) rfl dX5_tower_75 lk_X5_405 rfl fi_X5_rangeIn rfl rfl rfl (by decide) (is_90 hS) (t_X5_rangeIn (t := kt) hs (by omega)) (by first | decide | omega) rfl rfl (by simp only [List.map_cons, List.map_nil, List.sum_cons, List.sum_nil, cat_i, cat_l, jr_cat]; decide) ?_
      refine jw_iload_n (pc := 78) dX5_tower_78 rfl ?_
      first | refine jx_iadd (pc := 79) dX5_tower_79 ?_ | refine jw_iadd (pc := 79) dX5_tower_79 ?_
      refine jx_cVE (mi1 := mi_X5_plainTo) (pc := 80) rfl dX5_tower_80 lk_X5_543 rfl fi_X5_plainTo rfl rfl rfl (by decide) (is_90 hS) (t_X5_plainTo hs hb (by omega)) (by first | decide | omega) rfl rfl (by simp only [List.map_cons, List.map_nil, List.sum_cons, List.sum_nil, Value.category]; decide) ?_
      rw [show plainN V k (rangeV V kt + ka) = towF V ka kt k from rfl, show plainN V (bestK (towF V ka kt) k) (rangeV V kt + ka) = towF V ka kt (bestK (towF V ka kt) k) from rfl]
      first | refine jx_icmp_le (pc := 83) (tgt := 89) dX5_tower_83 (by decide) (by omega) (by omega) ?_ ?_ | refine jw_icmp_le (pc := 83) (tgt := 89) dX5_tower_83 (by decide) ?_ ?_
      · intro h_83
        first | refine jx_iinc (pc := 89) dX5_tower_89 rfl rfl ?_ | refine jw_iinc (pc := 89) dX5_tower_89 rfl rfl rfl ?_
        try dsimp only [jput1, jkill, jclr, jis2_i, jis2_l, jis2_rs, jis2_rn, cond]
        refine jw_goto (pc := 92) (tgt := 46) dX5_tower_92 (by decide) ?_
        refine jW.eq ?_ rfl rfl (ih (k + 1) ⟨by omega, Or.inl hkn⟩ (by omega))
        rw [bestK_s]
        first | rw [if_pos ⟨hk1, by omega⟩] | rw [if_neg (by omega)]
      · intro h_83
        refine jw_iload (pc := 86) dX5_tower_86 rfl ?_
        refine jw_istore_n (pc := 88) dX5_tower_88 (Nat.le_of_ble_eq_true rfl) rfl ?_
        try dsimp only [jput1, jput2, jkill, jclr, jis2_i, jis2_l, jis2_rs, jis2_rn, cond]
        first | refine jx_iinc (pc := 89) dX5_tower_89 rfl rfl ?_ | refine jw_iinc (pc := 89) dX5_tower_89 rfl rfl rfl ?_
        try dsimp only [jput1, jkill, jclr, jis2_i, jis2_l, jis2_rs, jis2_rn, cond]
        refine jw_goto (pc := 92) (tgt := 46) dX5_tower_92 (by decide) ?_
        refine jW.eq ?_ rfl rfl (ih (k + 1) ⟨by omega, Or.inl hkn⟩ (by omega))
        rw [bestK_s]
        first | rw [if_pos ⟨hk1, by omega⟩] | rw [if_neg (by omega)]
  · have hk' : V 0 0 ≤ k := by omega
    have e := bestK_z (f := towF V ka kt) hk2 hk'
    refine jw_iload (pc := 46) dX5_tower_46 rfl ?_
    refine jw_aload_n (pc := 48) dX5_tower_48 rfl ?_
    refine jx_getRs (pc := 49) (jf_X5_380_4.r) rfl dX5_tower_49 rfl (is_90 hS) (by decide) (hs.r) ?_
    refine jx_getIs (pc := 52) (jf_X5_218_12.r) rfl dX5_tower_52 rfl (wis hw) (by decide) (mi_np hs.V) ?_
    first | refine jx_icmp_ge (pc := 55) (tgt := 95) dX5_tower_55 (by decide) (by omega) (by omega) ?_ ?_ | refine jw_icmp_ge (pc := 55) (tgt := 95) dX5_tower_55 (by decide) ?_ ?_
    · intro h_55
      refine jw_aload_n (pc := 95) dX5_tower_95 rfl ?_
      refine jw_iload_n (pc := 96) dX5_tower_96 rfl ?_
      refine jw_iconst (pc := 97) dX5_tower_97 ic_0 ?_
      refine jx_cVi (mi1 := mi_X5_told) (pc := 98) rfl dX5_tower_98 lk_X5_66 rfl fi_X5_told rfl rfl rfl (by decide) (is_90 hS) (t_X5_told0 hM) (by first | decide | omega) rfl rfl (by decide) ?_
      intro x_98 M_98 q_98
      rw [e] at q_98
      refine jw_ireturn (pc := 101) dX5_tower_101 rfl (rfl) ?_
      exact end9 _ _ rfl q_98
    · intro h_55
      omega
theorem t_X5_tower {a t : Int32} (h : jMm M σ) : jT G mi_X5_tower 9 [jr (some 90), .int a, .int t] M (jQm M σ (q_tower σ a t)) := by
  have hS := h.1
  refine jT.of (by decide) rfl (Nat.le_of_ble_eq_true rfl) ?_
  cases hv9 : sv σ with
  | none =>
    refine jw_aload_n (pc := 0) dX5_tower_0 rfl ?_
    refine jw_iconst (pc := 1) dX5_tower_1 ic_0 ?_
    refine jx_putI (pc := 2) jf_X5_56_4 rfl dX5_tower_2 rfl rfl (is_90 hS) (by decide) ?_
    have hM := mthr (x := nI 0) h
    have hf : jfm M (js_I M 90 49 (nI 0)) := jsm.I (by decide)
    generalize js_I M 90 49 (nI 0) = M0 at hM hf ⊢
    clear hS
    have hS := hM.1
    refine jw_aload_n (pc := 5) dX5_tower_5 rfl ?_
    refine jx_getRs (pc := 6) (jf_X5_380_4.r) rfl dX5_tower_6 rfl (is_90 hS) (by decide) (hM.no hv9) ?_
    refine jw_ifnonnull (pc := 9) (tgt := 18) dX5_tower_9 (by decide) (fun ax h => by cases h) (fun h => ?_)
    clear h
    refine jw_aload_n (pc := 12) dX5_tower_12 rfl ?_
    refine jw_iconst (pc := 13) dX5_tower_13 ic_1 ?_
    refine jx_cVi (mi1 := mi_X5_refused) (pc := 14) rfl dX5_tower_14 lk_X5_62 rfl fi_X5_refused rfl rfl rfl (by decide) (is_90 hS) (t_X5_refused hM) (by first | decide | omega) rfl rfl (by decide) ?_
    intro x_14 M_14 q_14
    refine jw_ireturn (pc := 17) dX5_tower_17 rfl (rfl) ?_
    refine qm ?_ hf q_14
    unfold q_tower; rw [hv9] <;> rfl
  | some V =>
    refine jw_aload_n (pc := 0) dX5_tower_0 rfl ?_
    refine jw_iconst (pc := 1) dX5_tower_1 ic_0 ?_
    refine jx_putI (pc := 2) jf_X5_56_4 rfl dX5_tower_2 rfl rfl (is_90 hS) (by decide) ?_
    have hM := mthr (x := nI 0) h
    have hf : jfm M (js_I M 90 49 (nI 0)) := jsm.I (by decide)
    generalize js_I M 90 49 (nI 0) = M0 at hM hf ⊢
    clear hS
    have hS := hM.1
    obtain ⟨w, hs, hN⟩ := hM.so hv9
    have hw := hs.s
    have hn := wf_np hs.w
    refine jw_aload_n (pc := 5) dX5_tower_5 rfl ?_
    refine jx_getRs (pc := 6) (jf_X5_380_4.r) rfl dX5_tower_6 rfl (is_90 hS) (by decide) (hs.r) ?_
    refine jw_ifnonnull (pc := 9) (tgt := 18) dX5_tower_9 (by decide) (fun ax h => ?_) (fun h => by cases h)
    clear h
    refine jw_iload_n (pc := 18) dX5_tower_18 rfl ?_
    refine jw_iconst (pc := 19) dX5_tower_19 ic_0 ?_
    refine jw_bipush (pc := 20) dX5_tower_20 bp_19 ?_
    refine jx_cSE (mi1 := mi_X5_in) (pc := 22) rfl dX5_tower_22 lk_X5_135 rfl fi_X5_in (t_X5_in) (by first | decide | omega) rfl rfl (by decide) ?_
    rw [inb_20]
    first | refine jx_ifb_eq (pc := 25) (tgt := 35) dX5_tower_25 (by decide) ?_ ?_ | refine jx_if_eq (pc := 25) (tgt := 35) dX5_tower_25 (by decide) (by omega) ?_ ?_ | refine jw_if_eq (pc := 25) (tgt := 35) dX5_tower_25 (by decide) ?_ ?_
    · intro h_25
      refine jw_aload_n (pc := 35) dX5_tower_35 rfl ?_
      refine jw_iconst (pc := 36) dX5_tower_36 ic_2 ?_
      refine jx_cVi (mi1 := mi_X5_refused) (pc := 37) rfl dX5_tower_37 lk_X5_62 rfl fi_X5_refused rfl rfl rfl (by decide) (is_90 hS) (t_X5_refused hM) (by first | decide | omega) rfl rfl (by decide) ?_
      intro x_37 M_37 q_37
      refine jw_ireturn (pc := 40) dX5_tower_40 rfl (rfl) ?_
      refine qm ?_ hf q_37
      unfold q_tower; rw [hv9]; simp only [h_25]
      first | rfl | (simp only [h_32]; rfl)
    · intro h_25
      refine jw_iload_n (pc := 28) dX5_tower_28 rfl ?_
      refine jx_cSE (mi1 := mi_X5_isStep) (pc := 29) rfl dX5_tower_29 lk_X5_411 rfl fi_X5_isStep (t_X5_isStep) (by first | decide | omega) rfl rfl (by decide) ?_
      first | refine jx_ifb_ne (pc := 32) (tgt := 41) dX5_tower_32 (by decide) ?_ ?_ | refine jx_if_ne (pc := 32) (tgt := 41) dX5_tower_32 (by decide) (by omega) ?_ ?_ | refine jw_if_ne (pc := 32) (tgt := 41) dX5_tower_32 (by decide) ?_ ?_
      · intro h_32
        obtain ⟨ka, hka, rfl⟩ := isIx_of h_25
        obtain ⟨kt, hkt, rfl⟩ := isIx_of h_32
        refine jw_iconst (pc := 41) dX5_tower_41 ic_0 ?_
        refine jw_istore_n (pc := 42) dX5_tower_42 (Nat.le_of_ble_eq_true rfl) rfl ?_
        try dsimp only [jput1, jput2, jkill, jclr, jis2_i, jis2_l, jis2_rs, jis2_rn, cond]
        refine jw_iconst (pc := 43) dX5_tower_43 ic_1 ?_
        refine jw_istore (pc := 44) dX5_tower_44 (Nat.le_of_ble_eq_true rfl) rfl ?_
        try dsimp only [jput1, jput2, jkill, jclr, jis2_i, jis2_l, jis2_rs, jis2_rn, cond]
        refine jW.sub (ls1 := [some (jr (some 90)), some (.int (nI ka)), some (.int (nI kt)), some (.int (nI (bestK (towF V ka kt) 1))), some (.int (nI 1))]) ?_ (lp_mtow hM hs hka hkt (fun x M2 e1 e => qm (by unfold q_tower; rw [hv9]; simp only [h_25, h_32, iN_n (show ka < 2 ^ 31 by omega), iN_n (show kt < 2 ^ 31 by omega)]; rfl) hf e) 1 ⟨Nat.le_refl _, Or.inr rfl⟩)
        exact ⟨rfl, rfl, rfl, by rw [bestK_1]; rfl, rfl, trivial⟩
      · intro h_32
        refine jw_aload_n (pc := 35) dX5_tower_35 rfl ?_
        refine jw_iconst (pc := 36) dX5_tower_36 ic_2 ?_
        refine jx_cVi (mi1 := mi_X5_refused) (pc := 37) rfl dX5_tower_37 lk_X5_62 rfl fi_X5_refused rfl rfl rfl (by decide) (is_90 hS) (t_X5_refused hM) (by first | decide | omega) rfl rfl (by decide) ?_
        intro x_37 M_37 q_37
        refine jw_ireturn (pc := 40) dX5_tower_40 rfl (rfl) ?_
        refine qm ?_ hf q_37
        unfold q_tower; rw [hv9]; simp only [h_25]
        first | rfl | (simp only [h_32]; rfl)
end JTO
