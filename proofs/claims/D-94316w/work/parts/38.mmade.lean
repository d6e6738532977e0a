/-! ===== walls opened, by the reference ===== -/
section JMMD
variable {G : Gh} {M : Mm} {σ : Sg}
theorem lp_pw27 {M9 : Mm} {P : Rs → Mm → Prop} {x0 x1 x2 : Option Value} {o : Option Nat} (ho : ∀ b, o = some b → b < 1024) (h : P (.inl (some (.int (aloneI o)))) M) : jW G mi_X5_postsWithout 7 M9 27 [x0, x1, x2, some (.int (optI o))] [] M P := by
  have hc := cnt_le
  cases o with
  | none =>
    refine jw_iload_n (pc := 27) dX5_postsWithout_27 rfl ?_
    refine jw_bipush (pc := 28) dX5_postsWithout_28 bp_m2 ?_
    refine jw_icmp_ne (pc := 30) (tgt := 38) dX5_postsWithout_30 (by decide) ?_ ?_
    · intro h_30
      exact absurd rfl h_30
    · intro h_30
      refine jw_bipush (pc := 33) dX5_postsWithout_33 bp_m2 ?_
      refine jw_goto (pc := 35) (tgt := 42) dX5_postsWithout_35 (by decide) ?_
      refine jw_ireturn (pc := 42) dX5_postsWithout_42 rfl (rfl) ?_
      exact h
  | some b =>
    have hb := ho b rfl
    refine jw_iload_n (pc := 27) dX5_postsWithout_27 rfl ?_
    refine jw_bipush (pc := 28) dX5_postsWithout_28 bp_m2 ?_
    refine jw_icmp_ne (pc := 30) (tgt := 38) dX5_postsWithout_30 (by decide) ?_ ?_
    · intro h_30
      refine jw_iload_n (pc := 38) dX5_postsWithout_38 rfl ?_
      refine jx_cSE (mi1 := mi_X5_bits) (pc := 39) rfl dX5_postsWithout_39 lk_X5_461 rfl fi_X5_bits (t_X5_bits hb) (by first | decide | omega) rfl rfl (by decide) ?_
      refine jw_ireturn (pc := 42) dX5_postsWithout_42 rfl (rfl) ?_
      exact h
    · intro h_30
      exact absurd h_30 (nI_m2 (by omega))
theorem t_X5_postsWithout {set t : Nat} {V : Vt} (hM : jMm M σ) (hv9 : sv σ = some V) (hset : set < 1024) (ht : t < 2 ^ 30) : jT G mi_X5_postsWithout 7 [jr (some 90), .int (nI set), .int (nI t)] M (jPi (fun r M' => r = aloneI (postO V (seesS V (rangeV V t) set 0) (2 ^ V 0 0 - 1)) ∧ jMm M' σ ∧ jfm M M' ∧ jm_I M' 90 86 = jm_I M 90 86)) := by
  have hS := hM.1
  obtain ⟨w, hs, hN⟩ := hM.so hv9
  have hs1 := mopen hs set
  have hw := hs1.s
  have hn := wf_np hs.w
  have hpp : 2 ^ V 0 0 ≤ 1024 := p10 hn
  have h1p := Nat.one_le_two_pow (n := V 0 0)
  refine jT.of (by decide) rfl (Nat.le_of_ble_eq_true rfl) ?_
  refine jw_aload_n (pc := 0) dX5_postsWithout_0 rfl ?_
  refine jw_iload_n (pc := 1) dX5_postsWithout_1 rfl ?_
  refine jx_putI (pc := 2) jf_X5_402_4 rfl dX5_postsWithout_2 rfl rfl (is_90 hS) (by decide) ?_
  refine jw_aload_n (pc := 5) dX5_postsWithout_5 rfl ?_
  refine jw_iconst (pc := 6) dX5_postsWithout_6 ic_1 ?_
  refine jw_aload_n (pc := 7) dX5_postsWithout_7 rfl ?_
  refine jx_getRs (pc := 8) (jf_X5_380_4.r) rfl dX5_postsWithout_8 rfl (is_90 hS) (by decide) (hs1.r) ?_
  refine jx_getIs (pc := 11) (jf_X5_218_12.r) rfl dX5_postsWithout_11 rfl (wis hw) (by decide) (mi_np hs1.V) ?_
  refine jw_ishl (pc := 14) dX5_postsWithout_14 ?_
  rw [shl1 (by omega)]
  refine jw_iconst (pc := 15) dX5_postsWithout_15 ic_1 ?_
  refine jw_isub (pc := 16) dX5_postsWithout_16 ?_
  rw [sub1 h1p]
  refine jw_iload_n (pc := 17) dX5_postsWithout_17 rfl ?_
  refine jx_cVE (mi1 := mi_X5_postsFor) (pc := 18) rfl dX5_postsWithout_18 lk_X5_467 rfl fi_X5_postsFor rfl rfl rfl (by decide) (is_90 hS) (t_X5_postsFor hs1 (by omega) (by decide) (by omega) ht) (by first | decide | omega) rfl rfl (by decide) ?_
  refine jw_istore_n (pc := 21) dX5_postsWithout_21 (Nat.le_of_ble_eq_true rfl) rfl ?_
  try dsimp only [jput1, jput2, jkill, jclr, jis2_i, jis2_l, jis2_rs, jis2_rn, cond]
  refine jw_aload_n (pc := 22) dX5_postsWithout_22 rfl ?_
  refine jw_iconst (pc := 23) dX5_postsWithout_23 ic_0 ?_
  refine jx_putI (pc := 24) jf_X5_402_4 rfl dX5_postsWithout_24 rfl rfl (is_90 hS) (by decide) ?_
  refine lp_pw27 (fun b hb => postO_lt hs.w hb) ⟨_, rfl, rfl, ?_, ?_, ?_⟩
  · exact mscr (mclose hM) (jsm.As (a := 95) (by unfold msa; omega)) hS
  · exact (jsm.I (by decide)).tr ((jsm.As (by decide)).tr (jsm.I (by decide)))
  · rfl
theorem t_X5_refusesMade {p t : Int32} {o : Option Vt} (h : jMm M σ) (ho : sv σ = o) : jE G mi_X5_refusesMade 3 [jr (some 90), .int p, .int t] M (some (.int (madeW o p t))) M := by
  have hS := h.1
  refine jE.of (by decide) rfl (Nat.le_of_ble_eq_true rfl) ?_
  cases o with
  | none =>
    refine jw_aload_n (pc := 0) dX5_refusesMade_0 rfl ?_
    refine jx_getRs (pc := 1) (jf_X5_380_4.r) rfl dX5_refusesMade_1 rfl (is_90 hS) (by decide) (h.no ho) ?_
    refine jw_ifnonnull (pc := 4) (tgt := 11) dX5_refusesMade_4 (by decide) (fun ax h => by cases h) (fun h => ?_)
    clear h
    refine jw_iconst (pc := 7) dX5_refusesMade_7 ic_1 ?_
    refine jw_goto (pc := 8) (tgt := 53) dX5_refusesMade_8 (by decide) ?_
    refine jw_ireturn (pc := 53) dX5_refusesMade_53 rfl (rfl) ?_
    exact ⟨rfl, rfl⟩
  | some V =>
    obtain ⟨w, hs, hN⟩ := h.so ho
    have hw := hs.s
    have hn := wf_nw hs.w
    refine jw_aload_n (pc := 0) dX5_refusesMade_0 rfl ?_
    refine jx_getRs (pc := 1) (jf_X5_380_4.r) rfl dX5_refusesMade_1 rfl (is_90 hS) (by decide) (hs.r) ?_
    refine jw_ifnonnull (pc := 4) (tgt := 11) dX5_refusesMade_4 (by decide) (fun ax h => ?_) (fun h => by cases h)
    clear h
    refine jw_iload_n (pc := 11) dX5_refusesMade_11 rfl ?_
    refine jw_iconst (pc := 12) dX5_refusesMade_12 ic_0 ?_
    refine jw_aload_n (pc := 13) dX5_refusesMade_13 rfl ?_
    refine jx_getRs (pc := 14) (jf_X5_380_4.r) rfl dX5_refusesMade_14 rfl (is_90 hS) (by decide) (hs.r) ?_
    refine jx_getIs (pc := 17) (jf_X5_289_12.r) rfl dX5_refusesMade_17 rfl (wis hw) (by decide) (mi_nw hs.V) ?_
    refine jw_iconst (pc := 20) dX5_refusesMade_20 ic_3 ?_
    first | refine jx_icmp_ge (pc := 21) (tgt := 34) dX5_refusesMade_21 (by decide) (by omega) (by omega) ?_ ?_ | refine jw_icmp_ge (pc := 21) (tgt := 34) dX5_refusesMade_21 (by decide) ?_ ?_
    · intro h_21
      refine jw_iconst (pc := 34) dX5_refusesMade_34 ic_3 ?_
      refine jx_cSE (mi1 := mi_X5_in) (pc := 35) rfl dX5_refusesMade_35 lk_X5_135 rfl fi_X5_in (t_X5_in) (by first | decide | omega) rfl rfl (by decide) ?_
      first
        | rw [inb_ix' (n := V 0 3) (by omega), show V 0 3 + 1 = min 3 (V 0 3) + 1 by omega]
        | rw [inb_ix' (n := 3) (by omega), show 3 + 1 = min 3 (V 0 3) + 1 by omega]
      first | refine jx_ifb_eq (pc := 38) (tgt := 48) dX5_refusesMade_38 (by decide) ?_ ?_ | refine jx_if_eq (pc := 38) (tgt := 48) dX5_refusesMade_38 (by decide) (by omega) ?_ ?_ | refine jw_if_eq (pc := 38) (tgt := 48) dX5_refusesMade_38 (by decide) ?_ ?_
      · intro h_38
        refine jw_iconst (pc := 48) dX5_refusesMade_48 ic_2 ?_
        refine jw_goto (pc := 49) (tgt := 53) dX5_refusesMade_49 (by decide) ?_
        refine jw_ireturn (pc := 53) dX5_refusesMade_53 rfl (rfl) ?_
        refine ⟨?_, rfl⟩
        rw [madeW_s]
        first
          | (rw [h_38, h_45]; rfl)
          | (rw [h_38]; rfl)
      · intro h_38
        refine jw_iload_n (pc := 41) dX5_refusesMade_41 rfl ?_
        refine jx_cSE (mi1 := mi_X5_isStep) (pc := 42) rfl dX5_refusesMade_42 lk_X5_411 rfl fi_X5_isStep (t_X5_isStep) (by first | decide | omega) rfl rfl (by decide) ?_
        first | refine jx_ifb_ne (pc := 45) (tgt := 52) dX5_refusesMade_45 (by decide) ?_ ?_ | refine jx_if_ne (pc := 45) (tgt := 52) dX5_refusesMade_45 (by decide) (by omega) ?_ ?_ | refine jw_if_ne (pc := 45) (tgt := 52) dX5_refusesMade_45 (by decide) ?_ ?_
        · intro h_45
          refine jw_iconst (pc := 52) dX5_refusesMade_52 ic_0 ?_
          refine jw_ireturn (pc := 53) dX5_refusesMade_53 rfl (rfl) ?_
          refine ⟨?_, rfl⟩
          rw [madeW_s]
          first
            | (rw [h_38, h_45]; rfl)
            | (rw [h_38]; rfl)
        · intro h_45
          refine jw_iconst (pc := 48) dX5_refusesMade_48 ic_2 ?_
          refine jw_goto (pc := 49) (tgt := 53) dX5_refusesMade_49 (by decide) ?_
          refine jw_ireturn (pc := 53) dX5_refusesMade_53 rfl (rfl) ?_
          refine ⟨?_, rfl⟩
          rw [madeW_s]
          first
            | (rw [h_38, h_45]; rfl)
            | (rw [h_38]; rfl)
    · intro h_21
      refine jw_aload_n (pc := 24) dX5_refusesMade_24 rfl ?_
      refine jx_getRs (pc := 25) (jf_X5_380_4.r) rfl dX5_refusesMade_25 rfl (is_90 hS) (by decide) (hs.r) ?_
      refine jx_getIs (pc := 28) (jf_X5_289_12.r) rfl dX5_refusesMade_28 rfl (wis hw) (by decide) (mi_nw hs.V) ?_
      refine jw_goto (pc := 31) (tgt := 35) dX5_refusesMade_31 (by decide) ?_
      refine jx_cSE (mi1 := mi_X5_in) (pc := 35) rfl dX5_refusesMade_35 lk_X5_135 rfl fi_X5_in (t_X5_in) (by first | decide | omega) rfl rfl (by decide) ?_
      first
        | rw [inb_ix' (n := V 0 3) (by omega), show V 0 3 + 1 = min 3 (V 0 3) + 1 by omega]
        | rw [inb_ix' (n := 3) (by omega), show 3 + 1 = min 3 (V 0 3) + 1 by omega]
      first | refine jx_ifb_eq (pc := 38) (tgt := 48) dX5_refusesMade_38 (by decide) ?_ ?_ | refine jx_if_eq (pc := 38) (tgt := 48) dX5_refusesMade_38 (by decide) (by omega) ?_ ?_ | refine jw_if_eq (pc := 38) (tgt := 48) dX5_refusesMade_38 (by decide) ?_ ?_
      · intro h_38
        refine jw_iconst (pc := 48) dX5_refusesMade_48 ic_2 ?_
        refine jw_goto (pc := 49) (tgt := 53) dX5_refusesMade_49 (by decide) ?_
        refine jw_ireturn (pc := 53) dX5_refusesMade_53 rfl (rfl) ?_
        refine ⟨?_, rfl⟩
        rw [madeW_s]
        first
          | (rw [h_38, h_45]; rfl)
          | (rw [h_38]; rfl)
      · intro h_38
        refine jw_iload_n (pc := 41) dX5_refusesMade_41 rfl ?_
        refine jx_cSE (mi1 := mi_X5_isStep) (pc := 42) rfl dX5_refusesMade_42 lk_X5_411 rfl fi_X5_isStep (t_X5_isStep) (by first | decide | omega) rfl rfl (by decide) ?_
        first | refine jx_ifb_ne (pc := 45) (tgt := 52) dX5_refusesMade_45 (by decide) ?_ ?_ | refine jx_if_ne (pc := 45) (tgt := 52) dX5_refusesMade_45 (by decide) (by omega) ?_ ?_ | refine jw_if_ne (pc := 45) (tgt := 52) dX5_refusesMade_45 (by decide) ?_ ?_
        · intro h_45
          refine jw_iconst (pc := 52) dX5_refusesMade_52 ic_0 ?_
          refine jw_ireturn (pc := 53) dX5_refusesMade_53 rfl (rfl) ?_
          refine ⟨?_, rfl⟩
          rw [madeW_s]
          first
            | (rw [h_38, h_45]; rfl)
            | (rw [h_38]; rfl)
        · intro h_45
          refine jw_iconst (pc := 48) dX5_refusesMade_48 ic_2 ?_
          refine jw_goto (pc := 49) (tgt := 53) dX5_refusesMade_49 (by decide) ?_
          refine jw_ireturn (pc := 53) dX5_refusesMade_53 rfl (rfl) ?_
          refine ⟨?_, rfl⟩
          rw [madeW_s]
          first
            | (rw [h_38, h_45]; rfl)
            | (rw [h_38]; rfl)
theorem lp_w45 {M2 M9 : Mm} {d k t n : Nat} {p : Option Nat} {o : Option (Nat × Nat)} {P : Rs → Mm → Prop} (hM : jMm M2 σ) (hp : ∀ b, p = some b → b < 1024) (ho : ∀ q, o = some q → q.1 < 1024 ∧ q.2 ≤ 10) (hn : n < 1024) (hj : jm_I M2 90 86 = wC o)
    (K : ∀ M3, jMm M3 σ → jfm M2 M3 → jm_I M3 90 86 = wC (wstep n p o) → jW G mi_X5_madeOf d M9 12 [some (jr (some 90)), some (.int (nI k)), some (.int (nI t)), some (.int (wI (wstep n p o))), some (.int (nI (n + 1))), none] [] M3 P) :
    jW G mi_X5_madeOf d M9 45 [some (jr (some 90)), some (.int (nI k)), some (.int (nI t)), some (.int (wI o)), some (.int (nI n)), none] [.int (aloneI p)] M2 P := by
  have hS := hM.1
  have hc := cnt_le
  cases p with
  | none =>
    refine jw_istore (pc := 45) dX5_madeOf_45 (Nat.le_of_ble_eq_true rfl) rfl ?_
    try dsimp only [jput1, jput2, jkill, jclr, jis2_i, jis2_l, jis2_rs, jis2_rn, cond]
    refine jw_iload (pc := 47) dX5_madeOf_47 rfl ?_
    refine jw_bipush (pc := 49) dX5_madeOf_49 bp_m2 ?_
    refine jw_icmp_eq (pc := 51) (tgt := 81) dX5_madeOf_51 (by decide) ?_ ?_
    · intro h_51
      first | refine jx_iinc (pc := 81) dX5_madeOf_81 rfl rfl ?_ | refine jw_iinc (pc := 81) dX5_madeOf_81 rfl rfl rfl ?_
      try dsimp only [jput1, jkill, jclr, jis2_i, jis2_l, jis2_rs, jis2_rn, cond]
      refine jw_goto (pc := 84) (tgt := 12) dX5_madeOf_84 (by decide) ?_
      refine jW.sub ?_ (K M2 hM jsm.rf hj)
      exact ⟨rfl, rfl, rfl, rfl, rfl, trivial⟩
    · intro h_51
      exact absurd rfl h_51
  | some b =>
    have hb := hp b rfl
    have hc1 := hc b
    cases o with
    | none =>
      refine jw_istore (pc := 45) dX5_madeOf_45 (Nat.le_of_ble_eq_true rfl) rfl ?_
      try dsimp only [jput1, jput2, jkill, jclr, jis2_i, jis2_l, jis2_rs, jis2_rn, cond]
      refine jw_iload (pc := 47) dX5_madeOf_47 rfl ?_
      refine jw_bipush (pc := 49) dX5_madeOf_49 bp_m2 ?_
      refine jw_icmp_eq (pc := 51) (tgt := 81) dX5_madeOf_51 (by decide) ?_ ?_
      · intro h_51
        exact absurd h_51 (nI_m2 (by omega))
      · intro h_51
        refine jw_iload_n (pc := 54) dX5_madeOf_54 rfl ?_
        refine jw_bipush (pc := 55) dX5_madeOf_55 bp_m2 ?_
        refine jw_icmp_eq (pc := 57) (tgt := 72) dX5_madeOf_57 (by decide) ?_ ?_
        · intro h_57
          refine jw_iload (pc := 72) dX5_madeOf_72 rfl ?_
          refine jw_istore_n (pc := 74) dX5_madeOf_74 (Nat.le_of_ble_eq_true rfl) rfl ?_
          try dsimp only [jput1, jput2, jkill, jclr, jis2_i, jis2_l, jis2_rs, jis2_rn, cond]
          refine jw_aload_n (pc := 75) dX5_madeOf_75 rfl ?_
          refine jw_iload (pc := 76) dX5_madeOf_76 rfl ?_
          refine jx_putI (pc := 78) jf_X5_546_4 rfl dX5_madeOf_78 rfl rfl (is_90 hS) (by decide) ?_
          first | refine jx_iinc (pc := 81) dX5_madeOf_81 rfl rfl ?_ | refine jw_iinc (pc := 81) dX5_madeOf_81 rfl rfl rfl ?_
          try dsimp only [jput1, jkill, jclr, jis2_i, jis2_l, jis2_rs, jis2_rn, cond]
          refine jw_goto (pc := 84) (tgt := 12) dX5_madeOf_84 (by decide) ?_
          refine jW.sub ?_ (K (js_I M2 90 86 (nI (cnt b))) (mI hM (by decide)) (jsm.I (by decide)) jI_same)
          exact ⟨rfl, rfl, rfl, rfl, rfl, trivial⟩
        · intro h_57
          exact absurd rfl h_57
    | some q =>
      obtain ⟨hq1, hq2⟩ := ho q rfl
      have e0 : aloneI (some b) = nI (cnt b) := rfl
      rw [e0]
      refine jw_istore (pc := 45) dX5_madeOf_45 (Nat.le_of_ble_eq_true rfl) rfl ?_
      try dsimp only [jput1, jput2, jkill, jclr, jis2_i, jis2_l, jis2_rs, jis2_rn, cond]
      refine jw_iload (pc := 47) dX5_madeOf_47 rfl ?_
      refine jw_bipush (pc := 49) dX5_madeOf_49 bp_m2 ?_
      refine jw_icmp_eq (pc := 51) (tgt := 81) dX5_madeOf_51 (by decide) ?_ ?_
      · intro h_51
        exact absurd h_51 (nI_m2 (by omega))
      · intro h_51
        refine jw_iload_n (pc := 54) dX5_madeOf_54 rfl ?_
        refine jw_bipush (pc := 55) dX5_madeOf_55 bp_m2 ?_
        refine jw_icmp_eq (pc := 57) (tgt := 72) dX5_madeOf_57 (by decide) ?_ ?_
        · intro h_57
          exact absurd h_57 (nI_m2 (by omega))
        · intro h_57
          refine jw_iload (pc := 60) dX5_madeOf_60 rfl ?_
          refine jw_aload_n (pc := 62) dX5_madeOf_62 rfl ?_
          refine jx_getIs (pc := 63) (jf_X5_546_4.r) rfl dX5_madeOf_63 rfl (is_90 hS) (by decide) ((show jm_I M2 90 86 = nI q.2 from hj)) ?_
          first | refine jx_icmp_lt (pc := 66) (tgt := 72) dX5_madeOf_66 (by decide) (by omega) (by omega) ?_ ?_ | refine jw_icmp_lt (pc := 66) (tgt := 72) dX5_madeOf_66 (by decide) ?_ ?_
          · intro h_66
            refine jw_iload (pc := 72) dX5_madeOf_72 rfl ?_
            refine jw_istore_n (pc := 74) dX5_madeOf_74 (Nat.le_of_ble_eq_true rfl) rfl ?_
            try dsimp only [jput1, jput2, jkill, jclr, jis2_i, jis2_l, jis2_rs, jis2_rn, cond]
            refine jw_aload_n (pc := 75) dX5_madeOf_75 rfl ?_
            refine jw_iload (pc := 76) dX5_madeOf_76 rfl ?_
            refine jx_putI (pc := 78) jf_X5_546_4 rfl dX5_madeOf_78 rfl rfl (is_90 hS) (by decide) ?_
            first | refine jx_iinc (pc := 81) dX5_madeOf_81 rfl rfl ?_ | refine jw_iinc (pc := 81) dX5_madeOf_81 rfl rfl rfl ?_
            try dsimp only [jput1, jkill, jclr, jis2_i, jis2_l, jis2_rs, jis2_rn, cond]
            refine jw_goto (pc := 84) (tgt := 12) dX5_madeOf_84 (by decide) ?_
            first
              | (have e : wstep n (some b) (some q) = some (n, cnt b) := if_pos h_66
                 rw [e] at K
                 refine jW.sub ?_ (K (js_I M2 90 86 (nI (cnt b))) (mI hM (by decide)) (jsm.I (by decide)) jI_same)
                 exact ⟨rfl, rfl, rfl, rfl, rfl, trivial⟩)
              | (have e : wstep n (some b) (some q) = some q := if_neg (by omega)
                 rw [e] at K
                 refine jW.sub ?_ (K M2 hM jsm.rf hj)
                 exact ⟨rfl, rfl, rfl, rfl, rfl, trivial⟩)
          · intro h_66
            refine jw_goto (pc := 69) (tgt := 81) dX5_madeOf_69 (by decide) ?_
            first | refine jx_iinc (pc := 81) dX5_madeOf_81 rfl rfl ?_ | refine jw_iinc (pc := 81) dX5_madeOf_81 rfl rfl rfl ?_
            try dsimp only [jput1, jkill, jclr, jis2_i, jis2_l, jis2_rs, jis2_rn, cond]
            refine jw_goto (pc := 84) (tgt := 12) dX5_madeOf_84 (by decide) ?_
            first
              | (have e : wstep n (some b) (some q) = some (n, cnt b) := if_pos h_66
                 rw [e] at K
                 refine jW.sub ?_ (K (js_I M2 90 86 (nI (cnt b))) (mI hM (by decide)) (jsm.I (by decide)) jI_same)
                 exact ⟨rfl, rfl, rfl, rfl, rfl, trivial⟩)
              | (have e : wstep n (some b) (some q) = some q := if_neg (by omega)
                 rw [e] at K
                 refine jW.sub ?_ (K M2 hM jsm.rf hj)
                 exact ⟨rfl, rfl, rfl, rfl, rfl, trivial⟩)
theorem t_X5_madeOf {k t : Nat} {V : Vt} (h : jMm M σ) (hv9 : sv σ = some V) (hk : k ≤ 3) (ht : t < 2 ^ 30) : jT G mi_X5_madeOf 8 [jr (some 90), .int (nI k), .int (nI t)] M (jPi (fun r M' => r = wI (madeO V t k) ∧ jMm M' σ ∧ jfm M M' ∧ jm_I M' 90 86 = wC (madeO V t k))) := by
  have hS := h.1
  have hw9 := (h.2.1.2 V hv9).1
  have hnw := wf_nw hw9
  have hpw : 2 ^ V 0 3 ≤ 1024 := p10 hnw
  have hc := cnt_le
  refine jT.of (by decide) rfl (Nat.le_of_ble_eq_true rfl) ?_
  have J : ∀ x : Nat × Mm, (x.1 ≤ 2 ^ V 0 3 ∧ jMm x.2 σ ∧ jfm M x.2 ∧ jm_I x.2 90 86 = wC (wbest V (rangeV V t) k x.1)) → jW G mi_X5_madeOf 8 M 12 [some (jr (some 90)), some (.int (nI k)), some (.int (nI t)), some (.int (wI (wbest V (rangeV V t) k x.1))), some (.int (nI x.1)), none] [] x.2 (jPi (fun r M' => r = wI (madeO V t k) ∧ jMm M' σ ∧ jfm M M' ∧ jm_I M' 90 86 = wC (madeO V t k))) := by
    refine jW.loop (σ := Nat × Mm) _ (fun x => 2 ^ V 0 3 - x.1) _ (fun _ => []) (fun x => x.2) (fun x hI ih => ?_)
    obtain ⟨n, M1⟩ := x
    obtain ⟨hn, hM, hf, hj⟩ := hI
    dsimp only at hn hM hf hj ih ⊢
    have hS := hM.1
    obtain ⟨w, hs, hN⟩ := hM.so hv9
    have hw := hs.s
    by_cases hkn : n < 2 ^ V 0 3
    · have hcn := hc n
      have ht1 : cnt n = k → wbest V (rangeV V t) k (n + 1) = wstep n (postO V (seesS V (rangeV V t) n 0) (2 ^ V 0 0 - 1)) (wbest V (rangeV V t) k n) := fun e => by rw [wbest_s, if_pos e]
      refine jw_iload (pc := 12) dX5_madeOf_12 rfl ?_
      refine jw_iconst (pc := 14) dX5_madeOf_14 ic_1 ?_
      refine jw_aload_n (pc := 15) dX5_madeOf_15 rfl ?_
      refine jx_getRs (pc := 16) (jf_X5_380_4.r) rfl dX5_madeOf_16 rfl (is_90 hS) (by decide) (hs.r) ?_
      refine jx_getIs (pc := 19) (jf_X5_289_12.r) rfl dX5_madeOf_19 rfl (wis hw) (by decide) (mi_nw hs.V) ?_
      refine jw_ishl (pc := 22) dX5_madeOf_22 ?_
      rw [shl1 (by omega)]
      first | refine jx_icmp_ge (pc := 23) (tgt := 87) dX5_madeOf_23 (by decide) (by omega) (by omega) ?_ ?_ | refine jw_icmp_ge (pc := 23) (tgt := 87) dX5_madeOf_23 (by decide) ?_ ?_
      · intro h_23
        omega
      · intro h_23
        refine jw_iload (pc := 26) dX5_madeOf_26 rfl ?_
        refine jx_cSE (mi1 := mi_X5_bits) (pc := 28) rfl dX5_madeOf_28 lk_X5_461 rfl fi_X5_bits (t_X5_bits (by omega)) (by first | decide | omega) rfl rfl (by decide) ?_
        refine jw_iload_n (pc := 31) dX5_madeOf_31 rfl ?_
        first | refine jx_icmp_eq (pc := 32) (tgt := 38) dX5_madeOf_32 (by decide) (by omega) (by omega) ?_ ?_ | refine jw_icmp_eq (pc := 32) (tgt := 38) dX5_madeOf_32 (by decide) ?_ ?_
        · intro h_32
          refine jw_aload_n (pc := 38) dX5_madeOf_38 rfl ?_
          refine jw_iload (pc := 39) dX5_madeOf_39 rfl ?_
          refine jw_iload_n (pc := 41) dX5_madeOf_41 rfl ?_
          refine jx_cVi (mi1 := mi_X5_postsWithout) (pc := 42) rfl dX5_madeOf_42 lk_X5_549 rfl fi_X5_postsWithout rfl rfl rfl (by decide) (is_90 hS) (t_X5_postsWithout hM hv9 (by omega) ht) (by first | decide | omega) rfl rfl (by decide) ?_
          intro x_42 M_42 q_42
          obtain ⟨e1, hM2, hf2, hj2⟩ := q_42
          subst e1
          refine lp_w45 hM2 (fun b hb => postO_lt hw9 hb) (fun q hq => by have := wbest_lt hq; omega) (by omega) (hj2.trans hj) (fun M3 q1 q2 q3 => ?_)
          rw [← ht1 h_32] at q3 ⊢
          exact ih (n + 1, M3) ⟨hkn, q1, hf.tr (hf2.tr q2), q3⟩ (by dsimp only; omega)
        · intro h_32
          refine jw_goto (pc := 35) (tgt := 81) dX5_madeOf_35 (by decide) ?_
          first | refine jx_iinc (pc := 81) dX5_madeOf_81 rfl rfl ?_ | refine jw_iinc (pc := 81) dX5_madeOf_81 rfl rfl rfl ?_
          try dsimp only [jput1, jkill, jclr, jis2_i, jis2_l, jis2_rs, jis2_rn, cond]
          refine jw_goto (pc := 84) (tgt := 12) dX5_madeOf_84 (by decide) ?_
          have e : wbest V (rangeV V t) k (n + 1) = wbest V (rangeV V t) k n := by rw [wbest_s, if_neg h_32]
          have ih2 := ih (n + 1, M1) ⟨hkn, hM, hf, by dsimp only; rw [e]; exact hj⟩ (by dsimp only; omega)
          dsimp only at ih2
          rw [e] at ih2
          exact ih2
    · have hk' : n = 2 ^ V 0 3 := by omega
      subst hk'
      refine jw_iload (pc := 12) dX5_madeOf_12 rfl ?_
      refine jw_iconst (pc := 14) dX5_madeOf_14 ic_1 ?_
      refine jw_aload_n (pc := 15) dX5_madeOf_15 rfl ?_
      refine jx_getRs (pc := 16) (jf_X5_380_4.r) rfl dX5_madeOf_16 rfl (is_90 hS) (by decide) (hs.r) ?_
      refine jx_getIs (pc := 19) (jf_X5_289_12.r) rfl dX5_madeOf_19 rfl (wis hw) (by decide) (mi_nw hs.V) ?_
      refine jw_ishl (pc := 22) dX5_madeOf_22 ?_
      rw [shl1 (by omega)]
      first | refine jx_icmp_ge (pc := 23) (tgt := 87) dX5_madeOf_23 (by decide) (by omega) (by omega) ?_ ?_ | refine jw_icmp_ge (pc := 23) (tgt := 87) dX5_madeOf_23 (by decide) ?_ ?_
      · intro h_23
        refine jw_iload_n (pc := 87) dX5_madeOf_87 rfl ?_
        refine jw_ireturn (pc := 88) dX5_madeOf_88 rfl (rfl) ?_
        exact ⟨_, rfl, rfl, hM, hf, hj⟩
      · intro h_23
        omega
  refine jw_bipush (pc := 0) dX5_madeOf_0 bp_m2 ?_
  refine jw_istore_n (pc := 2) dX5_madeOf_2 (Nat.le_of_ble_eq_true rfl) rfl ?_
  try dsimp only [jput1, jput2, jkill, jclr, jis2_i, jis2_l, jis2_rs, jis2_rn, cond]
  refine jw_aload_n (pc := 3) dX5_madeOf_3 rfl ?_
  refine jw_bipush (pc := 4) dX5_madeOf_4 bp_m2 ?_
  refine jx_putI (pc := 6) jf_X5_546_4 rfl dX5_madeOf_6 rfl rfl (is_90 hS) (by decide) ?_
  refine jw_iconst (pc := 9) dX5_madeOf_9 ic_0 ?_
  refine jw_istore (pc := 10) dX5_madeOf_10 (Nat.le_of_ble_eq_true rfl) rfl ?_
  try dsimp only [jput1, jput2, jkill, jclr, jis2_i, jis2_l, jis2_rs, jis2_rn, cond]
  refine jW.sub ?_ (J (0, js_I M 90 86 (-2)) ⟨Nat.zero_le _, mI h (by decide), jsm.I (by decide), jI_same⟩)
  exact ⟨rfl, rfl, rfl, rfl, rfl, trivial⟩
theorem t_X5_made {p t : Int32} (h : jMm M σ) : jT G mi_X5_made 9 [jr (some 90), .int p, .int t] M (jQm M σ (q_made σ p t)) := by
  have hS := h.1
  refine jT.of (by decide) rfl (Nat.le_of_ble_eq_true rfl) ?_
  refine jw_aload_n (pc := 0) dX5_made_0 rfl ?_
  refine jw_iconst (pc := 1) dX5_made_1 ic_0 ?_
  refine jx_putI (pc := 2) jf_X5_56_4 rfl dX5_made_2 rfl rfl (is_90 hS) (by decide) ?_
  have hM := mthr (x := nI 0) h
  have hf : jfm M (js_I M 90 49 (nI 0)) := jsm.I (by decide)
  generalize js_I M 90 49 (nI 0) = M0 at hM hf ⊢
  clear hS
  have hS := hM.1
  refine jw_aload_n (pc := 5) dX5_made_5 rfl ?_
  refine jw_iload_n (pc := 6) dX5_made_6 rfl ?_
  refine jw_iload_n (pc := 7) dX5_made_7 rfl ?_
  refine jx_cVE (mi1 := mi_X5_refusesMade) (pc := 8) rfl dX5_made_8 lk_X5_552 rfl fi_X5_refusesMade rfl rfl rfl (by decide) (is_90 hS) (t_X5_refusesMade (o := sv σ) hM rfl) (by first | decide | omega) rfl rfl (by decide) ?_
  refine jw_istore_n (pc := 11) dX5_made_11 (Nat.le_of_ble_eq_true rfl) rfl ?_
  try dsimp only [jput1, jput2, jkill, jclr, jis2_i, jis2_l, jis2_rs, jis2_rn, cond]
  refine jw_iload_n (pc := 12) dX5_made_12 rfl ?_
  refine jw_if_le (pc := 13) (tgt := 24) dX5_made_13 (by decide) ?_ ?_
  · intro h_13
    have h_13 := wc_le (madeW_c _ _ _) h_13
    obtain ⟨V, kp, kt, hv9, hkp, rfl, hkt, rfl⟩ := madeW_0 h_13
    refine jw_aload_n (pc := 24) dX5_made_24 rfl ?_
    refine jw_aload_n (pc := 25) dX5_made_25 rfl ?_
    refine jw_iload_n (pc := 26) dX5_made_26 rfl ?_
    refine jw_iload_n (pc := 27) dX5_made_27 rfl ?_
    refine jx_cVi (mi1 := mi_X5_madeOf) (pc := 28) rfl dX5_made_28 lk_X5_555 rfl fi_X5_madeOf rfl rfl rfl (by decide) (is_90 hS) (t_X5_madeOf (V := V) hM hv9 hkp.1 (by omega)) (by first | decide | omega) rfl rfl (by simp only [List.map_cons, List.map_nil, List.sum_cons, List.sum_nil, cat_i, cat_l, jr_cat]; decide) ?_
    intro x_28 M_28 q_28
    obtain ⟨e1, hM2, hf2, hj2⟩ := q_28
    subst e1
    have hS := hM2.1
    refine jw_iconst (pc := 31) dX5_made_31 ic_0 ?_
    refine jx_cVi (mi1 := mi_X5_told) (pc := 32) rfl dX5_made_32 lk_X5_66 rfl fi_X5_told rfl rfl rfl (by decide) (is_90 hS) (t_X5_told0 hM2) (by first | decide | omega) rfl rfl (by decide) ?_
    intro x_32 M_32 q_32
    refine jw_ireturn (pc := 35) dX5_made_35 rfl (rfl) ?_
    first
      | (refine qm ?_ hf q_18; unfold q_made; rw [if_neg (fun e => h_13 (by rw [e]; decide +kernel))]; done)
      | (refine qm ?_ (hf.tr hf2) q_32; unfold q_made; rw [if_pos h_13, vv_s hv9, iN_n (by omega), iN_n (by omega)])
  · intro h_13
    refine jw_aload_n (pc := 16) dX5_made_16 rfl ?_
    refine jw_iload_n (pc := 17) dX5_made_17 rfl ?_
    refine jx_cVi (mi1 := mi_X5_refused) (pc := 18) rfl dX5_made_18 lk_X5_62 rfl fi_X5_refused rfl rfl rfl (by decide) (is_90 hS) (t_X5_refused hM) (by first | decide | omega) rfl rfl (by decide) ?_
    intro x_18 M_18 q_18
    refine jw_goto (pc := 21) (tgt := 35) dX5_made_21 (by decide) ?_
    refine jw_ireturn (pc := 35) dX5_made_35 rfl (rfl) ?_
    first
      | (refine qm ?_ hf q_18; unfold q_made; rw [if_neg (fun e => h_13 (by rw [e]; decide +kernel))]; done)
      | (refine qm ?_ (hf.tr hf2) q_32; unfold q_made; rw [if_pos h_13, vv_s hv9, iN_n (by omega), iN_n (by omega)])
theorem t_X5_needs {p t : Int32} (h : jMm M σ) : jT G mi_X5_needs 9 [jr (some 90), .int p, .int t] M (jQm M σ (q_needs σ p t)) := by
  have hS := h.1
  refine jT.of (by decide) rfl (Nat.le_of_ble_eq_true rfl) ?_
  refine jw_aload_n (pc := 0) dX5_needs_0 rfl ?_
  refine jw_iconst (pc := 1) dX5_needs_1 ic_0 ?_
  refine jx_putI (pc := 2) jf_X5_56_4 rfl dX5_needs_2 rfl rfl (is_90 hS) (by decide) ?_
  have hM := mthr (x := nI 0) h
  have hf : jfm M (js_I M 90 49 (nI 0)) := jsm.I (by decide)
  generalize js_I M 90 49 (nI 0) = M0 at hM hf ⊢
  clear hS
  have hS := hM.1
  refine jw_aload_n (pc := 5) dX5_needs_5 rfl ?_
  refine jw_iload_n (pc := 6) dX5_needs_6 rfl ?_
  refine jw_iload_n (pc := 7) dX5_needs_7 rfl ?_
  refine jx_cVE (mi1 := mi_X5_refusesMade) (pc := 8) rfl dX5_needs_8 lk_X5_552 rfl fi_X5_refusesMade rfl rfl rfl (by decide) (is_90 hS) (t_X5_refusesMade (o := sv σ) hM rfl) (by first | decide | omega) rfl rfl (by decide) ?_
  refine jw_istore_n (pc := 11) dX5_needs_11 (Nat.le_of_ble_eq_true rfl) rfl ?_
  try dsimp only [jput1, jput2, jkill, jclr, jis2_i, jis2_l, jis2_rs, jis2_rn, cond]
  refine jw_iload_n (pc := 12) dX5_needs_12 rfl ?_
  refine jw_if_le (pc := 13) (tgt := 22) dX5_needs_13 (by decide) ?_ ?_
  · intro h_13
    have h_13 := wc_le (madeW_c _ _ _) h_13
    obtain ⟨V, kp, kt, hv9, hkp, rfl, hkt, rfl⟩ := madeW_0 h_13
    refine jw_aload_n (pc := 22) dX5_needs_22 rfl ?_
    refine jw_iload_n (pc := 23) dX5_needs_23 rfl ?_
    refine jw_iload_n (pc := 24) dX5_needs_24 rfl ?_
    refine jx_cVi (mi1 := mi_X5_madeOf) (pc := 25) rfl dX5_needs_25 lk_X5_555 rfl fi_X5_madeOf rfl rfl rfl (by decide) (is_90 hS) (t_X5_madeOf (V := V) hM hv9 hkp.1 (by omega)) (by first | decide | omega) rfl rfl (by decide) ?_
    intro x_25 M_25 q_25
    obtain ⟨e1, hM2, hf2, hj2⟩ := q_25
    subst e1
    have hS := hM2.1
    refine jw_pop (pc := 28) dX5_needs_28 (rfl) ?_
    refine jw_aload_n (pc := 29) dX5_needs_29 rfl ?_
    refine jw_aload_n (pc := 30) dX5_needs_30 rfl ?_
    refine jx_getIs (pc := 31) (jf_X5_546_4.r) rfl dX5_needs_31 rfl (is_90 hS) (by decide) (hj2) ?_
    refine jw_iconst (pc := 34) dX5_needs_34 ic_0 ?_
    refine jx_cVi (mi1 := mi_X5_told) (pc := 35) rfl dX5_needs_35 lk_X5_66 rfl fi_X5_told rfl rfl rfl (by decide) (is_90 hS) (t_X5_told0 hM2) (by first | decide | omega) rfl rfl (by decide) ?_
    intro x_35 M_35 q_35
    refine jw_ireturn (pc := 38) dX5_needs_38 rfl (rfl) ?_
    refine qm ?_ (hf.tr hf2) q_35
    unfold q_needs; rw [if_pos h_13, vv_s hv9, iN_n (by omega), iN_n (by omega)]
  · intro h_13
    refine jw_aload_n (pc := 16) dX5_needs_16 rfl ?_
    refine jw_iload_n (pc := 17) dX5_needs_17 rfl ?_
    refine jx_cVi (mi1 := mi_X5_refused) (pc := 18) rfl dX5_needs_18 lk_X5_62 rfl fi_X5_refused rfl rfl rfl (by decide) (is_90 hS) (t_X5_refused hM) (by first | decide | omega) rfl rfl (by decide) ?_
    intro x_18 M_18 q_18
    refine jw_ireturn (pc := 21) dX5_needs_21 rfl (rfl) ?_
    refine qm ?_ hf q_18
    unfold q_needs; rw [if_neg (fun e => h_13 (by rw [e]; decide +kernel))]
end JMMD
