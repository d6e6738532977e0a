/-! ===== the best of sets; who may sleep ===== -/
def optI (o : Option Nat) : Int32 := match o with
  | none => -2
  | some s => nI s
def bestM (n : Nat) (f : Nat → Option Nat → Bool) : Option Nat := match n with
  | 0 => none
  | n + 1 => if f n (bestM n f) then some n else bestM n f
theorem bestM_s (n : Nat) (f : Nat → Option Nat → Bool) : bestM (n + 1) f = if f n (bestM n f) then some n else bestM n f := rfl
theorem bestM_lt {n : Nat} {f : Nat → Option Nat → Bool} {b : Nat} (h : bestM n f = some b) : b < n := by
  induction n with
  | zero => cases h
  | succ n ih =>
    rw [bestM_s] at h
    split at h
    · cases h; omega
    · have := ih h; omega
theorem nI_m2 {n : Nat} (h : n < 2 ^ 31) : nI n ≠ -2 := fun q => by
  have q := congrArg Int32.toInt q
  rw [nI_toInt h] at q
  have : ((-2 : Int32)).toInt = -2 := by decide +kernel
  omega
def sleepF (V : Vt) (pl : Nat → Nat) (t : Nat) (s : Nat) (o : Option Nat) : Bool := lawB V pl (eyesS V t s) (seesS V (rangeV V t) 0 0) && (match o with | none => true | some b => decide (cnt b < cnt s))
def q_sleepers (σ : Sg) (t : Int32) : Int32 × Int32 := if stepW (sv σ) t = 0 then (optI (bestM (2 ^ (vv σ 0 1)) (sleepF (vv σ) (sa σ 0) (iN t))), 0) else (-1, stepW (sv σ) t)
section JB
variable {G : Gh} {M : Mm} {σ : Sg}
theorem t_X5_bits {s0 : Nat} (hs : s0 < 1024) : jE G mi_X5_bits 1 [.int (nI s0)] M (some (.int (nI (cnt s0)))) M := by
  refine jE.of (by decide) rfl (Nat.le_of_ble_eq_true rfl) ?_
  have J : ∀ x : Nat × Nat, (x.1 < 1024 ∧ x.2 + cnt x.1 = cnt s0) → jW G mi_X5_bits 1 M 4 [some (.int (nI s0)), some (.int (nI x.2)), some (.int (nI x.1))] [] M (fun r M' => r = .inl (some (.int (nI (cnt s0)))) ∧ M' = M) := by
    refine jW.loop _ (fun x => x.1) _ (fun _ => []) (fun _ => M) (fun x hI ih => ?_)
    obtain ⟨s, n⟩ := x
    obtain ⟨h1, h2⟩ := hI
    dsimp only at h1 h2 ⊢
    have h3 := cnt_le s0
    refine jw_iload_n (pc := 4) dX5_bits_4 rfl ?_
    first | refine jx_ifb_eq (pc := 5) (tgt := 20) dX5_bits_5 (by decide) ?_ ?_ | refine jx_if_eq (pc := 5) (tgt := 20) dX5_bits_5 (by decide) (by omega) ?_ ?_ | refine jw_if_eq (pc := 5) (tgt := 20) dX5_bits_5 (by decide) ?_ ?_
    · intro h_5
      refine jw_iload_n (pc := 20) dX5_bits_20 rfl ?_
      refine jw_ireturn (pc := 21) dX5_bits_21 rfl (rfl) ?_
      subst h_5; rw [cnt_0] at h2; exact ⟨by rw [← h2]; rfl, rfl⟩
    · intro h_5
      have h4 := cnt_step s h1 h_5
      first | refine jx_iinc (pc := 8) dX5_bits_8 rfl rfl ?_ | refine jw_iinc (pc := 8) dX5_bits_8 rfl rfl rfl ?_
      try dsimp only [jput1, jkill, jclr, jis2_i, jis2_l, jis2_rs, jis2_rn, cond]
      refine jw_iload_n (pc := 11) dX5_bits_11 rfl ?_
      refine jw_iload_n (pc := 12) dX5_bits_12 rfl ?_
      refine jw_iconst (pc := 13) dX5_bits_13 ic_1 ?_
      refine jw_isub (pc := 14) dX5_bits_14 ?_
      rw [show nI s - nI 1 = nI (s - 1) from pk_sub (by omega)]
      refine jw_iand (pc := 15) dX5_bits_15 ?_
      rw [nI_and']
      refine jw_istore_n (pc := 16) dX5_bits_16 (Nat.le_of_ble_eq_true rfl) rfl ?_
      try dsimp only [jput1, jput2, jkill, jclr, jis2_i, jis2_l, jis2_rs, jis2_rn, cond]
      refine jw_goto (pc := 17) (tgt := 4) dX5_bits_17 (by decide) ?_
      exact ih (s &&& (s - 1), n + 1) (by dsimp only; omega) h4.2
  refine jw_iconst (pc := 0) dX5_bits_0 ic_0 ?_
  refine jw_istore_n (pc := 1) dX5_bits_1 (Nat.le_of_ble_eq_true rfl) rfl ?_
  try dsimp only [jput1, jput2, jkill, jclr, jis2_i, jis2_l, jis2_rs, jis2_rn, cond]
  refine jw_iload_n (pc := 2) dX5_bits_2 rfl ?_
  refine jw_istore_n (pc := 3) dX5_bits_3 (Nat.le_of_ble_eq_true rfl) rfl ?_
  try dsimp only [jput1, jput2, jkill, jclr, jis2_i, jis2_l, jis2_rs, jis2_rn, cond]
  exact J (s0, 0) (by dsimp only; omega)
theorem lp_sl {M9 : Mm} {v kt k : Nat} {V : Vt} {P : Rs → Mm → Prop} (hX : jXx M (sgT σ 0 (-1))) (hs : jXs M v V) (hN : jXn M V (sgT σ 0 (-1))) (hv : jVs M v) (ho : jSo σ) (hv9 : sv σ = some V) (hkt : kt < 200) (hkn : k < 2 ^ V 0 1) (ih : jW G mi_X1_sleepers 9 M9 26 [some (jr (some 64)), some (.int (nI kt)), none, some (.int (optI (bestM (k + 1) (sleepF V (sa σ 0) kt)))), some (.int (nI (k + 1)))] [] M P) : jW G mi_X1_sleepers 9 M9 26 [some (jr (some 64)), some (.int (nI kt)), none, some (.int (optI (bestM k (sleepF V (sa σ 0) kt)))), some (.int (nI k))] [] M P := by
  have hS := hX.1
  have hn := wf_nq hs.w
  have hpw : 2 ^ V 0 1 ≤ 32 := Nat.pow_le_pow_right (n := 2) (by decide) hn
  have he : eyesS V kt k < 32 := msk5 (wf_nq hs.w) _
  have hbl : ∀ b, bestM k (sleepF V (sa σ 0) kt) = some b → b < 32 := fun b q => by have := bestM_lt q; omega
  have hc := cnt_le
  cases hb : bestM k (sleepF V (sa σ 0) kt) with
  | none =>
    refine jw_iload (pc := 26) dX1_sleepers_26 rfl ?_
    refine jw_iconst (pc := 28) dX1_sleepers_28 ic_1 ?_
    refine jw_aload_n (pc := 29) dX1_sleepers_29 rfl ?_
    refine jx_getRs (pc := 30) (jf_X1_109_0.r) rfl dX1_sleepers_30 rfl (is_64 hS) (by decide) (hs.r) ?_
    refine jx_getIs (pc := 33) (jf_X1_137_5.r) rfl dX1_sleepers_33 rfl (vis hv) (by decide) (xi_nq hs.V) ?_
    refine jw_ishl (pc := 36) dX1_sleepers_36 ?_
    rw [shl1 (by omega)]
    first | refine jx_icmp_ge (pc := 37) (tgt := 90) dX1_sleepers_37 (by decide) (by omega) (by omega) ?_ ?_ | refine jw_icmp_ge (pc := 37) (tgt := 90) dX1_sleepers_37 (by decide) ?_ ?_
    · intro h_37
      omega
    · intro h_37
      refine jw_iload_n (pc := 40) dX1_sleepers_40 rfl ?_
      refine jw_bipush (pc := 41) dX1_sleepers_41 bp_m2 ?_
      refine jw_icmp_eq (pc := 43) (tgt := 58) dX1_sleepers_43 (by decide) ?_ ?_
      · intro h_43
        refine jw_aload_n (pc := 58) dX1_sleepers_58 rfl ?_
        refine jw_aload_n (pc := 59) dX1_sleepers_59 rfl ?_
        refine jx_getRs (pc := 60) (jf_X1_39_0.r) rfl dX1_sleepers_60 rfl (is_64 hS) (by decide) (sr_64_10 hS) ?_
        refine jw_aload_n (pc := 63) dX1_sleepers_63 rfl ?_
        refine jw_iload_n (pc := 64) dX1_sleepers_64 rfl ?_
        refine jw_iload (pc := 65) dX1_sleepers_65 rfl ?_
        refine jx_cVE (mi1 := mi_X1_watching) (pc := 67) rfl dX1_sleepers_67 lk_X1_210 rfl fi_X1_watching rfl rfl rfl (by decide) (is_64 hS) (t_X1_watching (t := kt) (but := k) hs (by omega) (by omega)) (by first | decide | omega) rfl rfl (by simp only [List.map_cons, List.map_nil, List.sum_cons, List.sum_nil, cat_i, cat_l, jr_cat]; decide) ?_
        refine jw_aload_n (pc := 70) dX1_sleepers_70 rfl ?_
        refine jw_iload_n (pc := 71) dX1_sleepers_71 rfl ?_
        refine jx_cVE (mi1 := mi_X1_sight) (pc := 72) rfl dX1_sleepers_72 lk_X1_166 rfl fi_X1_sight rfl rfl rfl (by decide) (is_64 hS) (t_X1_sight (t := kt) hs (by omega)) (by first | decide | omega) rfl rfl (by simp only [List.map_cons, List.map_nil, List.sum_cons, List.sum_nil, cat_i, cat_l, jr_cat]; decide) ?_
        refine jx_cVE (mi1 := mi_X1_isLawful) (pc := 75) rfl dX1_sleepers_75 lk_X1_214 rfl fi_X1_isLawful rfl rfl rfl (by decide) (is_64 hS) (t_X1_isLawful hs (r_at hS ho hv9 hN) (sgt_sr hs kt) (by omega)) (by first | decide | omega) rfl rfl (by decide) ?_
        first | refine jx_ifb_eq (pc := 78) (tgt := 84) dX1_sleepers_78 (by decide) ?_ ?_ | refine jx_if_eq (pc := 78) (tgt := 84) dX1_sleepers_78 (by decide) (by omega) ?_ ?_ | refine jw_if_eq (pc := 78) (tgt := 84) dX1_sleepers_78 (by decide) ?_ ?_
        · intro h_78
          first | refine jx_iinc (pc := 84) dX1_sleepers_84 rfl rfl ?_ | refine jw_iinc (pc := 84) dX1_sleepers_84 rfl rfl rfl ?_
          try dsimp only [jput1, jkill, jclr, jis2_i, jis2_l, jis2_rs, jis2_rn, cond]
          refine jw_goto (pc := 87) (tgt := 26) dX1_sleepers_87 (by decide) ?_
          refine jW.eq ?_ rfl rfl ih
          rw [bestM_s, hb]
          first
            | (rw [show sleepF V (sa σ 0) kt k none = true by unfold sleepF; rw [h_78]; rfl]; rfl)
            | (rw [show sleepF V (sa σ 0) kt k none = false by unfold sleepF; rw [h_78]; rfl]; rfl)
        · intro h_78
          refine jw_iload (pc := 81) dX1_sleepers_81 rfl ?_
          refine jw_istore_n (pc := 83) dX1_sleepers_83 (Nat.le_of_ble_eq_true rfl) rfl ?_
          try dsimp only [jput1, jput2, jkill, jclr, jis2_i, jis2_l, jis2_rs, jis2_rn, cond]
          first | refine jx_iinc (pc := 84) dX1_sleepers_84 rfl rfl ?_ | refine jw_iinc (pc := 84) dX1_sleepers_84 rfl rfl rfl ?_
          try dsimp only [jput1, jkill, jclr, jis2_i, jis2_l, jis2_rs, jis2_rn, cond]
          refine jw_goto (pc := 87) (tgt := 26) dX1_sleepers_87 (by decide) ?_
          refine jW.eq ?_ rfl rfl ih
          rw [bestM_s, hb]
          first
            | (rw [show sleepF V (sa σ 0) kt k none = true by unfold sleepF; rw [h_78]; rfl]; rfl)
            | (rw [show sleepF V (sa σ 0) kt k none = false by unfold sleepF; rw [h_78]; rfl]; rfl)
      · intro h_43
        exact absurd rfl h_43
  | some b =>
    have hb9 := hbl b hb
    have hc1 := hc b
    have hc2 := hc k
    refine jw_iload (pc := 26) dX1_sleepers_26 rfl ?_
    refine jw_iconst (pc := 28) dX1_sleepers_28 ic_1 ?_
    refine jw_aload_n (pc := 29) dX1_sleepers_29 rfl ?_
    refine jx_getRs (pc := 30) (jf_X1_109_0.r) rfl dX1_sleepers_30 rfl (is_64 hS) (by decide) (hs.r) ?_
    refine jx_getIs (pc := 33) (jf_X1_137_5.r) rfl dX1_sleepers_33 rfl (vis hv) (by decide) (xi_nq hs.V) ?_
    refine jw_ishl (pc := 36) dX1_sleepers_36 ?_
    rw [shl1 (by omega)]
    first | refine jx_icmp_ge (pc := 37) (tgt := 90) dX1_sleepers_37 (by decide) (by omega) (by omega) ?_ ?_ | refine jw_icmp_ge (pc := 37) (tgt := 90) dX1_sleepers_37 (by decide) ?_ ?_
    · intro h_37
      omega
    · intro h_37
      refine jw_iload_n (pc := 40) dX1_sleepers_40 rfl ?_
      refine jw_bipush (pc := 41) dX1_sleepers_41 bp_m2 ?_
      refine jw_icmp_eq (pc := 43) (tgt := 58) dX1_sleepers_43 (by decide) ?_ ?_
      · intro h_43
        exact absurd h_43 (nI_m2 (by omega))
      · intro h_43
        refine jw_iload (pc := 46) dX1_sleepers_46 rfl ?_
        refine jx_cSE (mi1 := mi_X1_ones) (pc := 48) rfl dX1_sleepers_48 lk_X1_273 rfl fi_X1_ones (t_X1_ones (by omega)) (by first | decide | omega) rfl rfl (by decide) ?_
        refine jw_iload_n (pc := 51) dX1_sleepers_51 rfl ?_
        refine jx_cSE (mi1 := mi_X1_ones) (pc := 52) rfl dX1_sleepers_52 lk_X1_273 rfl fi_X1_ones (t_X1_ones (by omega)) (by first | decide | omega) rfl rfl (by simp only [List.map_cons, List.map_nil, List.sum_cons, List.sum_nil, Value.category]; decide) ?_
        first | refine jx_icmp_le (pc := 55) (tgt := 84) dX1_sleepers_55 (by decide) (by omega) (by omega) ?_ ?_ | refine jw_icmp_le (pc := 55) (tgt := 84) dX1_sleepers_55 (by decide) ?_ ?_
        · intro h_55
          first | refine jx_iinc (pc := 84) dX1_sleepers_84 rfl rfl ?_ | refine jw_iinc (pc := 84) dX1_sleepers_84 rfl rfl rfl ?_
          try dsimp only [jput1, jkill, jclr, jis2_i, jis2_l, jis2_rs, jis2_rn, cond]
          refine jw_goto (pc := 87) (tgt := 26) dX1_sleepers_87 (by decide) ?_
          refine jW.eq ?_ rfl rfl ih
          rw [bestM_s, hb]
          first
            | (rw [show sleepF V (sa σ 0) kt k (some b) = false by (unfold sleepF; simp; omega)]; rfl)
            | (rw [show sleepF V (sa σ 0) kt k (some b) = true by (unfold sleepF; rw [h_78]; simp; omega)]; rfl)
            | (rw [show sleepF V (sa σ 0) kt k (some b) = false by (unfold sleepF; rw [h_78]; rfl)]; rfl)
        · intro h_55
          refine jw_aload_n (pc := 58) dX1_sleepers_58 rfl ?_
          refine jw_aload_n (pc := 59) dX1_sleepers_59 rfl ?_
          refine jx_getRs (pc := 60) (jf_X1_39_0.r) rfl dX1_sleepers_60 rfl (is_64 hS) (by decide) (sr_64_10 hS) ?_
          refine jw_aload_n (pc := 63) dX1_sleepers_63 rfl ?_
          refine jw_iload_n (pc := 64) dX1_sleepers_64 rfl ?_
          refine jw_iload (pc := 65) dX1_sleepers_65 rfl ?_
          refine jx_cVE (mi1 := mi_X1_watching) (pc := 67) rfl dX1_sleepers_67 lk_X1_210 rfl fi_X1_watching rfl rfl rfl (by decide) (is_64 hS) (t_X1_watching (t := kt) (but := k) hs (by omega) (by omega)) (by first | decide | omega) rfl rfl (by simp only [List.map_cons, List.map_nil, List.sum_cons, List.sum_nil, cat_i, cat_l, jr_cat]; decide) ?_
          refine jw_aload_n (pc := 70) dX1_sleepers_70 rfl ?_
          refine jw_iload_n (pc := 71) dX1_sleepers_71 rfl ?_
          refine jx_cVE (mi1 := mi_X1_sight) (pc := 72) rfl dX1_sleepers_72 lk_X1_166 rfl fi_X1_sight rfl rfl rfl (by decide) (is_64 hS) (t_X1_sight (t := kt) hs (by omega)) (by first | decide | omega) rfl rfl (by simp only [List.map_cons, List.map_nil, List.sum_cons, List.sum_nil, cat_i, cat_l, jr_cat]; decide) ?_
          refine jx_cVE (mi1 := mi_X1_isLawful) (pc := 75) rfl dX1_sleepers_75 lk_X1_214 rfl fi_X1_isLawful rfl rfl rfl (by decide) (is_64 hS) (t_X1_isLawful hs (r_at hS ho hv9 hN) (sgt_sr hs kt) (by omega)) (by first | decide | omega) rfl rfl (by decide) ?_
          first | refine jx_ifb_eq (pc := 78) (tgt := 84) dX1_sleepers_78 (by decide) ?_ ?_ | refine jx_if_eq (pc := 78) (tgt := 84) dX1_sleepers_78 (by decide) (by omega) ?_ ?_ | refine jw_if_eq (pc := 78) (tgt := 84) dX1_sleepers_78 (by decide) ?_ ?_
          · intro h_78
            first | refine jx_iinc (pc := 84) dX1_sleepers_84 rfl rfl ?_ | refine jw_iinc (pc := 84) dX1_sleepers_84 rfl rfl rfl ?_
            try dsimp only [jput1, jkill, jclr, jis2_i, jis2_l, jis2_rs, jis2_rn, cond]
            refine jw_goto (pc := 87) (tgt := 26) dX1_sleepers_87 (by decide) ?_
            refine jW.eq ?_ rfl rfl ih
            rw [bestM_s, hb]
            first
              | (rw [show sleepF V (sa σ 0) kt k (some b) = false by (unfold sleepF; simp; omega)]; rfl)
              | (rw [show sleepF V (sa σ 0) kt k (some b) = true by (unfold sleepF; rw [h_78]; simp; omega)]; rfl)
              | (rw [show sleepF V (sa σ 0) kt k (some b) = false by (unfold sleepF; rw [h_78]; rfl)]; rfl)
          · intro h_78
            refine jw_iload (pc := 81) dX1_sleepers_81 rfl ?_
            refine jw_istore_n (pc := 83) dX1_sleepers_83 (Nat.le_of_ble_eq_true rfl) rfl ?_
            try dsimp only [jput1, jput2, jkill, jclr, jis2_i, jis2_l, jis2_rs, jis2_rn, cond]
            first | refine jx_iinc (pc := 84) dX1_sleepers_84 rfl rfl ?_ | refine jw_iinc (pc := 84) dX1_sleepers_84 rfl rfl rfl ?_
            try dsimp only [jput1, jkill, jclr, jis2_i, jis2_l, jis2_rs, jis2_rn, cond]
            refine jw_goto (pc := 87) (tgt := 26) dX1_sleepers_87 (by decide) ?_
            refine jW.eq ?_ rfl rfl ih
            rw [bestM_s, hb]
            first
              | (rw [show sleepF V (sa σ 0) kt k (some b) = false by (unfold sleepF; simp; omega)]; rfl)
              | (rw [show sleepF V (sa σ 0) kt k (some b) = true by (unfold sleepF; rw [h_78]; simp; omega)]; rfl)
              | (rw [show sleepF V (sa σ 0) kt k (some b) = false by (unfold sleepF; rw [h_78]; rfl)]; rfl)
theorem lp_sl2 {M9 : Mm} {v kt : Nat} {V : Vt} {P : Rs → Mm → Prop} {z : Int32} (hX : jXx M (sgT σ 0 (-1))) (hs : jXs M v V) (hv : jVs M v) (ih : P (.inl (some (.int z))) M) : jW G mi_X1_sleepers 9 M9 26 [some (jr (some 64)), some (.int (nI kt)), none, some (.int z), some (.int (nI (2 ^ V 0 1)))] [] M P := by
  have hS := hX.1
  have hn := wf_nq hs.w
  have hpw : 2 ^ V 0 1 ≤ 32 := Nat.pow_le_pow_right (n := 2) (by decide) hn
  refine jw_iload (pc := 26) dX1_sleepers_26 rfl ?_
  refine jw_iconst (pc := 28) dX1_sleepers_28 ic_1 ?_
  refine jw_aload_n (pc := 29) dX1_sleepers_29 rfl ?_
  refine jx_getRs (pc := 30) (jf_X1_109_0.r) rfl dX1_sleepers_30 rfl (is_64 hS) (by decide) (hs.r) ?_
  refine jx_getIs (pc := 33) (jf_X1_137_5.r) rfl dX1_sleepers_33 rfl (vis hv) (by decide) (xi_nq hs.V) ?_
  refine jw_ishl (pc := 36) dX1_sleepers_36 ?_
  rw [shl1 (by omega)]
  first | refine jx_icmp_ge (pc := 37) (tgt := 90) dX1_sleepers_37 (by decide) (by omega) (by omega) ?_ ?_ | refine jw_icmp_ge (pc := 37) (tgt := 90) dX1_sleepers_37 (by decide) ?_ ?_
  · intro h_37
    refine jw_iload_n (pc := 90) dX1_sleepers_90 rfl ?_
    refine jw_ireturn (pc := 91) dX1_sleepers_91 rfl (rfl) ?_
    exact ih
  · intro h_37
    omega
theorem t_X1_sleepers {t : Int32} (h : jXx M σ) : jT G mi_X1_sleepers 9 [jr (some 64), .int t] M (jQx M σ (q_sleepers σ t)) := by
  have hS := h.1
  refine jT.of (by decide) rfl (Nat.le_of_ble_eq_true rfl) ?_
  refine jw_aload_n (pc := 0) dX1_sleepers_0 rfl ?_
  refine jx_cVv (mi1 := mi_X1_anew) (pc := 1) rfl dX1_sleepers_1 lk_X1_84 rfl fi_X1_anew rfl rfl rfl (by decide) (is_64 hS) (t_X1_anew h) (by first | decide | omega) rfl rfl (by decide) ?_
  intro M_1 q_1
  obtain ⟨hX, hf⟩ := q_1
  have hS := hX.1
  refine jw_aload_n (pc := 4) dX1_sleepers_4 rfl ?_
  refine jw_iload_n (pc := 5) dX1_sleepers_5 rfl ?_
  refine jx_cVE (mi1 := mi_X1_stepWhy) (pc := 6) rfl dX1_sleepers_6 lk_X1_176 rfl fi_X1_stepWhy rfl rfl rfl (by decide) (is_64 hS) (t_X1_stepWhy (o := sv σ) hX rfl) (by first | decide | omega) rfl rfl (by decide) ?_
  refine jw_istore_n (pc := 9) dX1_sleepers_9 (Nat.le_of_ble_eq_true rfl) rfl ?_
  try dsimp only [jput1, jput2, jkill, jclr, jis2_i, jis2_l, jis2_rs, jis2_rn, cond]
  refine jw_iload_n (pc := 10) dX1_sleepers_10 rfl ?_
  refine jw_if_eq (pc := 11) (tgt := 20) dX1_sleepers_11 (by decide) ?_ ?_
  · intro h_11
    obtain ⟨V, kt, hv9, hkt, rfl⟩ := stepW_0 h_11
    obtain ⟨v, hs, hN⟩ := hX.so hv9
    have hn := wf_nq hs.w
    have hv := hs.s
    have hpw : 2 ^ V 0 1 ≤ 32 := Nat.pow_le_pow_right (n := 2) (by decide) hn
    have J : ∀ k : Nat, k ≤ 2 ^ V 0 1 → jW G mi_X1_sleepers 9 M 26 [some (jr (some 64)), some (.int (nI kt)), none, some (.int (optI (bestM k (sleepF V (sa σ 0) kt)))), some (.int (nI k))] [] M_1 (jQx M σ (q_sleepers σ (nI kt))) := by
      refine jW.loop _ (fun k => 2 ^ V 0 1 - k) _ (fun _ => []) (fun _ => M_1) (fun k hk ih => ?_)
      by_cases hkn : k < 2 ^ V 0 1
      · exact lp_sl hX hs hN hv h.2.1 hv9 hkt hkn (ih (k + 1) hkn (by omega))
      · have hk' : k = 2 ^ V 0 1 := by omega
        subst hk'
        exact lp_sl2 hX hs hv (qx_ok (by unfold q_sleepers; rw [if_pos h_11, vv_s hv9, iN_n (by omega)]) hf hX)
    refine jw_bipush (pc := 20) dX1_sleepers_20 bp_m2 ?_
    refine jw_istore_n (pc := 22) dX1_sleepers_22 (Nat.le_of_ble_eq_true rfl) rfl ?_
    try dsimp only [jput1, jput2, jkill, jclr, jis2_i, jis2_l, jis2_rs, jis2_rn, cond]
    refine jw_iconst (pc := 23) dX1_sleepers_23 ic_0 ?_
    refine jw_istore (pc := 24) dX1_sleepers_24 (Nat.le_of_ble_eq_true rfl) rfl ?_
    try dsimp only [jput1, jput2, jkill, jclr, jis2_i, jis2_l, jis2_rs, jis2_rn, cond]
    refine jW.sub ?_ (J 0 (Nat.zero_le _))
    exact ⟨rfl, rfl, rfl, rfl, trivial⟩
  · intro h_11
    refine jw_aload_n (pc := 14) dX1_sleepers_14 rfl ?_
    refine jw_iload_n (pc := 15) dX1_sleepers_15 rfl ?_
    refine jx_cVi (mi1 := mi_X1_no) (pc := 16) rfl dX1_sleepers_16 lk_X1_98 rfl fi_X1_no rfl rfl rfl (by decide) (is_64 hS) (t_X1_no hX (stepW_4 _ _)) (by first | decide | omega) rfl rfl (by decide) ?_
    intro x_16 M_16 q_16
    refine jw_ireturn (pc := 19) dX1_sleepers_19 rfl (rfl) ?_
    refine qx_no ?_ hf q_16
    unfold q_sleepers
    rw [if_neg h_11]
theorem lp_msl {M9 : Mm} {w kt k : Nat} {V : Vt} {P : Rs → Mm → Prop} (hM : jMm M σ) (hs : jMs M w V 0 0) (hN : jMn M V σ) (ho : jSo σ) (hv9 : sv σ = some V) (hkt : kt < 200) (hkn : k < 2 ^ V 0 1) (ih : jW G mi_X5_sleepers 9 M9 27 [some (jr (some 90)), some (.int (nI kt)), none, some (.int (optI (bestM (k + 1) (sleepF V (sa σ 0) kt)))), some (.int (nI (k + 1)))] [] M P) : jW G mi_X5_sleepers 9 M9 27 [some (jr (some 90)), some (.int (nI kt)), none, some (.int (optI (bestM k (sleepF V (sa σ 0) kt)))), some (.int (nI k))] [] M P := by
  have hS := hM.1
  have hw := hs.s
  have hn := wf_nq hs.w
  have hpw : 2 ^ V 0 1 ≤ 32 := Nat.pow_le_pow_right (n := 2) (by decide) hn
  have hbl : ∀ b, bestM k (sleepF V (sa σ 0) kt) = some b → b < 32 := fun b q => by have := bestM_lt q; omega
  have hc := cnt_le
  cases hb : bestM k (sleepF V (sa σ 0) kt) with
  | none =>
    refine jw_iload (pc := 27) dX5_sleepers_27 rfl ?_
    refine jw_iconst (pc := 29) dX5_sleepers_29 ic_1 ?_
    refine jw_aload_n (pc := 30) dX5_sleepers_30 rfl ?_
    refine jx_getRs (pc := 31) (jf_X5_380_4.r) rfl dX5_sleepers_31 rfl (is_90 hS) (by decide) (hs.r) ?_
    refine jx_getIs (pc := 34) (jf_X5_221_12.r) rfl dX5_sleepers_34 rfl (wis hw) (by decide) (mi_nq hs.V) ?_
    refine jw_ishl (pc := 37) dX5_sleepers_37 ?_
    rw [shl1 (by omega)]
    first | refine jx_icmp_ge (pc := 38) (tgt := 85) dX5_sleepers_38 (by decide) (by omega) (by omega) ?_ ?_ | refine jw_icmp_ge (pc := 38) (tgt := 85) dX5_sleepers_38 (by decide) ?_ ?_
    · intro h_38
      omega
    · intro h_38
      refine jw_aload_n (pc := 41) dX5_sleepers_41 rfl ?_
      refine jw_aload_n (pc := 42) dX5_sleepers_42 rfl ?_
      refine jx_getRs (pc := 43) (jf_X5_17_4.r) rfl dX5_sleepers_43 rfl (is_90 hS) (by decide) (sr_90_68 hS) ?_
      refine jw_iload_n (pc := 46) dX5_sleepers_46 rfl ?_
      refine jw_iload (pc := 47) dX5_sleepers_47 rfl ?_
      refine jx_cVE (mi1 := mi_X5_isLawful) (pc := 49) rfl dX5_sleepers_49 lk_X5_433 rfl fi_X5_isLawful rfl rfl rfl (by decide) (is_90 hS) (t_X5_isLawful (t := kt) (sh := k) hs (by decide) (by decide) (by omega) (m_at hS ho hv9 hN) (by omega)) (by first | decide | omega) rfl rfl (by decide) ?_
      first | refine jx_ifb_ne (pc := 52) (tgt := 58) dX5_sleepers_52 (by decide) ?_ ?_ | refine jx_if_ne (pc := 52) (tgt := 58) dX5_sleepers_52 (by decide) (by omega) ?_ ?_ | refine jw_if_ne (pc := 52) (tgt := 58) dX5_sleepers_52 (by decide) ?_ ?_
      · intro h_52
        refine jw_iload_n (pc := 58) dX5_sleepers_58 rfl ?_
        refine jw_bipush (pc := 59) dX5_sleepers_59 bp_m2 ?_
        refine jw_icmp_eq (pc := 61) (tgt := 76) dX5_sleepers_61 (by decide) ?_ ?_
        · intro h_61
          refine jw_iload (pc := 76) dX5_sleepers_76 rfl ?_
          refine jw_istore_n (pc := 78) dX5_sleepers_78 (Nat.le_of_ble_eq_true rfl) rfl ?_
          try dsimp only [jput1, jput2, jkill, jclr, jis2_i, jis2_l, jis2_rs, jis2_rn, cond]
          first | refine jx_iinc (pc := 79) dX5_sleepers_79 rfl rfl ?_ | refine jw_iinc (pc := 79) dX5_sleepers_79 rfl rfl rfl ?_
          try dsimp only [jput1, jkill, jclr, jis2_i, jis2_l, jis2_rs, jis2_rn, cond]
          refine jw_goto (pc := 82) (tgt := 27) dX5_sleepers_82 (by decide) ?_
          refine jW.eq ?_ rfl rfl ih
          rw [bestM_s, hb]
          first
            | (rw [show sleepF V (sa σ 0) kt k none = true by unfold sleepF; rw [h_52]; rfl]; rfl)
            | (rw [show sleepF V (sa σ 0) kt k none = false by unfold sleepF; rw [h_52]; rfl]; rfl)
        · intro h_61
          exact absurd rfl h_61
      · intro h_52
        refine jw_goto (pc := 55) (tgt := 79) dX5_sleepers_55 (by decide) ?_
        first | refine jx_iinc (pc := 79) dX5_sleepers_79 rfl rfl ?_ | refine jw_iinc (pc := 79) dX5_sleepers_79 rfl rfl rfl ?_
        try dsimp only [jput1, jkill, jclr, jis2_i, jis2_l, jis2_rs, jis2_rn, cond]
        refine jw_goto (pc := 82) (tgt := 27) dX5_sleepers_82 (by decide) ?_
        refine jW.eq ?_ rfl rfl ih
        rw [bestM_s, hb]
        first
          | (rw [show sleepF V (sa σ 0) kt k none = true by unfold sleepF; rw [h_52]; rfl]; rfl)
          | (rw [show sleepF V (sa σ 0) kt k none = false by unfold sleepF; rw [h_52]; rfl]; rfl)
  | some b =>
    have hb9 := hbl b hb
    have hc1 := hc b
    have hc2 := hc k
    refine jw_iload (pc := 27) dX5_sleepers_27 rfl ?_
    refine jw_iconst (pc := 29) dX5_sleepers_29 ic_1 ?_
    refine jw_aload_n (pc := 30) dX5_sleepers_30 rfl ?_
    refine jx_getRs (pc := 31) (jf_X5_380_4.r) rfl dX5_sleepers_31 rfl (is_90 hS) (by decide) (hs.r) ?_
    refine jx_getIs (pc := 34) (jf_X5_221_12.r) rfl dX5_sleepers_34 rfl (wis hw) (by decide) (mi_nq hs.V) ?_
    refine jw_ishl (pc := 37) dX5_sleepers_37 ?_
    rw [shl1 (by omega)]
    first | refine jx_icmp_ge (pc := 38) (tgt := 85) dX5_sleepers_38 (by decide) (by omega) (by omega) ?_ ?_ | refine jw_icmp_ge (pc := 38) (tgt := 85) dX5_sleepers_38 (by decide) ?_ ?_
    · intro h_38
      omega
    · intro h_38
      refine jw_aload_n (pc := 41) dX5_sleepers_41 rfl ?_
      refine jw_aload_n (pc := 42) dX5_sleepers_42 rfl ?_
      refine jx_getRs (pc := 43) (jf_X5_17_4.r) rfl dX5_sleepers_43 rfl (is_90 hS) (by decide) (sr_90_68 hS) ?_
      refine jw_iload_n (pc := 46) dX5_sleepers_46 rfl ?_
      refine jw_iload (pc := 47) dX5_sleepers_47 rfl ?_
      refine jx_cVE (mi1 := mi_X5_isLawful) (pc := 49) rfl dX5_sleepers_49 lk_X5_433 rfl fi_X5_isLawful rfl rfl rfl (by decide) (is_90 hS) (t_X5_isLawful (t := kt) (sh := k) hs (by decide) (by decide) (by omega) (m_at hS ho hv9 hN) (by omega)) (by first | decide | omega) rfl rfl (by decide) ?_
      first | refine jx_ifb_ne (pc := 52) (tgt := 58) dX5_sleepers_52 (by decide) ?_ ?_ | refine jx_if_ne (pc := 52) (tgt := 58) dX5_sleepers_52 (by decide) (by omega) ?_ ?_ | refine jw_if_ne (pc := 52) (tgt := 58) dX5_sleepers_52 (by decide) ?_ ?_
      · intro h_52
        refine jw_iload_n (pc := 58) dX5_sleepers_58 rfl ?_
        refine jw_bipush (pc := 59) dX5_sleepers_59 bp_m2 ?_
        refine jw_icmp_eq (pc := 61) (tgt := 76) dX5_sleepers_61 (by decide) ?_ ?_
        · intro h_61
          exact absurd h_61 (nI_m2 (by omega))
        · intro h_61
          refine jw_iload (pc := 64) dX5_sleepers_64 rfl ?_
          refine jx_cSE (mi1 := mi_X5_bits) (pc := 66) rfl dX5_sleepers_66 lk_X5_461 rfl fi_X5_bits (t_X5_bits (by omega)) (by first | decide | omega) rfl rfl (by decide) ?_
          refine jw_iload_n (pc := 69) dX5_sleepers_69 rfl ?_
          refine jx_cSE (mi1 := mi_X5_bits) (pc := 70) rfl dX5_sleepers_70 lk_X5_461 rfl fi_X5_bits (t_X5_bits (by omega)) (by first | decide | omega) rfl rfl (by simp only [List.map_cons, List.map_nil, List.sum_cons, List.sum_nil, Value.category]; decide) ?_
          first | refine jx_icmp_le (pc := 73) (tgt := 79) dX5_sleepers_73 (by decide) (by omega) (by omega) ?_ ?_ | refine jw_icmp_le (pc := 73) (tgt := 79) dX5_sleepers_73 (by decide) ?_ ?_
          · intro h_73
            first | refine jx_iinc (pc := 79) dX5_sleepers_79 rfl rfl ?_ | refine jw_iinc (pc := 79) dX5_sleepers_79 rfl rfl rfl ?_
            try dsimp only [jput1, jkill, jclr, jis2_i, jis2_l, jis2_rs, jis2_rn, cond]
            refine jw_goto (pc := 82) (tgt := 27) dX5_sleepers_82 (by decide) ?_
            refine jW.eq ?_ rfl rfl ih
            rw [bestM_s, hb]
            first
              | (rw [show sleepF V (sa σ 0) kt k (some b) = false by (unfold sleepF; rw [h_52]; rfl)]; rfl)
              | (rw [show sleepF V (sa σ 0) kt k (some b) = false by (unfold sleepF; simp; omega)]; rfl)
              | (rw [show sleepF V (sa σ 0) kt k (some b) = true by (unfold sleepF; rw [h_52]; simp; omega)]; rfl)
          · intro h_73
            refine jw_iload (pc := 76) dX5_sleepers_76 rfl ?_
            refine jw_istore_n (pc := 78) dX5_sleepers_78 (Nat.le_of_ble_eq_true rfl) rfl ?_
            try dsimp only [jput1, jput2, jkill, jclr, jis2_i, jis2_l, jis2_rs, jis2_rn, cond]
            first | refine jx_iinc (pc := 79) dX5_sleepers_79 rfl rfl ?_ | refine jw_iinc (pc := 79) dX5_sleepers_79 rfl rfl rfl ?_
            try dsimp only [jput1, jkill, jclr, jis2_i, jis2_l, jis2_rs, jis2_rn, cond]
            refine jw_goto (pc := 82) (tgt := 27) dX5_sleepers_82 (by decide) ?_
            refine jW.eq ?_ rfl rfl ih
            rw [bestM_s, hb]
            first
              | (rw [show sleepF V (sa σ 0) kt k (some b) = false by (unfold sleepF; rw [h_52]; rfl)]; rfl)
              | (rw [show sleepF V (sa σ 0) kt k (some b) = false by (unfold sleepF; simp; omega)]; rfl)
              | (rw [show sleepF V (sa σ 0) kt k (some b) = true by (unfold sleepF; rw [h_52]; simp; omega)]; rfl)
      · intro h_52
        refine jw_goto (pc := 55) (tgt := 79) dX5_sleepers_55 (by decide) ?_
        first | refine jx_iinc (pc := 79) dX5_sleepers_79 rfl rfl ?_ | refine jw_iinc (pc := 79) dX5_sleepers_79 rfl rfl rfl ?_
        try dsimp only [jput1, jkill, jclr, jis2_i, jis2_l, jis2_rs, jis2_rn, cond]
        refine jw_goto (pc := 82) (tgt := 27) dX5_sleepers_82 (by decide) ?_
        refine jW.eq ?_ rfl rfl ih
        rw [bestM_s, hb]
        first
          | (rw [show sleepF V (sa σ 0) kt k (some b) = false by (unfold sleepF; rw [h_52]; rfl)]; rfl)
          | (rw [show sleepF V (sa σ 0) kt k (some b) = false by (unfold sleepF; simp; omega)]; rfl)
          | (rw [show sleepF V (sa σ 0) kt k (some b) = true by (unfold sleepF; rw [h_52]; simp; omega)]; rfl)
theorem lp_msl2 {M9 : Mm} {w kt : Nat} {V : Vt} {P : Rs → Mm → Prop} {z : Int32} (hM : jMm M σ) (hs : jMs M w V 0 0) (ih : ∀ x M', (x = z ∧ jMm M' (sgT σ 0 (-1)) ∧ jfm M M') → P (.inl (some (.int x))) M') : jW G mi_X5_sleepers 9 M9 27 [some (jr (some 90)), some (.int (nI kt)), none, some (.int z), some (.int (nI (2 ^ V 0 1)))] [] M P := by
  have hS := hM.1
  have hw := hs.s
  have hn := wf_nq hs.w
  have hpw : 2 ^ V 0 1 ≤ 32 := Nat.pow_le_pow_right (n := 2) (by decide) hn
  refine jw_iload (pc := 27) dX5_sleepers_27 rfl ?_
  refine jw_iconst (pc := 29) dX5_sleepers_29 ic_1 ?_
  refine jw_aload_n (pc := 30) dX5_sleepers_30 rfl ?_
  refine jx_getRs (pc := 31) (jf_X5_380_4.r) rfl dX5_sleepers_31 rfl (is_90 hS) (by decide) (hs.r) ?_
  refine jx_getIs (pc := 34) (jf_X5_221_12.r) rfl dX5_sleepers_34 rfl (wis hw) (by decide) (mi_nq hs.V) ?_
  refine jw_ishl (pc := 37) dX5_sleepers_37 ?_
  rw [shl1 (by omega)]
  first | refine jx_icmp_ge (pc := 38) (tgt := 85) dX5_sleepers_38 (by decide) (by omega) (by omega) ?_ ?_ | refine jw_icmp_ge (pc := 38) (tgt := 85) dX5_sleepers_38 (by decide) ?_ ?_
  · intro h_38
    refine jw_aload_n (pc := 85) dX5_sleepers_85 rfl ?_
    refine jw_iload_n (pc := 86) dX5_sleepers_86 rfl ?_
    refine jw_iconst (pc := 87) dX5_sleepers_87 ic_0 ?_
    refine jx_cVi (mi1 := mi_X5_told) (pc := 88) rfl dX5_sleepers_88 lk_X5_66 rfl fi_X5_told rfl rfl rfl (by decide) (is_90 hS) (t_X5_told0 hM) (by first | decide | omega) rfl rfl (by decide) ?_
    intro x_88 M_88 q_88
    refine jw_ireturn (pc := 91) dX5_sleepers_91 rfl (rfl) ?_
    exact ih _ _ q_88
  · intro h_38
    omega
theorem t_X5_sleepers {t : Int32} (h : jMm M σ) : jT G mi_X5_sleepers 9 [jr (some 90), .int t] M (jQm M σ (q_sleepers σ t)) := by
  have hS := h.1
  refine jT.of (by decide) rfl (Nat.le_of_ble_eq_true rfl) ?_
  refine jw_aload_n (pc := 0) dX5_sleepers_0 rfl ?_
  refine jw_iconst (pc := 1) dX5_sleepers_1 ic_0 ?_
  refine jx_putI (pc := 2) jf_X5_56_4 rfl dX5_sleepers_2 rfl rfl (is_90 hS) (by decide) ?_
  have hM := mthr (x := nI 0) h
  have hf : jfm M (js_I M 90 49 (nI 0)) := jsm.I (by decide)
  generalize js_I M 90 49 (nI 0) = M0 at hM hf ⊢
  clear hS
  have hS := hM.1
  refine jw_aload_n (pc := 5) dX5_sleepers_5 rfl ?_
  refine jw_iload_n (pc := 6) dX5_sleepers_6 rfl ?_
  refine jx_cVE (mi1 := mi_X5_refusesSteps) (pc := 7) rfl dX5_sleepers_7 lk_X5_420 rfl fi_X5_refusesSteps rfl rfl rfl (by decide) (is_90 hS) (t_X5_refusesSteps (o := sv σ) hM rfl) (by first | decide | omega) rfl rfl (by decide) ?_
  refine jw_istore_n (pc := 10) dX5_sleepers_10 (Nat.le_of_ble_eq_true rfl) rfl ?_
  try dsimp only [jput1, jput2, jkill, jclr, jis2_i, jis2_l, jis2_rs, jis2_rn, cond]
  refine jw_iload_n (pc := 11) dX5_sleepers_11 rfl ?_
  refine jw_if_le (pc := 12) (tgt := 21) dX5_sleepers_12 (by decide) ?_ ?_
  · intro h_12
    have h_12 := stepW_le h_12
    obtain ⟨V, kt, hv9, hkt, rfl⟩ := stepW_0 h_12
    obtain ⟨w, hs, hN⟩ := hM.so hv9
    have hn := wf_nq hs.w
    have hpw : 2 ^ V 0 1 ≤ 32 := Nat.pow_le_pow_right (n := 2) (by decide) hn
    have J : ∀ k : Nat, k ≤ 2 ^ V 0 1 → jW G mi_X5_sleepers 9 M 27 [some (jr (some 90)), some (.int (nI kt)), none, some (.int (optI (bestM k (sleepF V (sa σ 0) kt)))), some (.int (nI k))] [] M0 (jQm M σ (q_sleepers σ (nI kt))) := by
      refine jW.loop _ (fun k => 2 ^ V 0 1 - k) _ (fun _ => []) (fun _ => M0) (fun k hk ih => ?_)
      by_cases hkn : k < 2 ^ V 0 1
      · exact lp_msl hM hs hN h.2.1 hv9 hkt hkn (ih (k + 1) hkn (by omega))
      · have hk' : k = 2 ^ V 0 1 := by omega
        subst hk'
        exact lp_msl2 hM hs (fun x M2 e => qm (by unfold q_sleepers; rw [if_pos h_12, vv_s hv9, iN_n (by omega)]) hf e)
    refine jw_bipush (pc := 21) dX5_sleepers_21 bp_m2 ?_
    refine jw_istore_n (pc := 23) dX5_sleepers_23 (Nat.le_of_ble_eq_true rfl) rfl ?_
    try dsimp only [jput1, jput2, jkill, jclr, jis2_i, jis2_l, jis2_rs, jis2_rn, cond]
    refine jw_iconst (pc := 24) dX5_sleepers_24 ic_0 ?_
    refine jw_istore (pc := 25) dX5_sleepers_25 (Nat.le_of_ble_eq_true rfl) rfl ?_
    try dsimp only [jput1, jput2, jkill, jclr, jis2_i, jis2_l, jis2_rs, jis2_rn, cond]
    refine jW.sub ?_ (J 0 (Nat.zero_le _))
    exact ⟨rfl, rfl, rfl, rfl, trivial⟩
  · intro h_12
    refine jw_aload_n (pc := 15) dX5_sleepers_15 rfl ?_
    refine jw_iload_n (pc := 16) dX5_sleepers_16 rfl ?_
    refine jx_cVi (mi1 := mi_X5_refused) (pc := 17) rfl dX5_sleepers_17 lk_X5_62 rfl fi_X5_refused rfl rfl rfl (by decide) (is_90 hS) (t_X5_refused hM) (by first | decide | omega) rfl rfl (by decide) ?_
    intro x_17 M_17 q_17
    refine jw_ireturn (pc := 20) dX5_sleepers_20 rfl (rfl) ?_
    refine qm ?_ hf q_17
    unfold q_sleepers
    rw [if_neg (fun e => h_12 (by rw [e]; decide +kernel))]
end JB
