/-! ===== drift, by the reference ===== -/
section JMDR
variable {G : Gh} {M : Mm} {σ : Sg}
theorem drawn_l {s : Nat} (hs : s < 65537) : ((75 : Int64) * (nI s).toInt64 + (74 : Int64) - ((75 : Int64) * (nI s).toInt64 + (74 : Int64)) / (65537 : Int64) * (65537 : Int64)).toInt32 = nI (drS s) := by
  rw [nI_l (by omega), show (75 : Int64) = lN 75 from rfl, show (74 : Int64) = lN 74 from rfl, show (65537 : Int64) = lN 65537 from rfl, lN_mul, lN_add, pk_lRem (by omega) (by decide) (by decide), lN_i]; rfl
theorem t_X5_drawn {s n : Nat} (hS : jSh M) (he : jm_I M 90 71 = nI s) (hs : s < 65537) (h0 : 0 < n) (hn : n < 2 ^ 31) : jE G mi_X5_drawn 1 [jr (some 90), .int (nI n)] M (some (.int (nI (drS s % n)))) (js_I M 90 71 (nI (drS s))) := by
  have hsr : drS s < 65537 := Nat.mod_lt _ (by decide)
  refine jE.of (by decide) rfl (Nat.le_of_ble_eq_true rfl) ?_
  refine jw_aload_n (pc := 0) dX5_drawn_0 rfl ?_
  refine jw_ldc2 (pc := 1) q2237 rfl dX5_drawn_1 ?_
  refine jw_aload_n (pc := 4) dX5_drawn_4 rfl ?_
  refine jx_getIs (pc := 5) (jf_X5_386_4.r) rfl dX5_drawn_5 rfl (is_90 hS) (by decide) (he) ?_
  refine jw_i2l (pc := 8) dX5_drawn_8 (rfl) ?_
  refine jw_lmul (pc := 9) dX5_drawn_9 ?_
  refine jw_ldc2 (pc := 10) q2238 rfl dX5_drawn_10 ?_
  refine jw_ladd (pc := 13) dX5_drawn_13 ?_
  refine jw_ldc2 (pc := 14) q2239 rfl dX5_drawn_14 ?_
  refine jw_lrem (pc := 17) dX5_drawn_17 (by decide +kernel) ?_
  refine jw_l2i (pc := 18) dX5_drawn_18 (drawn_l hs) ?_
  refine jx_putI (pc := 19) jf_X5_386_4 rfl dX5_drawn_19 rfl rfl (is_90 hS) (by decide) ?_
  refine jw_aload_n (pc := 22) dX5_drawn_22 rfl ?_
  refine jx_getIs (pc := 23) (jf_X5_386_4.r) rfl dX5_drawn_23 rfl (is_90 hS) (by decide) (jI_same) ?_
  refine jw_iload_n (pc := 26) dX5_drawn_26 rfl ?_
  refine jw_irem (pc := 27) dX5_drawn_27 (ne_nI (by omega) (by omega)) ?_
  rw [i_rem (by omega) (by omega) (by omega)]
  refine jw_ireturn (pc := 28) dX5_drawn_28 rfl (rfl) ?_
  exact ⟨rfl, rfl⟩
theorem lp_md1 {M9 : Mm} {c p near k : Nat} {P : Rs → Mm → Prop} (hS : jSh M) (hw3 : near < 1024) (hk1 : 1 ≤ k) (hk : k ≤ cnt near) (fin : jW G mi_X5_drift 9 M9 140 [some (jr (some 90)), some (.int (nI c)), some (.int (nI p)), none, none, none, some (.int (nI (nthB near k))), none] [] M P) :
    ∀ i : Nat, (1 ≤ i ∧ i ≤ k) → jW G mi_X5_drift 9 M9 99 [some (jr (some 90)), some (.int (nI c)), some (.int (nI p)), some (.int (nI near)), some (.int (nI k)), some (.int (nI (clrK near (i - 1)))), some (.int (nI i)), none] [] M P := by
  have hc9 := cnt_le near
  refine jW.loop _ (fun i => k - i) _ (fun _ => []) (fun _ => M) (fun i hi ih => ?_)
  obtain ⟨hi1, hi2⟩ := hi
  obtain ⟨z1, z2⟩ := clr_ok near hw3 (i - 1) (by omega)
  by_cases hkn : i < k
  · have e9 : clrK near (i - 1) &&& (clrK near (i - 1) - 1) = clrK near (i + 1 - 1) := by rw [← clrK_s]; congr 1; omega
    refine jw_iload (pc := 99) dX5_drift_99 rfl ?_
    refine jw_iload (pc := 101) dX5_drift_101 rfl ?_
    first | refine jx_icmp_ge (pc := 103) (tgt := 121) dX5_drift_103 (by decide) (by omega) (by omega) ?_ ?_ | refine jw_icmp_ge (pc := 103) (tgt := 121) dX5_drift_103 (by decide) ?_ ?_
    · intro h_103
      omega
    · intro h_103
      refine jw_iload (pc := 106) dX5_drift_106 rfl ?_
      refine jw_iload (pc := 108) dX5_drift_108 rfl ?_
      refine jw_iconst (pc := 110) dX5_drift_110 ic_1 ?_
      refine jw_isub (pc := 111) dX5_drift_111 ?_
      rw [sub1 (by omega)]
      refine jw_iand (pc := 112) dX5_drift_112 ?_
      rw [nI_and', e9]
      refine jw_istore (pc := 113) dX5_drift_113 (Nat.le_of_ble_eq_true rfl) rfl ?_
      try dsimp only [jput1, jput2, jkill, jclr, jis2_i, jis2_l, jis2_rs, jis2_rn, cond]
      first | refine jx_iinc (pc := 115) dX5_drift_115 rfl rfl ?_ | refine jw_iinc (pc := 115) dX5_drift_115 rfl rfl rfl ?_
      try dsimp only [jput1, jkill, jclr, jis2_i, jis2_l, jis2_rs, jis2_rn, cond]
      refine jw_goto (pc := 118) (tgt := 99) dX5_drift_118 (by decide) ?_
      exact ih (i + 1) ⟨by omega, hkn⟩ (by omega)
  · have hk' : i = k := by omega
    subst hk'
    obtain ⟨l1, l2, l3⟩ := low_ok _ z2 z1
    have I : ∀ j : Nat, j ≤ nthB near i → jW G mi_X5_drift 9 M9 124 [some (jr (some 90)), some (.int (nI c)), some (.int (nI p)), some (.int (nI near)), some (.int (nI i)), some (.int (nI (clrK near (i - 1)))), some (.int (nI j)), none] [] M P := by
      refine jW.loop _ (fun j => nthB near i - j) _ (fun _ => []) (fun _ => M) (fun j hj ihj => ?_)
      have hj9 : nthB near i < 10 := l1
      have L : ∀ b : Bool, (clrK near (i - 1)).testBit j = b → b = decide (j = nthB near i) := by
        intro b hb
        by_cases e : j = nthB near i
        · rw [decide_eq_true e, ← hb, e]; exact l2
        · rw [decide_eq_false e, ← hb]; exact l3 j (by show j < nthB near i; omega)
      refine jw_iload (pc := 124) dX5_drift_124 rfl ?_
      refine jw_iload (pc := 126) dX5_drift_126 rfl ?_
      refine jx_cSE (mi1 := mi_X5_has) (pc := 128) rfl dX5_drift_128 lk_X5_398 rfl fi_X5_has (t_X5_has (by omega) (by omega)) (by first | decide | omega) rfl rfl (by decide) ?_
      first | refine jx_ifb_ne (pc := 131) (tgt := 140) dX5_drift_131 (by decide) ?_ ?_ | refine jx_if_ne (pc := 131) (tgt := 140) dX5_drift_131 (by decide) (by omega) ?_ ?_ | refine jw_if_ne (pc := 131) (tgt := 140) dX5_drift_131 (by decide) ?_ ?_
      · intro h_131
        have e := of_decide_eq_true (L true h_131).symm
        subst e
        refine jW.sub ?_ fin
        exact ⟨rfl, rfl, rfl, rfl, trivial⟩
      · intro h_131
        first | refine jx_iinc (pc := 134) dX5_drift_134 rfl rfl ?_ | refine jw_iinc (pc := 134) dX5_drift_134 rfl rfl rfl ?_
        try dsimp only [jput1, jkill, jclr, jis2_i, jis2_l, jis2_rs, jis2_rn, cond]
        refine jw_goto (pc := 137) (tgt := 124) dX5_drift_137 (by decide) ?_
        have e := of_decide_eq_false (L false h_131).symm
        exact ihj (j + 1) (by omega) (by omega)
    refine jw_iload (pc := 99) dX5_drift_99 rfl ?_
    refine jw_iload (pc := 101) dX5_drift_101 rfl ?_
    first | refine jx_icmp_ge (pc := 103) (tgt := 121) dX5_drift_103 (by decide) (by omega) (by omega) ?_ ?_ | refine jw_icmp_ge (pc := 103) (tgt := 121) dX5_drift_103 (by decide) ?_ ?_
    · intro h_103
      refine jw_iconst (pc := 121) dX5_drift_121 ic_0 ?_
      refine jw_istore (pc := 122) dX5_drift_122 (Nat.le_of_ble_eq_true rfl) rfl ?_
      try dsimp only [jput1, jput2, jkill, jclr, jis2_i, jis2_l, jis2_rs, jis2_rn, cond]
      exact I 0 (Nat.zero_le _)
    · intro h_103
      omega
theorem lp_md2 {M9 M2 : Mm} {τ τ3 : Sg} {c p z b : Nat} {V : Vt} {P : Rs → Mm → Prop} (hM2 : jMm M2 τ) (hM3 : jMm (js_A M2 92 p (nI z)) τ3) (hv9 : sv τ3 = some V) (hp : p < 5) (hNa : jm_A M2 92 p = nI b) (ht : sn τ3 0 < 100)
    (k1 : lawfulV V (sa τ3 0) (sn τ3 0) = true → ∀ x3 x4 x5 x6 x7 : Option Value, jW G mi_X5_drift 9 M9 177 [some (jr (some 90)), some (.int (nI (c + 1))), some (.int (nI p)), x3, x4, x5, x6, x7] [] (js_A M2 92 p (nI z)) P)
    (k2 : lawfulV V (sa τ3 0) (sn τ3 0) = false → ∀ x3 x4 x5 x6 x7 : Option Value, jW G mi_X5_drift 9 M9 177 [some (jr (some 90)), some (.int (nI c)), some (.int (nI p)), x3, x4, x5, x6, x7] [] (js_A (js_A M2 92 p (nI z)) 92 p (nI b)) P) :
    jW G mi_X5_drift 9 M9 140 [some (jr (some 90)), some (.int (nI c)), some (.int (nI p)), none, none, none, some (.int (nI z)), none] [] M2 P := by
  have hS := hM2.1
  obtain ⟨w3, hs3, hN3⟩ := hM3.so hv9
  refine jw_aload_n (pc := 140) dX5_drift_140 rfl ?_
  refine jx_getRs (pc := 141) (jf_X5_17_4.r) rfl dX5_drift_141 rfl (is_90 hS) (by decide) (sr_90_68 hS) ?_
  refine jw_iload_n (pc := 144) dX5_drift_144 rfl ?_
  refine jx_ialds (pc := 145) dX5_drift_145 (ok_92 hS) (nn_92 hS) rfl (by omega) (hNa) ?_
  refine jw_istore (pc := 146) dX5_drift_146 (Nat.le_of_ble_eq_true rfl) rfl ?_
  try dsimp only [jput1, jput2, jkill, jclr, jis2_i, jis2_l, jis2_rs, jis2_rn, cond]
  refine jw_aload_n (pc := 148) dX5_drift_148 rfl ?_
  refine jx_getRs (pc := 149) (jf_X5_17_4.r) rfl dX5_drift_149 rfl (is_90 hS) (by decide) (sr_90_68 hS) ?_
  refine jw_iload_n (pc := 152) dX5_drift_152 rfl ?_
  refine jw_iload (pc := 153) dX5_drift_153 rfl ?_
  refine jx_iast (pc := 155) dX5_drift_155 (by decide) (ok_92 hS) (nn_92 hS) rfl (by omega) ?_
  refine jw_aload_n (pc := 156) dX5_drift_156 rfl ?_
  refine jx_cVE (mi1 := mi_X5_isLawfulNow) (pc := 157) rfl dX5_drift_157 lk_X5_446 rfl fi_X5_isLawfulNow rfl rfl rfl (by decide) (is_90 hS) (t_X5_isLawfulNow hs3 hN3 hM3.2.1 hv9 (by decide) (by decide)) (by first | decide | omega) rfl rfl (by decide) ?_
  first | refine jx_ifb_eq (pc := 160) (tgt := 169) dX5_drift_160 (by decide) ?_ ?_ | refine jx_if_eq (pc := 160) (tgt := 169) dX5_drift_160 (by decide) (by omega) ?_ ?_ | refine jw_if_eq (pc := 160) (tgt := 169) dX5_drift_160 (by decide) ?_ ?_
  · intro h_160
    refine jw_aload_n (pc := 169) dX5_drift_169 rfl ?_
    refine jx_getRs (pc := 170) (jf_X5_17_4.r) rfl dX5_drift_170 rfl (is_90 hS) (by decide) (sr_90_68 hS) ?_
    refine jw_iload_n (pc := 173) dX5_drift_173 rfl ?_
    refine jw_iload (pc := 174) dX5_drift_174 rfl ?_
    refine jx_iast (pc := 176) dX5_drift_176 (by decide) (ok_92 hS) (nn_92 hS) rfl (by omega) ?_
    first | exact k1 h_160 _ _ _ _ _ | exact k2 h_160 _ _ _ _ _
  · intro h_160
    first | refine jx_iinc (pc := 163) dX5_drift_163 rfl rfl ?_ | refine jw_iinc (pc := 163) dX5_drift_163 rfl rfl rfl ?_
    try dsimp only [jput1, jkill, jclr, jis2_i, jis2_l, jis2_rs, jis2_rn, cond]
    refine jw_goto (pc := 166) (tgt := 177) dX5_drift_166 (by decide) ?_
    first | exact k1 h_160 _ _ _ _ _ | exact k2 h_160 _ _ _ _ _
theorem t_X5_drift (h : jMm M σ) : jT G mi_X5_drift 9 [jr (some 90)] M (jOm M (o_drift σ)) := by
  have hS := h.1
  refine jT.of (by decide) rfl (Nat.le_of_ble_eq_true rfl) ?_
  cases hv9 : sv σ with
  | none =>
    refine jw_aload_n (pc := 0) dX5_drift_0 rfl ?_
    refine jw_iconst (pc := 1) dX5_drift_1 ic_0 ?_
    refine jx_putI (pc := 2) jf_X5_56_4 rfl dX5_drift_2 rfl rfl (is_90 hS) (by decide) ?_
    have hM := mthr (x := nI 0) h
    have hf : jfm M (js_I M 90 49 (nI 0)) := jsm.I (by decide)
    generalize js_I M 90 49 (nI 0) = M0 at hM hf ⊢
    clear hS
    have hS := hM.1
    refine jw_aload_n (pc := 5) dX5_drift_5 rfl ?_
    refine jx_getRs (pc := 6) (jf_X5_380_4.r) rfl dX5_drift_6 rfl (is_90 hS) (by decide) (hM.no hv9) ?_
    refine jw_ifnonnull (pc := 9) (tgt := 18) dX5_drift_9 (by decide) (fun ax h => by cases h) (fun h => ?_)
    clear h
    refine jw_aload_n (pc := 12) dX5_drift_12 rfl ?_
    refine jw_iconst (pc := 13) dX5_drift_13 ic_1 ?_
    refine jx_cVi (mi1 := mi_X5_refused) (pc := 14) rfl dX5_drift_14 lk_X5_62 rfl fi_X5_refused rfl rfl rfl (by decide) (is_90 hS) (t_X5_refused hM) (by first | decide | omega) rfl rfl (by decide) ?_
    intro x_14 M_14 q_14
    refine jw_ireturn (pc := 17) dX5_drift_17 rfl (rfl) ?_
    obtain ⟨e1, hM2, hf2⟩ := q_14
    have e : o_drift σ = (-1, sgT σ 1 (-1)) := by unfold o_drift; rw [hv9]
    rw [e]; exact ⟨_, rfl, e1, hM2, hf.tr hf2⟩
  | some V =>
    have hw9 := (h.2.1.2 V hv9).1
    have ht9 : drT σ < 100 := Nat.mod_lt _ (by decide)
    have hst := (h.2.1.2 V hv9).2.2.2.1
    have hn := wf_nq hw9
    have hnp := wf_np hw9
    have hp9 := p10 hnp
    have J : lawfulV V (sa σ 0) (sn σ 0) = true → ∀ x : Nat × Mm, (x.1 ≤ V 0 1 ∧ jMm x.2 (sgD σ (drT σ) (drK V (drT σ) (sn σ 1, sa σ 0, 0) x.1).1 (drK V (drT σ) (sn σ 1, sa σ 0, 0) x.1).2.1) ∧ jfm M x.2) → jW G mi_X5_drift 9 M 48 [some (jr (some 90)), some (.int (nI (drK V (drT σ) (sn σ 1, sa σ 0, 0) x.1).2.2)), some (.int (nI x.1)), none, none, none, none, none] [] x.2 (jOm M (o_drift σ)) := by
      intro hlaw
      refine jW.loop (σ := Nat × Mm) _ (fun x => V 0 1 - x.1) _ (fun _ => []) (fun x => x.2) (fun x hI ih => ?_)
      obtain ⟨p, M1⟩ := x
      obtain ⟨hp, hM, hf⟩ := hI
      dsimp only at hp hM hf ih ⊢
      have hS := hM.1
      have hc := drK_c V (drT σ) (sn σ 1, sa σ 0, 0) p
      by_cases hkn : p < V 0 1
      · have L177 : ∀ (y : Nat × (Nat → Nat) × Nat) (M' : Mm) (x3 x4 x5 x6 x7 : Option Value), drP V (drT σ) (drK V (drT σ) (sn σ 1, sa σ 0, 0) p) p = y → jMm M' (sgD σ (drT σ) y.1 y.2.1) → jfm M M' → jW G mi_X5_drift 9 M 177 [some (jr (some 90)), some (.int (nI y.2.2)), some (.int (nI p)), x3, x4, x5, x6, x7] [] M' (jOm M (o_drift σ)) := by
          intro y M' x3 x4 x5 x6 x7 hy hM2 hf2
          have ih2 := ih (p + 1, M') ⟨hkn, by rw [drK_s, hy]; exact hM2, hf2⟩ (by dsimp only; omega)
          dsimp only at ih2
          rw [drK_s, hy] at ih2
          have hS := hM2.1
          first | refine jx_iinc (pc := 177) dX5_drift_177 rfl rfl ?_ | refine jw_iinc (pc := 177) dX5_drift_177 rfl rfl rfl ?_
          try dsimp only [jput1, jkill, jclr, jis2_i, jis2_l, jis2_rs, jis2_rn, cond]
          refine jw_goto (pc := 180) (tgt := 48) dX5_drift_180 (by decide) ?_
          refine jW.sub ?_ ih2
          exact ⟨rfl, rfl, rfl, trivial⟩
        generalize drK V (drT σ) (sn σ 1, sa σ 0, 0) p = x at hM hc L177 ⊢
        obtain ⟨s, a, c⟩ := x
        dsimp only at hM hc L177 ⊢
        obtain ⟨o1, o2, o3, o4, o5, o6⟩ := hM.2.1.2 V hv9
        have o2 : ∀ q, q < V 0 1 → a q < V 0 0 := o2
        have o5 : s < 65537 := o5
        have ha := o2 p hkn
        have h3 := (wf_pl hw9 ha).2.2.1
        have hsr : drS s < 65537 := Nat.mod_lt _ (by decide)
        have hcn := cnt_le (V 3 (a p))
        obtain ⟨w, hs, hN⟩ := hM.so hv9
        have hw := hs.s
        have hN1 : jm_I M1 90 71 = nI s := hN.2.1
        have hmod : drS s % (1 + cnt (V 3 (a p))) < 1 + cnt (V 3 (a p)) := Nat.mod_lt _ (by omega)
        have hNa : jm_A M1 92 p = nI (a p) := hN.2.2.2.1 p hkn
        refine jw_iload_n (pc := 48) dX5_drift_48 rfl ?_
        refine jw_aload_n (pc := 49) dX5_drift_49 rfl ?_
        refine jx_getRs (pc := 50) (jf_X5_380_4.r) rfl dX5_drift_50 rfl (is_90 hS) (by decide) (hs.r) ?_
        refine jx_getIs (pc := 53) (jf_X5_221_12.r) rfl dX5_drift_53 rfl (wis hw) (by decide) (mi_nq hs.V) ?_
        first | refine jx_icmp_ge (pc := 56) (tgt := 183) dX5_drift_56 (by decide) (by omega) (by omega) ?_ ?_ | refine jw_icmp_ge (pc := 56) (tgt := 183) dX5_drift_56 (by decide) ?_ ?_
        · intro h_56
          omega
        · intro h_56
          refine jw_aload_n (pc := 59) dX5_drift_59 rfl ?_
          refine jx_getRs (pc := 60) (jf_X5_380_4.r) rfl dX5_drift_60 rfl (is_90 hS) (by decide) (hs.r) ?_
          refine jw_aload_n (pc := 63) dX5_drift_63 rfl ?_
          refine jx_getRs (pc := 64) (jf_X5_17_4.r) rfl dX5_drift_64 rfl (is_90 hS) (by decide) (sr_90_68 hS) ?_
          refine jw_iload_n (pc := 67) dX5_drift_67 rfl ?_
          refine jx_ialds (pc := 68) dX5_drift_68 (ok_92 hS) (nn_92 hS) rfl (by omega) (hNa) ?_
          refine jx_cVE (mi1 := mi_X14_near) (pc := 69) rfl dX5_drift_69 lk_X5_449 rfl fi_X14_near rfl rfl rfl (by decide) (wis hw) (t_X14_near hs.V hs.w ha) (by first | decide | omega) rfl rfl (by decide) ?_
          refine jw_istore_n (pc := 72) dX5_drift_72 (Nat.le_of_ble_eq_true rfl) rfl ?_
          try dsimp only [jput1, jput2, jkill, jclr, jis2_i, jis2_l, jis2_rs, jis2_rn, cond]
          refine jw_aload_n (pc := 73) dX5_drift_73 rfl ?_
          refine jw_iconst (pc := 74) dX5_drift_74 ic_1 ?_
          refine jw_iload_n (pc := 75) dX5_drift_75 rfl ?_
          refine jx_cSE (mi1 := mi_X5_bits) (pc := 76) rfl dX5_drift_76 lk_X5_461 rfl fi_X5_bits (t_X5_bits (by omega)) (by first | decide | omega) rfl rfl (by simp only [List.map_cons, List.map_nil, List.sum_cons, List.sum_nil, cat_i, cat_l, jr_cat]; decide) ?_
          first | refine jx_iadd (pc := 79) dX5_drift_79 ?_ | refine jw_iadd (pc := 79) dX5_drift_79 ?_
          refine jx_cVE (mi1 := mi_X5_drawn) (pc := 80) rfl dX5_drift_80 lk_X5_568 rfl fi_X5_drawn rfl rfl rfl (by decide) (is_90 hS) (t_X5_drawn hS hN1 o5 (by omega) (by omega)) (by first | decide | omega) rfl rfl (by decide) ?_
          have hM2 := mseed hM hsr
          rw [sgD_N] at hM2
          have hf2 : jfm M (js_I M1 90 71 (nI (drS s))) := hf.tr (jsm.I (by decide))
          generalize js_I M1 90 71 (nI (drS s)) = M2 at hM2 hf2 ⊢
          clear hS hs hN hw hN1 hNa
          have hS := hM2.1
          obtain ⟨w, hs, hN⟩ := hM2.so hv9
          have hw := hs.s
          have hNa : jm_A M2 92 p = nI (a p) := hN.2.2.2.1 p hkn
          have L140 : ¬ drN V s p a = 0 → jW G mi_X5_drift 9 M 140 [some (jr (some 90)), some (.int (nI c)), some (.int (nI p)), none, none, none, some (.int (nI (nthB (V 3 (a p)) (drN V s p a)))), none] [] M2 (jOm M (o_drift σ)) := by
            intro hk0
            have hz : nthB (V 3 (a p)) (drN V s p a) < V 0 0 := bit_lt h3 (nth_ok _ (by omega) _ (by show drS s % _ ≤ _; omega) (by omega)).2.1
            have hM3 := mput1 (p := p) hM2 hv9 hz
            rw [sgD_A, show (fun q => if q = p then nthB (V 3 (a p)) (drN V s p a) else sa (sgD σ (drT σ) (drS s) a) 0 q) = drA V s p a from rfl] at hM3
            exact lp_md2 hM2 hM3 hv9 (by omega) hNa ht9 (fun r1 x3 x4 x5 x6 x7 => L177 (drS s, drA V s p a, c + 1) _ _ _ _ _ _ (drP_1 hk0 r1) hM3 (hf2.tr (jsm.A (by decide)))) (fun r2 x3 x4 x5 x6 x7 => by
              have hM4 := mput1 (p := p) hM3 hv9 ha
              rw [sgD_A, show (fun q => if q = p then a p else sa (sgD σ (drT σ) (drS s) (drA V s p a)) 0 q) = a from drA_back] at hM4
              exact L177 (drS s, a, c) _ _ _ _ _ _ (drP_2 hk0 r2) hM4 ((hf2.tr (jsm.A (by decide))).tr (jsm.A (by decide))))
          refine jw_istore (pc := 83) dX5_drift_83 (Nat.le_of_ble_eq_true rfl) rfl ?_
          try dsimp only [jput1, jput2, jkill, jclr, jis2_i, jis2_l, jis2_rs, jis2_rn, cond]
          refine jw_iload (pc := 85) dX5_drift_85 rfl ?_
          refine jx_if_ne (pc := 87) (tgt := 93) dX5_drift_87 (by decide) (by omega) ?_ ?_
          · intro h_87
            refine jw_iload_n (pc := 93) dX5_drift_93 rfl ?_
            refine jw_istore (pc := 94) dX5_drift_94 (Nat.le_of_ble_eq_true rfl) rfl ?_
            try dsimp only [jput1, jput2, jkill, jclr, jis2_i, jis2_l, jis2_rs, jis2_rn, cond]
            refine jw_iconst (pc := 96) dX5_drift_96 ic_1 ?_
            refine jw_istore (pc := 97) dX5_drift_97 (Nat.le_of_ble_eq_true rfl) rfl ?_
            try dsimp only [jput1, jput2, jkill, jclr, jis2_i, jis2_l, jis2_rs, jis2_rn, cond]
            have h_88 : ¬ drN V s p a = 0 := h_87
            have hmod2 : drN V s p a < 1 + cnt (V 3 (a p)) := hmod
            refine jW.sub ?_ (lp_md1 (near := V 3 (a p)) (k := drN V s p a) hS (by omega) (by omega) (by omega) (L140 h_87) 1 ⟨Nat.le_refl _, by omega⟩)
            exact ⟨rfl, rfl, rfl, rfl, rfl, rfl, rfl, trivial⟩
          · intro h_87
            refine jw_goto (pc := 90) (tgt := 177) dX5_drift_90 (by decide) ?_
            exact L177 (drS s, a, c) _ _ _ _ _ _ (drP_0 h_87) hM2 hf2
      · have hk' : p = V 0 1 := by omega
        subst hk'
        obtain ⟨w, hs, hN⟩ := hM.so hv9
        have hw := hs.s
        refine jw_iload_n (pc := 48) dX5_drift_48 rfl ?_
        refine jw_aload_n (pc := 49) dX5_drift_49 rfl ?_
        refine jx_getRs (pc := 50) (jf_X5_380_4.r) rfl dX5_drift_50 rfl (is_90 hS) (by decide) (hs.r) ?_
        refine jx_getIs (pc := 53) (jf_X5_221_12.r) rfl dX5_drift_53 rfl (wis hw) (by decide) (mi_nq hs.V) ?_
        first | refine jx_icmp_ge (pc := 56) (tgt := 183) dX5_drift_56 (by decide) (by omega) (by omega) ?_ ?_ | refine jw_icmp_ge (pc := 56) (tgt := 183) dX5_drift_56 (by decide) ?_ ?_
        · intro h_56
          refine jw_aload_n (pc := 183) dX5_drift_183 rfl ?_
          refine jw_iload_n (pc := 184) dX5_drift_184 rfl ?_
          refine jw_iconst (pc := 185) dX5_drift_185 ic_0 ?_
          refine jx_cVi (mi1 := mi_X5_told) (pc := 186) rfl dX5_drift_186 lk_X5_66 rfl fi_X5_told rfl rfl rfl (by decide) (is_90 hS) (t_X5_told0 hM) (by first | decide | omega) rfl rfl (by decide) ?_
          intro x_186 M_186 q_186
          refine jw_ireturn (pc := 189) dX5_drift_189 rfl (rfl) ?_
          obtain ⟨e1, hM2, hf2⟩ := q_186
          have e : o_drift σ = (nI (drR V σ).2.2, sgD (sgT σ 0 (-1)) (drT σ) (drR V σ).1 (drR V σ).2.1) := by unfold o_drift; rw [hv9]; simp only [hlaw]; rfl
          rw [e]; exact ⟨_, rfl, e1, hM2, hf.tr hf2⟩
        · intro h_56
          omega
    refine jw_aload_n (pc := 0) dX5_drift_0 rfl ?_
    refine jw_iconst (pc := 1) dX5_drift_1 ic_0 ?_
    refine jx_putI (pc := 2) jf_X5_56_4 rfl dX5_drift_2 rfl rfl (is_90 hS) (by decide) ?_
    have hM := mthr (x := nI 0) h
    have hf : jfm M (js_I M 90 49 (nI 0)) := jsm.I (by decide)
    generalize js_I M 90 49 (nI 0) = M0 at hM hf ⊢
    clear hS
    have hS := hM.1
    obtain ⟨w, hs, hN⟩ := hM.so hv9
    have hw := hs.s
    refine jw_aload_n (pc := 5) dX5_drift_5 rfl ?_
    refine jx_getRs (pc := 6) (jf_X5_380_4.r) rfl dX5_drift_6 rfl (is_90 hS) (by decide) (hs.r) ?_
    refine jw_ifnonnull (pc := 9) (tgt := 18) dX5_drift_9 (by decide) (fun ax h => ?_) (fun h => by cases h)
    clear h
    refine jw_aload_n (pc := 18) dX5_drift_18 rfl ?_
    refine jx_cVE (mi1 := mi_X5_isLawfulNow) (pc := 19) rfl dX5_drift_19 lk_X5_446 rfl fi_X5_isLawfulNow rfl rfl rfl (by decide) (is_90 hS) (t_X5_isLawfulNow hs hN hM.2.1 hv9 (by decide) (by decide)) (by first | decide | omega) rfl rfl (by decide) ?_
    first | refine jx_ifb_ne (pc := 22) (tgt := 31) dX5_drift_22 (by decide) ?_ ?_ | refine jx_if_ne (pc := 22) (tgt := 31) dX5_drift_22 (by decide) (by omega) ?_ ?_ | refine jw_if_ne (pc := 22) (tgt := 31) dX5_drift_22 (by decide) ?_ ?_
    · intro h_22
      refine jw_aload_n (pc := 31) dX5_drift_31 rfl ?_
      refine jw_aload_n (pc := 32) dX5_drift_32 rfl ?_
      refine jx_getIs (pc := 33) (jf_X5_383_4.r) rfl dX5_drift_33 rfl (is_90 hS) (by decide) (hN.1) ?_
      refine jw_iconst (pc := 36) dX5_drift_36 ic_1 ?_
      first | refine jx_iadd (pc := 37) dX5_drift_37 ?_ | refine jw_iadd (pc := 37) dX5_drift_37 ?_
      refine jw_bipush (pc := 38) dX5_drift_38 bp_100 ?_
      refine jw_irem (pc := 40) dX5_drift_40 (by decide +kernel) ?_
      rw [i_rem (by omega) (by decide) (by decide), show (sn σ 0 + 1) % 100 = drT σ from rfl]
      refine jx_putI (pc := 41) jf_X5_383_4 rfl dX5_drift_41 rfl rfl (is_90 hS) (by decide) ?_
      have hM2 := mstep hM ht9
      rw [sgD_0] at hM2
      have hf2 : jfm M (js_I M0 90 70 (nI (drT σ))) := hf.tr (jsm.I (by decide))
      generalize js_I M0 90 70 (nI (drT σ)) = M2 at hM2 hf2 ⊢
      clear hS
      have hS := hM2.1
      refine jw_iconst (pc := 44) dX5_drift_44 ic_0 ?_
      refine jw_istore_n (pc := 45) dX5_drift_45 (Nat.le_of_ble_eq_true rfl) rfl ?_
      try dsimp only [jput1, jput2, jkill, jclr, jis2_i, jis2_l, jis2_rs, jis2_rn, cond]
      refine jw_iconst (pc := 46) dX5_drift_46 ic_0 ?_
      refine jw_istore_n (pc := 47) dX5_drift_47 (Nat.le_of_ble_eq_true rfl) rfl ?_
      try dsimp only [jput1, jput2, jkill, jclr, jis2_i, jis2_l, jis2_rs, jis2_rn, cond]
      refine jW.sub ?_ (J h_22 (0, M2) ⟨Nat.zero_le _, hM2, hf2⟩)
      exact ⟨rfl, rfl, rfl, trivial⟩
    · intro h_22
      refine jw_aload_n (pc := 25) dX5_drift_25 rfl ?_
      refine jw_iconst (pc := 26) dX5_drift_26 ic_5 ?_
      refine jx_cVi (mi1 := mi_X5_refused) (pc := 27) rfl dX5_drift_27 lk_X5_62 rfl fi_X5_refused rfl rfl rfl (by decide) (is_90 hS) (t_X5_refused hM) (by first | decide | omega) rfl rfl (by decide) ?_
      intro x_27 M_27 q_27
      refine jw_ireturn (pc := 30) dX5_drift_30 rfl (rfl) ?_
      obtain ⟨e1, hM2, hf2⟩ := q_27
      have e : o_drift σ = (-1, sgT σ 5 (-1)) := by unfold o_drift; rw [hv9]; simp only [show lawfulV V (sa σ 0) (sn σ 0) = false from h_22]; rfl
      rw [e]; exact ⟨_, rfl, e1, hM2, hf.tr hf2⟩
end JMDR
