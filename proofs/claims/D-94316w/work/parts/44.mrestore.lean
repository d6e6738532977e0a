/-! ===== restore, by the reference ===== -/
theorem sgA_A (τ : Sg) (f g : Nat → Nat) : sgA (sgA τ 0 f) 0 g = sgA τ 0 g := by
  refine Prod.ext rfl (Prod.ext rfl (Prod.ext rfl (Prod.ext (funext fun j => funext fun k => ?_) rfl)))
  show (if j = 0 then g k else (if j = 0 then f k else sa τ j k)) = if j = 0 then g k else sa τ j k
  by_cases e : j = 0
  · rw [if_pos e, if_pos e]
  · rw [if_neg e, if_neg e, if_neg e]
theorem sgD_AA (τ : Sg) (t s : Nat) (f g : Nat → Nat) : sgD (sgA τ 0 f) t s g = sgD τ t s g := by
  refine Prod.ext rfl (Prod.ext rfl (Prod.ext rfl (Prod.ext (funext fun j => funext fun k => ?_) rfl)))
  show (if j = 0 then g k else (if j = 0 then f k else sa τ j k)) = if j = 0 then g k else sa τ j k
  by_cases e : j = 0
  · rw [if_pos e, if_pos e]
  · rw [if_neg e, if_neg e, if_neg e]
theorem mcong {M : Mm} {τ : Sg} {V : Vt} {f g : Nat → Nat} (h : jMm M (sgA τ 0 f)) (hv9 : sv τ = some V) (e : ∀ p, p < V 0 1 → g p = f p) : jMm M (sgA τ 0 g) := by
  have h2 := mput (f := g) h (M1 := M) jsm.rf h.1 (fun _ => rfl) (fun _ => rfl) (fun _ => rfl) (fun _ => rfl) (fun W hW p hp => by
    have eW : W = V := Option.some.inj ((show sv τ = some W from hW).symm.trans hv9)
    subst eW
    obtain ⟨w, hs, hN⟩ := h.so (V := W) hW
    obtain ⟨o1, o2, o3⟩ := h.2.1.2 W hW
    rw [e p hp]
    exact ⟨hN.2.2.2.1 p hp, o2 p hp⟩)
  rw [sgA_A] at h2
  exact h2
theorem mcong0 {M : Mm} {τ : Sg} {V : Vt} {f : Nat → Nat} (h : jMm M τ) (hv9 : sv τ = some V) : jMm M (sgA τ 0 (fun p => if p < 0 then f p else sa τ 0 p)) :=
  mput h (M1 := M) jsm.rf h.1 (fun _ => rfl) (fun _ => rfl) (fun _ => rfl) (fun _ => rfl) (fun W hW p hp => by
    obtain ⟨w, hs, hN⟩ := h.so (V := W) hW
    obtain ⟨o1, o2, o3⟩ := h.2.1.2 W hW
    rw [if_neg (Nat.not_lt_zero _)]
    exact ⟨hN.2.2.2.1 p hp, o2 p hp⟩)
section JMRS
variable {G : Gh} {M : Mm} {σ : Sg}
theorem lp_mr89 {M9 M2 : Mm} {q : Nat} {z : Int32} {P : Rs → Mm → Prop} {x1 : Value} {l : Nat} {b1 b2 : Bool} (hl : l < 2 ^ 63) (hj : 1 ≤ q) (hz : z = nI q - nI 1) (ih : jW G mi_X5_restore 9 M9 44 [some (jr (some 90)), some x1, none, some (.long (lN (l / 10))), none, some (.int (jb b2)), some (.int (nI (q - 1) - nI 1))] [] M2 P) : jW G mi_X5_restore 9 M9 89 [some (jr (some 90)), some x1, none, some (.long (lN l)), none, some (.int (jb b1)), some (.int z)] [.int (jb b2)] M2 P := by
  subst hz
  have e := zdec hj
  generalize nI q - nI 1 = z at e ⊢
  refine jw_istore (pc := 89) dX5_restore_89 (Nat.le_of_ble_eq_true rfl) rfl ?_
  try dsimp only [jput1, jput2, jkill, jclr, jis2_i, jis2_l, jis2_rs, jis2_rn, cond]
  refine jw_lload_n (pc := 91) dX5_restore_91 rfl ?_
  refine jw_ldc2 (pc := 92) q2245 rfl dX5_restore_92 ?_
  refine jw_ldiv (pc := 95) dX5_restore_95 (by decide +kernel) ?_
  rw [show (10 : Int64) = lN 10 from rfl, pk_lDiv hl (by decide) (by decide)]
  refine jw_lstore_n (pc := 96) dX5_restore_96 (Nat.le_of_ble_eq_true rfl) rfl ?_
  try dsimp only [jput1, jput2, jkill, jclr, jis2_i, jis2_l, jis2_rs, jis2_rn, cond]
  refine jw_iinc (pc := 97) dX5_restore_97 rfl rfl rfl ?_
  try dsimp only [jput1, jkill, jclr, jis2_i, jis2_l, jis2_rs, jis2_rn, cond]
  refine jw_goto (pc := 100) (tgt := 44) dX5_restore_100 (by decide) ?_
  refine jW.eq ?_ rfl rfl ih
  rw [e]
theorem lp_mrcopy {M9 M0 : Mm} {n : Nat} {V : Vt} {τ : Sg} {f : Nat → Nat} {P : Rs → Mm → Prop} {x1 : Value} (hv9 : sv τ = some V) (hn : n < 2 ^ 63) (hl : n / 100 < 65537) (hf9 : ∀ p, p < V 0 1 → f p < V 0 0)
    (h : ∀ x M', (x = 1 ∧ jMm M' (sgT (sgD τ (n % 100) (n / 100) f) 0 (-1)) ∧ jfm M0 M') → P (.inl (some (.int 1))) M') :
    ∀ x : Nat × Mm, (x.1 ≤ V 0 1 ∧ jMm x.2 (sgA τ 0 (fun p => if p < x.1 then f p else sa τ 0 p)) ∧ jfm M0 x.2 ∧ ∀ p, p < V 0 1 → jm_A x.2 93 p = nI (f p)) → jW G mi_X5_restore 9 M9 129 [some (jr (some 90)), some x1, none, some (.long (lN n)), none, none, some (.int (nI x.1))] [] x.2 P := by
  refine jW.loop (σ := Nat × Mm) _ (fun x => V 0 1 - x.1) _ (fun _ => []) (fun x => x.2) (fun x hI ih => ?_)
  obtain ⟨j, M1⟩ := x
  obtain ⟨hj, hM, hf, ha⟩ := hI
  dsimp only at hj hM hf ha ih ⊢
  have hS := hM.1
  obtain ⟨w, hs, hN⟩ := hM.so (V := V) hv9
  have hw := hs.s
  have hnq := wf_nq hs.w
  by_cases hkn : j < V 0 1
  · have hM2 := mput1 (p := j) (V := V) hM hv9 (hf9 j hkn)
    have hM3 := mcong (V := V) (τ := τ) (g := fun p => if p < j + 1 then f p else sa τ 0 p) (by rw [sgA_A] at hM2; exact hM2) hv9 (fun p hp => by
      by_cases e : p = j
      · rw [if_pos e, if_pos (by omega), e]
      · rw [if_neg e]
        show _ = if p < j then f p else sa τ 0 p
        by_cases e2 : p < j
        · rw [if_pos e2, if_pos (by omega)]
        · rw [if_neg e2, if_neg (by omega)])
    refine jw_iload (pc := 129) dX5_restore_129 rfl ?_
    refine jw_aload_n (pc := 131) dX5_restore_131 rfl ?_
    refine jx_getRs (pc := 132) (jf_X5_380_4.r) rfl dX5_restore_132 rfl (is_90 hS) (by decide) (hs.r) ?_
    refine jx_getIs (pc := 135) (jf_X5_221_12.r) rfl dX5_restore_135 rfl (wis hw) (by decide) (mi_nq hs.V) ?_
    first | refine jx_icmp_ge (pc := 138) (tgt := 161) dX5_restore_138 (by decide) (by omega) (by omega) ?_ ?_ | refine jw_icmp_ge (pc := 138) (tgt := 161) dX5_restore_138 (by decide) ?_ ?_
    · intro h_138
      omega
    · intro h_138
      refine jw_aload_n (pc := 141) dX5_restore_141 rfl ?_
      refine jx_getRs (pc := 142) (jf_X5_17_4.r) rfl dX5_restore_142 rfl (is_90 hS) (by decide) (sr_90_68 hS) ?_
      refine jw_iload (pc := 145) dX5_restore_145 rfl ?_
      refine jw_aload_n (pc := 147) dX5_restore_147 rfl ?_
      refine jx_getRs (pc := 148) (jf_X5_21_4.r) rfl dX5_restore_148 rfl (is_90 hS) (by decide) (sr_90_69 hS) ?_
      refine jw_iload (pc := 151) dX5_restore_151 rfl ?_
      refine jx_ialds (pc := 153) dX5_restore_153 (ok_93 hS) (nn_93 hS) rfl (by omega) (ha j hkn) ?_
      refine jx_iast (pc := 154) dX5_restore_154 (by decide) (ok_92 hS) (nn_92 hS) rfl (by omega) ?_
      first | refine jx_iinc (pc := 155) dX5_restore_155 rfl rfl ?_ | refine jw_iinc (pc := 155) dX5_restore_155 rfl rfl rfl ?_
      try dsimp only [jput1, jkill, jclr, jis2_i, jis2_l, jis2_rs, jis2_rn, cond]
      refine jw_goto (pc := 158) (tgt := 129) dX5_restore_158 (by decide) ?_
      exact ih (j + 1, js_A M1 92 j (nI (f j))) ⟨hkn, hM3, hf.tr (jsm.A (by decide)), fun p hp => (jA_oth2 (by decide)).trans (ha p hp)⟩ (by dsimp only; omega)
  · have hk' : j = V 0 1 := by omega
    subst hk'
    have hM1 := mcong (V := V) (τ := τ) (g := f) hM hv9 (fun p hp => by show f p = if p < V 0 1 then f p else sa τ 0 p; rw [if_pos hp])
    have ht : n % 100 < 100 := Nat.mod_lt _ (by decide)
    have hM2 := mseed (mstep hM1 ht) hl
    rw [sgD_0, sgD_N, sgD_AA] at hM2
    have hM2 : jMm (js_I (js_I M1 90 70 (nI (n % 100))) 90 71 (nI (n / 100))) (sgD τ (n % 100) (n / 100) f) := hM2
    have hf2 : jfm M0 (js_I (js_I M1 90 70 (nI (n % 100))) 90 71 (nI (n / 100))) := hf.tr ((jsm.I (by decide)).tr (jsm.I (by decide)))
    refine jw_iload (pc := 129) dX5_restore_129 rfl ?_
    refine jw_aload_n (pc := 131) dX5_restore_131 rfl ?_
    refine jx_getRs (pc := 132) (jf_X5_380_4.r) rfl dX5_restore_132 rfl (is_90 hS) (by decide) (hs.r) ?_
    refine jx_getIs (pc := 135) (jf_X5_221_12.r) rfl dX5_restore_135 rfl (wis hw) (by decide) (mi_nq hs.V) ?_
    first | refine jx_icmp_ge (pc := 138) (tgt := 161) dX5_restore_138 (by decide) (by omega) (by omega) ?_ ?_ | refine jw_icmp_ge (pc := 138) (tgt := 161) dX5_restore_138 (by decide) ?_ ?_
    · intro h_138
      refine jw_aload_n (pc := 161) dX5_restore_161 rfl ?_
      refine jw_lload_n (pc := 162) dX5_restore_162 rfl ?_
      refine jw_ldc2 (pc := 163) q2244 rfl dX5_restore_163 ?_
      refine jw_lrem (pc := 166) dX5_restore_166 (by decide +kernel) ?_
      rw [show (100 : Int64) = lN 100 from rfl, pk_lRem hn (by decide) (by decide)]
      refine jw_l2i (pc := 167) dX5_restore_167 (lN_i _) ?_
      refine jx_putI (pc := 168) jf_X5_383_4 rfl dX5_restore_168 rfl rfl (is_90 hS) (by decide) ?_
      refine jw_aload_n (pc := 171) dX5_restore_171 rfl ?_
      refine jw_lload_n (pc := 172) dX5_restore_172 rfl ?_
      refine jw_ldc2 (pc := 173) q2244 rfl dX5_restore_173 ?_
      refine jw_ldiv (pc := 176) dX5_restore_176 (by decide +kernel) ?_
      rw [show (100 : Int64) = lN 100 from rfl, pk_lDiv hn (by decide) (by decide)]
      refine jw_l2i (pc := 177) dX5_restore_177 (lN_i _) ?_
      refine jx_putI (pc := 178) jf_X5_386_4 rfl dX5_restore_178 rfl rfl (is_90 hS) (by decide) ?_
      refine jw_aload_n (pc := 181) dX5_restore_181 rfl ?_
      refine jx_cVi (mi1 := mi_X5_granted) (pc := 182) rfl dX5_restore_182 lk_X5_440 rfl fi_X5_granted rfl rfl rfl (by decide) (is_90 hS) (t_X5_granted hM2) (by first | decide | omega) rfl rfl (by decide) ?_
      intro x_182 M_182 q_182
      refine jw_ireturn (pc := 185) dX5_restore_185 rfl (by rw [q_182.1]; decide +kernel) ?_
      obtain ⟨e1, q1, q2⟩ := q_182
      subst e1
      exact h _ _ ⟨rfl, q1, hf2.tr q2⟩
    · intro h_138
      omega
theorem lp_mrloop {M9 M0 : Mm} {n : Nat} {V : Vt} {τ : Sg} {P : Rs → Mm → Prop} {x1 : Value} (hv9 : sv τ = some V) (hn : n < 2 ^ 63)
    (h1 : ∀ (M' : Mm) (b : Bool) (l : Nat), jMm M' τ → jfm M0 M' → l < 2 ^ 63 → (b = true → l = resL V n ∧ (∀ p, p < V 0 1 → jm_A M' 93 p = nI (resA V n p))) → b = allB (V 0 1) (digR V n) → jW G mi_X5_restore 9 M9 103 [some (jr (some 90)), some x1, none, some (.long (lN l)), none, some (.int (jb b)), none] [] M' P) :
    ∀ x : Nat × Mm, (x.1 ≤ V 0 1 ∧ jMm x.2 τ ∧ jfm M0 x.2 ∧ ∀ p, p < V 0 1 → V 0 1 - x.1 ≤ p → jm_A x.2 93 p = nI (resA V n p)) → jW G mi_X5_restore 9 M9 44 [some (jr (some 90)), some x1, none, some (.long (lN (n / 10 ^ x.1))), none, some (.int (jb (allB x.1 (digR V n)))), some (.int (nI (V 0 1 - x.1) - nI 1))] [] x.2 P := by
  refine jW.loop (σ := Nat × Mm) _ (fun x => V 0 1 - x.1) _ (fun _ => []) (fun x => x.2) (fun x hI ih => ?_)
  obtain ⟨j, M1⟩ := x
  obtain ⟨hj, hM, hf, ha⟩ := hI
  dsimp only at hj hM hf ha ih ⊢
  have hS := hM.1
  obtain ⟨w, hs, hN⟩ := hM.so hv9
  have hw := hs.s
  have hnq := wf_nq hs.w
  have hnp := wf_np hs.w
  have hl : n / 10 ^ j < 2 ^ 63 := Nat.lt_of_le_of_lt (Nat.div_le_self _ _) hn
  by_cases hkn : j < V 0 1
  · have hdl : n / 10 ^ j % 10 < 10 := Nat.mod_lt _ (by decide)
    have er : resA V n (V 0 1 - j - 1) = n / 10 ^ j % 10 := by unfold resA; rw [show V 0 1 - 1 - (V 0 1 - j - 1) = j by omega]
    have hM2 : jMm (js_A M1 93 (V 0 1 - j - 1) (nI (n / 10 ^ j % 10))) τ := mA hM (by unfold msa; omega)
    have hf2 : jfm M0 (js_A M1 93 (V 0 1 - j - 1) (nI (n / 10 ^ j % 10))) := hf.tr (jsm.A (by decide))
    have ha2 : ∀ p, p < V 0 1 → V 0 1 - (j + 1) ≤ p → jm_A (js_A M1 93 (V 0 1 - j - 1) (nI (n / 10 ^ j % 10))) 93 p = nI (resA V n p) := fun p hp hp2 => by
      by_cases e : p = V 0 1 - j - 1
      · subst e; rw [jA_same, er]
      · exact (jA_oth e).trans (ha p hp (by omega))
    have ih2 := ih (j + 1, js_A M1 93 (V 0 1 - j - 1) (nI (n / 10 ^ j % 10))) ⟨hkn, hM2, hf2, ha2⟩ (by dsimp only; omega)
    dsimp only at ih2
    rw [show V 0 1 - (j + 1) = V 0 1 - j - 1 by omega, ← dv10] at ih2
    rw [sub1 (show 1 ≤ V 0 1 - j by omega)]
    refine jw_iload (pc := 44) dX5_restore_44 rfl ?_
    refine jw_if_lt (pc := 46) (tgt := 103) dX5_restore_46 (by decide) ?_ ?_
    · intro h_46
      exact absurd h_46 (nI_nn (by omega))
    · intro h_46
      refine jw_iload (pc := 49) dX5_restore_49 rfl ?_
      first | refine jx_ifb_eq (pc := 51) (tgt := 103) dX5_restore_51 (by decide) ?_ ?_ | refine jx_if_eq (pc := 51) (tgt := 103) dX5_restore_51 (by decide) (by omega) ?_ ?_ | refine jw_if_eq (pc := 51) (tgt := 103) dX5_restore_51 (by decide) ?_ ?_
      · intro h_51
        refine jW.sub ?_ (h1 M1 (allB j (digR V n)) (n / 10 ^ j) hM hf hl (fun e => by rw [h_51] at e; cases e) (by rw [h_51, allB_f (Nat.le_of_lt hkn) h_51]))
        exact ⟨rfl, rfl, rfl, rfl, trivial⟩
      · intro h_51
        refine jw_aload_n (pc := 54) dX5_restore_54 rfl ?_
        refine jx_getRs (pc := 55) (jf_X5_21_4.r) rfl dX5_restore_55 rfl (is_90 hS) (by decide) (sr_90_69 hS) ?_
        refine jw_iload (pc := 58) dX5_restore_58 rfl ?_
        refine jw_lload_n (pc := 60) dX5_restore_60 rfl ?_
        refine jw_ldc2 (pc := 61) q2245 rfl dX5_restore_61 ?_
        refine jw_lrem (pc := 64) dX5_restore_64 (by decide +kernel) ?_
        rw [show (10 : Int64) = lN 10 from rfl, pk_lRem hl (by decide) (by decide)]
        refine jw_l2i (pc := 65) dX5_restore_65 (lN_i _) ?_
        refine jx_iast (pc := 66) dX5_restore_66 (by decide) (ok_93 hS) (nn_93 hS) rfl (by omega) ?_
        obtain ⟨w, hs, hN⟩ := hM2.so hv9
        have hw := hs.s
        refine jw_aload_n (pc := 67) dX5_restore_67 rfl ?_
        refine jx_getRs (pc := 68) (jf_X5_21_4.r) rfl dX5_restore_68 rfl (is_90 hS) (by decide) (sr_90_69 hS) ?_
        refine jw_iload (pc := 71) dX5_restore_71 rfl ?_
        refine jx_ialds (pc := 73) dX5_restore_73 (ok_93 hS) (nn_93 hS) rfl (by omega) (jA_same) ?_
        refine jw_aload_n (pc := 74) dX5_restore_74 rfl ?_
        refine jx_getRs (pc := 75) (jf_X5_380_4.r) rfl dX5_restore_75 rfl (is_90 hS) (by decide) (hs.r) ?_
        refine jx_getIs (pc := 78) (jf_X5_218_12.r) rfl dX5_restore_78 rfl (wis hw) (by decide) (mi_np hs.V) ?_
        first | refine jx_icmp_ge (pc := 81) (tgt := 88) dX5_restore_81 (by decide) (by omega) (by omega) ?_ ?_ | refine jw_icmp_ge (pc := 81) (tgt := 88) dX5_restore_81 (by decide) ?_ ?_
        · intro h_81
          refine jw_iconst (pc := 88) dX5_restore_88 ic_0 ?_
          refine jw_ff (b := allB (j + 1) (digR V n)) ?_ (lp_mr89 (q := V 0 1 - j) hl (by omega) (sub1 (by omega)).symm ih2)
          rw [allB_s, show digR V n j = false from decide_eq_false (by omega), Bool.and_false]
        · intro h_81
          refine jw_iconst (pc := 84) dX5_restore_84 ic_1 ?_
          refine jw_goto (pc := 85) (tgt := 89) dX5_restore_85 (by decide) ?_
          refine jw_tt (b := allB (j + 1) (digR V n)) ?_ (lp_mr89 (q := V 0 1 - j) hl (by omega) (sub1 (by omega)).symm ih2)
          rw [allB_s, h_51]; exact decide_eq_true h_81
  · have hk' : j = V 0 1 := by omega
    subst hk'
    refine jw_iload (pc := 44) dX5_restore_44 rfl ?_
    refine jw_if_lt (pc := 46) (tgt := 103) dX5_restore_46 (by decide) ?_ ?_
    · intro h_46
      refine jW.sub ?_ (h1 M1 (allB (V 0 1) (digR V n)) (n / 10 ^ V 0 1) hM hf hl (fun _ => ⟨rfl, fun p hp => ha p hp (by omega)⟩) rfl)
      exact ⟨rfl, rfl, rfl, rfl, trivial⟩
    · intro h_46
      exact absurd (by rw [Nat.sub_self]; decide +kernel) h_46
theorem t_X5_restore {x : Int64} (h : jMm M σ) : jT G mi_X5_restore 9 [jr (some 90), .long x] M (jOm M (o_restore σ x)) := by
  have hS := h.1
  refine jT.of (by decide) rfl (Nat.le_of_ble_eq_true rfl) ?_
  cases hv9 : sv σ with
  | none =>
    refine jw_aload_n (pc := 0) dX5_restore_0 rfl ?_
    refine jw_iconst (pc := 1) dX5_restore_1 ic_0 ?_
    refine jx_putI (pc := 2) jf_X5_56_4 rfl dX5_restore_2 rfl rfl (is_90 hS) (by decide) ?_
    have hM := mthr (x := nI 0) h
    have hf : jfm M (js_I M 90 49 (nI 0)) := jsm.I (by decide)
    generalize js_I M 90 49 (nI 0) = M0 at hM hf ⊢
    clear hS
    have hS := hM.1
    refine jw_aload_n (pc := 5) dX5_restore_5 rfl ?_
    refine jx_getRs (pc := 6) (jf_X5_380_4.r) rfl dX5_restore_6 rfl (is_90 hS) (by decide) (hM.no hv9) ?_
    refine jw_ifnonnull (pc := 9) (tgt := 18) dX5_restore_9 (by decide) (fun ax h => by cases h) (fun h => ?_)
    clear h
    refine jw_aload_n (pc := 12) dX5_restore_12 rfl ?_
    refine jw_iconst (pc := 13) dX5_restore_13 ic_1 ?_
    refine jx_cVi (mi1 := mi_X5_denied) (pc := 14) rfl dX5_restore_14 lk_X5_437 rfl fi_X5_denied rfl rfl rfl (by decide) (is_90 hS) (t_X5_denied hM) (by first | decide | omega) rfl rfl (by decide) ?_
    intro x_14 M_14 q_14
    refine jw_ireturn (pc := 17) dX5_restore_17 rfl (by rw [q_14.1]; decide +kernel) ?_
    obtain ⟨e1, hM2, hf2⟩ := q_14
    have e : o_restore σ x = (0, sgT σ 1 (-1)) := by unfold o_restore; rw [hv9]
    rw [e]; exact ⟨_, rfl, e1, hM2, hf.tr hf2⟩
  | some V =>
    have hn1 := (h.2.1.1.2 V hv9).2.1
    have hnq := wf_nq (h.2.1.2 V hv9).1
    have L31n : ∀ M0, jMm M0 σ → jfm M M0 → x < 0 → jW G mi_X5_restore 9 M 31 [some (jr (some 90)), some (.long x), none, some (.long x), none, none, none] [.int (nI 0)] M0 (jOm M (o_restore σ x)) := by
      intro M0 hM hf hx
      have hS := hM.1
      obtain ⟨w, hs, hN⟩ := hM.so hv9
      have hw := hs.s
      refine jw_istore (pc := 31) dX5_restore_31 (Nat.le_of_ble_eq_true rfl) rfl ?_
      try dsimp only [jput1, jput2, jkill, jclr, jis2_i, jis2_l, jis2_rs, jis2_rn, cond]
      refine jw_aload_n (pc := 33) dX5_restore_33 rfl ?_
      refine jx_getRs (pc := 34) (jf_X5_380_4.r) rfl dX5_restore_34 rfl (is_90 hS) (by decide) (hs.r) ?_
      refine jx_getIs (pc := 37) (jf_X5_221_12.r) rfl dX5_restore_37 rfl (wis hw) (by decide) (mi_nq hs.V) ?_
      refine jw_iconst (pc := 40) dX5_restore_40 ic_1 ?_
      refine jw_isub (pc := 41) dX5_restore_41 ?_
      rw [sub1 hn1]
      refine jw_istore (pc := 42) dX5_restore_42 (Nat.le_of_ble_eq_true rfl) rfl ?_
      try dsimp only [jput1, jput2, jkill, jclr, jis2_i, jis2_l, jis2_rs, jis2_rn, cond]
      refine jw_iload (pc := 44) dX5_restore_44 rfl ?_
      refine jw_if_lt (pc := 46) (tgt := 103) dX5_restore_46 (by decide) ?_ ?_
      · intro h_46
        exact absurd h_46 (nI_nn (by omega))
      · intro h_46
        refine jw_iload (pc := 49) dX5_restore_49 rfl ?_
        refine jw_if_eq (pc := 51) (tgt := 103) dX5_restore_51 (by decide) ?_ ?_
        · intro h_51
          refine jw_iload (pc := 103) dX5_restore_103 rfl ?_
          refine jw_if_eq (pc := 105) (tgt := 120) dX5_restore_105 (by decide) ?_ ?_
          · intro h_105
            refine jw_aload_n (pc := 120) dX5_restore_120 rfl ?_
            refine jw_iconst (pc := 121) dX5_restore_121 ic_2 ?_
            refine jx_cVi (mi1 := mi_X5_denied) (pc := 122) rfl dX5_restore_122 lk_X5_437 rfl fi_X5_denied rfl rfl rfl (by decide) (is_90 hS) (t_X5_denied hM) (by first | decide | omega) rfl rfl (by decide) ?_
            intro x_122 M_122 q_122
            refine jw_ireturn (pc := 125) dX5_restore_125 rfl (by rw [q_122.1]; decide +kernel) ?_
            obtain ⟨e1, hM2, hf2⟩ := q_122
            rw [ores_n hv9 hx]; exact ⟨_, rfl, e1, hM2, hf.tr hf2⟩
          · intro h_105
            exact absurd (by decide +kernel) h_105
        · intro h_51
          exact absurd (by decide +kernel) h_51
    have L31 : ∀ n : Nat, n < 2 ^ 63 → ∀ M0, jMm M0 σ → jfm M M0 → jW G mi_X5_restore 9 M 31 [some (jr (some 90)), some (.long (lN n)), none, some (.long (lN n)), none, none, none] [.int (nI 1)] M0 (jOm M (o_restore σ (lN n))) := by
      intro n hn M0 hM hf
      have hrl : resL V n < 2 ^ 63 := Nat.lt_of_le_of_lt (Nat.div_le_self _ _) hn
      have hrl2 : resL V n / 100 < 2 ^ 63 := Nat.lt_of_le_of_lt (Nat.div_le_self _ _) hrl
      have L103 : ∀ (M' : Mm) (b : Bool) (l : Nat), jMm M' σ → jfm M M' → l < 2 ^ 63 → (b = true → l = resL V n ∧ (∀ p, p < V 0 1 → jm_A M' 93 p = nI (resA V n p))) → b = allB (V 0 1) (digR V n) → jW G mi_X5_restore 9 M 103 [some (jr (some 90)), some (.long (lN n)), none, some (.long (lN l)), none, some (.int (jb b)), none] [] M' (jOm M (o_restore σ (lN n))) := by
        intro M' b l hM hf hl hb hb2
        have hS := hM.1
        have hl2 : l / 100 < 2 ^ 63 := Nat.lt_of_le_of_lt (Nat.div_le_self _ _) hl
        refine jw_iload (pc := 103) dX5_restore_103 rfl ?_
        first | refine jx_ifb_eq (pc := 105) (tgt := 120) dX5_restore_105 (by decide) ?_ ?_ | refine jx_if_eq (pc := 105) (tgt := 120) dX5_restore_105 (by decide) (by omega) ?_ ?_ | refine jw_if_eq (pc := 105) (tgt := 120) dX5_restore_105 (by decide) ?_ ?_
        · intro h_105
          refine jw_aload_n (pc := 120) dX5_restore_120 rfl ?_
          refine jw_iconst (pc := 121) dX5_restore_121 ic_2 ?_
          refine jx_cVi (mi1 := mi_X5_denied) (pc := 122) rfl dX5_restore_122 lk_X5_437 rfl fi_X5_denied rfl rfl rfl (by decide) (is_90 hS) (t_X5_denied hM) (by first | decide | omega) rfl rfl (by decide) ?_
          intro x_122 M_122 q_122
          refine jw_ireturn (pc := 125) dX5_restore_125 rfl (by rw [q_122.1]; decide +kernel) ?_
          obtain ⟨e1, hM2, hf2⟩ := q_122
          have h9 : (allB (V 0 1) (digR V n) && decide (resL V n / 100 < 65537)) = false := by
            first
              | (rw [← hb2, h_105]; rfl)
              | (obtain ⟨e2, e3⟩ := hb h_105
                 have h8 : ¬ lN (l / 100) < lN 65537 := fun c => h_117 (cmp_lt.mpr c)
                 rw [pk_lLT hl2 (by decide), e2] at h8
                 rw [decide_eq_false h8, Bool.and_false])
          rw [ores_2 hv9 hn h9]; exact ⟨_, rfl, e1, hM2, hf.tr hf2⟩
        · intro h_105
          refine jw_lload_n (pc := 108) dX5_restore_108 rfl ?_
          refine jw_ldc2 (pc := 109) q2244 rfl dX5_restore_109 ?_
          refine jw_ldiv (pc := 112) dX5_restore_112 (by decide +kernel) ?_
          rw [show (100 : Int64) = lN 100 from rfl, pk_lDiv hl (by decide) (by decide)]
          refine jw_ldc2 (pc := 113) q2239 rfl dX5_restore_113 ?_
          refine jw_lcmp (pc := 116) dX5_restore_116 ?_
          refine jw_if_lt (pc := 117) (tgt := 126) dX5_restore_117 (by decide) ?_ ?_
          · intro h_117
            refine jw_iconst (pc := 126) dX5_restore_126 ic_0 ?_
            refine jw_istore (pc := 127) dX5_restore_127 (Nat.le_of_ble_eq_true rfl) rfl ?_
            try dsimp only [jput1, jput2, jkill, jclr, jis2_i, jis2_l, jis2_rs, jis2_rn, cond]
            obtain ⟨e2, e3⟩ := hb h_105
            have h8 : lN (l / 100) < lN 65537 := cmp_lt.mp h_117
            rw [pk_lLT hl2 (by decide), e2] at h8
            have h9 : (allB (V 0 1) (digR V n) && decide (resL V n / 100 < 65537)) = true := by rw [← hb2, h_105, decide_eq_true h8]; rfl
            have hdg : ∀ p, p < V 0 1 → resA V n p < V 0 0 := fun p hp => of_decide_eq_true (allB_iff.mp (hb2.symm.trans h_105) (V 0 1 - 1 - p) (by omega))
            rw [e2]
            refine jW.sub (ls1 := [some (jr (some 90)), some (.long (lN n)), none, some (.long (lN (resL V n))), none, none, some (.int (nI 0))]) ⟨rfl, rfl, rfl, rfl, trivial⟩ ?_
            refine lp_mrcopy (M0 := M) (V := V) (τ := σ) (f := resA V n) hv9 hrl h8 hdg (fun z M2 q => ?_) (0, M') ⟨Nat.zero_le _, mcong0 hM hv9, hf, e3⟩
            rw [ores_1 hv9 hn h9]; exact ⟨_, rfl, rfl, q.2.1, q.2.2⟩
          · intro h_117
            refine jw_aload_n (pc := 120) dX5_restore_120 rfl ?_
            refine jw_iconst (pc := 121) dX5_restore_121 ic_2 ?_
            refine jx_cVi (mi1 := mi_X5_denied) (pc := 122) rfl dX5_restore_122 lk_X5_437 rfl fi_X5_denied rfl rfl rfl (by decide) (is_90 hS) (t_X5_denied hM) (by first | decide | omega) rfl rfl (by decide) ?_
            intro x_122 M_122 q_122
            refine jw_ireturn (pc := 125) dX5_restore_125 rfl (by rw [q_122.1]; decide +kernel) ?_
            obtain ⟨e1, hM2, hf2⟩ := q_122
            have h9 : (allB (V 0 1) (digR V n) && decide (resL V n / 100 < 65537)) = false := by
              first
                | (rw [← hb2, h_105]; rfl)
                | (obtain ⟨e2, e3⟩ := hb h_105
                   have h8 : ¬ lN (l / 100) < lN 65537 := fun c => h_117 (cmp_lt.mpr c)
                   rw [pk_lLT hl2 (by decide), e2] at h8
                   rw [decide_eq_false h8, Bool.and_false])
            rw [ores_2 hv9 hn h9]; exact ⟨_, rfl, e1, hM2, hf.tr hf2⟩
      have hS := hM.1
      obtain ⟨w, hs, hN⟩ := hM.so hv9
      have hw := hs.s
      refine jw_istore (pc := 31) dX5_restore_31 (Nat.le_of_ble_eq_true rfl) rfl ?_
      try dsimp only [jput1, jput2, jkill, jclr, jis2_i, jis2_l, jis2_rs, jis2_rn, cond]
      refine jw_aload_n (pc := 33) dX5_restore_33 rfl ?_
      refine jx_getRs (pc := 34) (jf_X5_380_4.r) rfl dX5_restore_34 rfl (is_90 hS) (by decide) (hs.r) ?_
      refine jx_getIs (pc := 37) (jf_X5_221_12.r) rfl dX5_restore_37 rfl (wis hw) (by decide) (mi_nq hs.V) ?_
      refine jw_iconst (pc := 40) dX5_restore_40 ic_1 ?_
      refine jw_isub (pc := 41) dX5_restore_41 ?_
      refine jw_istore (pc := 42) dX5_restore_42 (Nat.le_of_ble_eq_true rfl) rfl ?_
      try dsimp only [jput1, jput2, jkill, jclr, jis2_i, jis2_l, jis2_rs, jis2_rn, cond]
      refine jW.sub ?_ (lp_mrloop (M0 := M) (V := V) (n := n) hv9 hn L103 (0, M0) ⟨Nat.zero_le _, hM, hf, fun p hp hp2 => by omega⟩)
      exact ⟨rfl, rfl, by rw [Nat.pow_zero, Nat.div_one], rfl, rfl, trivial⟩
    refine jw_aload_n (pc := 0) dX5_restore_0 rfl ?_
    refine jw_iconst (pc := 1) dX5_restore_1 ic_0 ?_
    refine jx_putI (pc := 2) jf_X5_56_4 rfl dX5_restore_2 rfl rfl (is_90 hS) (by decide) ?_
    have hM := mthr (x := nI 0) h
    have hf : jfm M (js_I M 90 49 (nI 0)) := jsm.I (by decide)
    generalize js_I M 90 49 (nI 0) = M0 at hM hf ⊢
    clear hS
    have hS := hM.1
    obtain ⟨w, hs, hN⟩ := hM.so hv9
    refine jw_aload_n (pc := 5) dX5_restore_5 rfl ?_
    refine jx_getRs (pc := 6) (jf_X5_380_4.r) rfl dX5_restore_6 rfl (is_90 hS) (by decide) (hs.r) ?_
    refine jw_ifnonnull (pc := 9) (tgt := 18) dX5_restore_9 (by decide) (fun ax h => ?_) (fun h => by cases h)
    clear h
    refine jw_lload_n (pc := 18) dX5_restore_18 rfl ?_
    refine jw_lstore_n (pc := 19) dX5_restore_19 (Nat.le_of_ble_eq_true rfl) rfl ?_
    try dsimp only [jput1, jput2, jkill, jclr, jis2_i, jis2_l, jis2_rs, jis2_rn, cond]
    refine jw_lload_n (pc := 20) dX5_restore_20 rfl ?_
    refine jw_lconst (pc := 21) dX5_restore_21 rfl ?_
    refine jw_lcmp (pc := 22) dX5_restore_22 ?_
    refine jw_if_lt (pc := 23) (tgt := 30) dX5_restore_23 (by decide) ?_ ?_
    · intro h_23
      refine jw_iconst (pc := 30) dX5_restore_30 ic_0 ?_
      first
        | (refine jW.sub ?_ (L31n M0 hM hf (cmp_lt.mp h_23)); exact ⟨rfl, rfl, rfl, trivial⟩)
        | (obtain ⟨n, hn, e⟩ := pk_lOf (show ¬ x < 0 from fun c => h_23 (cmp_lt.mpr c))
           subst e
           refine jW.sub ?_ (L31 n hn M0 hM hf); exact ⟨rfl, rfl, rfl, trivial⟩)
    · intro h_23
      refine jw_iconst (pc := 26) dX5_restore_26 ic_1 ?_
      refine jw_goto (pc := 27) (tgt := 31) dX5_restore_27 (by decide) ?_
      first
        | (refine jW.sub ?_ (L31n M0 hM hf (cmp_lt.mp h_23)); exact ⟨rfl, rfl, rfl, trivial⟩)
        | (obtain ⟨n, hn, e⟩ := pk_lOf (show ¬ x < 0 from fun c => h_23 (cmp_lt.mpr c))
           subst e
           refine jW.sub ?_ (L31 n hn M0 hM hf); exact ⟨rfl, rfl, rfl, trivial⟩)
end JMRS
