/-! ===== x: doing ===== -/
theorem stay_s (V : Vt) (σ : Sg) (people t s n : Nat) : stayB V σ people t s (n + 1) = (stayB V σ people t s n && lawS V σ people (t + (n + 1)) s) := rfl
section JXD
variable {G : Gh} {M : Mm} {σ : Sg}
theorem t_X1_mayStay {people s t many : Nat} {V : Vt} (h : jXx M σ) (hv9 : sv σ = some V) (hm : jMv M V people) (hs9 : s < 2 ^ 30) (ht : t < 1000) (hmany : many < 1000) : jT G mi_X1_mayStay 7 [jr (some 64), .int (nI s), .int (nI t), .int (nI many)] M (jPi (fun r M' => r = jb (stayB V σ people t s many) ∧ jsm (fun a => a = 79) M M' ∧ jSh M')) := by
  have hS := h.1
  have h0 : 0 < V 0 0 := (h.2.1.1.2 V hv9).1
  have ho := (h.2.1.2 V hv9).2.1
  have hE : ∀ a, a = 79 → mvE a := fun a q => by unfold mvE; omega
  refine jT.of (by decide) rfl (Nat.le_of_ble_eq_true rfl) ?_
  have J : ∀ x : Nat × Mm, (x.1 ≤ many ∧ jsm (fun a => a = 79) M x.2 ∧ jSh x.2) → jW G mi_X1_mayStay 7 M 6 [some (jr (some 64)), some (.int (nI s)), some (.int (nI t)), some (.int (nI many)), some (.int (jb (stayB V σ people t s x.1))), some (.int (nI (x.1 + 1)))] [] x.2 (jPi (fun r M' => r = jb (stayB V σ people t s many) ∧ jsm (fun a => a = 79) M M' ∧ jSh M')) := by
    refine jW.loop (σ := Nat × Mm) _ (fun x => many - x.1) _ (fun _ => []) (fun x => x.2) (fun x hI ih => ?_)
    obtain ⟨j, M1⟩ := x
    obtain ⟨hj, hf, hS1⟩ := hI
    dsimp only at hj hf hS1 ih ⊢
    have hS := hS1
    have hX1 := h.mv hf hE hS1
    have hm1 := hm.fr h.1 hf hE
    obtain ⟨v, hs, hN⟩ := hX1.so hv9
    by_cases hkn : j < many
    · have hg79 : jsm (fun a => a = 79) M1 (js_As M1 79 (allG M1 V σ people s (cnt people))) := jsm.As rfl
      have hs2 : jXs (js_As M1 79 (allG M1 V σ people s (cnt people))) v V := hs.fr hg79 hS1 (fun a q z => by omega) rfl (by decide) (by decide) (by decide) (by decide)
      refine jw_iload (pc := 6) dX1_mayStay_6 rfl ?_
      refine jw_iload_n (pc := 8) dX1_mayStay_8 rfl ?_
      first | refine jx_icmp_gt (pc := 9) (tgt := 38) dX1_mayStay_9 (by decide) (by omega) (by omega) ?_ ?_ | refine jw_icmp_gt (pc := 9) (tgt := 38) dX1_mayStay_9 (by decide) ?_ ?_
      · intro h_9
        omega
      · intro h_9
        refine jw_iload (pc := 12) dX1_mayStay_12 rfl ?_
        first | refine jx_ifb_eq (pc := 14) (tgt := 38) dX1_mayStay_14 (by decide) ?_ ?_ | refine jx_if_eq (pc := 14) (tgt := 38) dX1_mayStay_14 (by decide) (by omega) ?_ ?_ | refine jw_if_eq (pc := 14) (tgt := 38) dX1_mayStay_14 (by decide) ?_ ?_
        · intro h_14
          refine jw_iload (pc := 38) dX1_mayStay_38 rfl ?_
          refine jw_ireturn (pc := 40) dX1_mayStay_40 rfl (by first | exact jnar_b _ | exact jnar_0 | exact jnar_1 | decide +kernel) ?_
          refine ⟨_, rfl, ?_, hf, hS1⟩
          rw [h_14, show stayB V σ people t s many = false from allB_f (Nat.le_of_lt hkn) h_14]
        · intro h_14
          refine jw_aload_n (pc := 17) dX1_mayStay_17 rfl ?_
          refine jw_aload_n (pc := 18) dX1_mayStay_18 rfl ?_
          refine jw_iload_n (pc := 19) dX1_mayStay_19 rfl ?_
          refine jx_cVE (mi1 := mi_X1_allIn) (pc := 20) rfl dX1_mayStay_20 lk_X1_307 rfl fi_X1_allIn rfl rfl rfl (by decide) (is_64 hS) (t_X1_allIn hX1 hv9 hm1 h0 hs9) (by first | decide | omega) rfl rfl (by simp only [List.map_cons, List.map_nil, List.sum_cons, List.sum_nil, cat_i, cat_l, jr_cat]; decide) ?_
          refine jw_iload_n (pc := 23) dX1_mayStay_23 rfl ?_
          refine jw_iload (pc := 24) dX1_mayStay_24 rfl ?_
          first | refine jx_iadd (pc := 26) dX1_mayStay_26 ?_ | refine jw_iadd (pc := 26) dX1_mayStay_26 ?_
          refine jx_cVE (mi1 := mi_X1_isLawfulAt) (pc := 27) rfl dX1_mayStay_27 lk_X1_221 rfl fi_X1_isLawfulAt rfl rfl rfl (by decide) (is_64 hS) (t_X1_isLawfulAt (t := t + (j + 1)) (pl := plS V σ people s) hs2 ⟨ok_79 hS, nn_79 hS, fun q hq => ⟨allG_r hq, plS_lt h0 ho hq⟩⟩ (by omega)) (by first | decide | omega) rfl rfl (by decide) ?_
          refine jw_istore (pc := 30) dX1_mayStay_30 (Nat.le_of_ble_eq_true rfl) rfl ?_
          try dsimp only [jput1, jput2, jkill, jclr, jis2_i, jis2_l, jis2_rs, jis2_rn, cond]
          first | refine jx_iinc (pc := 32) dX1_mayStay_32 rfl rfl ?_ | refine jw_iinc (pc := 32) dX1_mayStay_32 rfl rfl rfl ?_
          try dsimp only [jput1, jkill, jclr, jis2_i, jis2_l, jis2_rs, jis2_rn, cond]
          refine jw_goto (pc := 35) (tgt := 6) dX1_mayStay_35 (by decide) ?_
          refine jW.eq ?_ rfl rfl (ih (j + 1, js_As M1 79 (allG M1 V σ people s (cnt people))) ⟨hkn, hf.tr hg79, hS1⟩ (by dsimp only; omega))
          dsimp only
          rw [stay_s, h_14]; rfl
    · have hk' : j = many := by omega
      subst hk'
      refine jw_iload (pc := 6) dX1_mayStay_6 rfl ?_
      refine jw_iload_n (pc := 8) dX1_mayStay_8 rfl ?_
      first | refine jx_icmp_gt (pc := 9) (tgt := 38) dX1_mayStay_9 (by decide) (by omega) (by omega) ?_ ?_ | refine jw_icmp_gt (pc := 9) (tgt := 38) dX1_mayStay_9 (by decide) ?_ ?_
      · intro h_9
        refine jw_iload (pc := 38) dX1_mayStay_38 rfl ?_
        refine jw_ireturn (pc := 40) dX1_mayStay_40 rfl (by first | exact jnar_b _ | exact jnar_0 | exact jnar_1 | decide +kernel) ?_
        exact ⟨_, rfl, rfl, hf, hS1⟩
      · intro h_9
        omega
  refine jw_iconst (pc := 0) dX1_mayStay_0 ic_1 ?_
  refine jw_istore (pc := 1) dX1_mayStay_1 (Nat.le_of_ble_eq_true rfl) rfl ?_
  try dsimp only [jput1, jput2, jkill, jclr, jis2_i, jis2_l, jis2_rs, jis2_rn, cond]
  refine jw_iconst (pc := 3) dX1_mayStay_3 ic_1 ?_
  refine jw_istore (pc := 4) dX1_mayStay_4 (Nat.le_of_ble_eq_true rfl) rfl ?_
  try dsimp only [jput1, jput2, jkill, jclr, jis2_i, jis2_l, jis2_rs, jis2_rn, cond]
  exact J (0, M) ⟨Nat.zero_le _, jsm.rf, hS⟩
theorem lp_d136 {M9 Mr : Mm} {V : Vt} {kp e o i : Nat} {P : Rs → Mm → Prop} {x1 : Value} {x4 : Int32} {τ : Sg} (hXr : jXx Mr τ) (hv9 : sv τ = some V) (hmr : jMv Mr V kp) (hR : jRw Mr 85 (V 0 0 ^ cnt kp) (rch V τ kp)) (he : e < V 0 2) (hEr : jEr Mr o V e) (hi : i ≤ 30) (hmay : sn τ 0 + i + V 20 e - 1 < V 0 12)
    (k1 : ∀ M', anyB (V 0 0 ^ cnt kp) (doOk V τ kp e i) = true → jsm (fun a => a = 79) Mr M' → jSh M' → P (.inl (some (.int (nI (sn τ 0 + i + V 20 e - 1))))) M')
    (k2 : ∀ M' (x8 : Option Value), anyB (V 0 0 ^ cnt kp) (doOk V τ kp e i) = false → jsm (fun a => a = 79) Mr M' → jSh M' → jW G mi_X1_doing 9 M9 209 [some (jr (some 64)), some x1, some (.int (nI kp)), some (jr (some o)), some (.int x4), some (.int (nI i)), some (.int (nI (sn τ 0 + i))), some (.int (nI (sn τ 0 + i + V 20 e - 1))), x8] [] M' P) :
    ∀ x : Nat × Mm, (x.1 ≤ V 0 0 ^ cnt kp ∧ jsm (fun a => a = 79) Mr x.2 ∧ jSh x.2 ∧ anyB x.1 (doOk V τ kp e i) = false) → jW G mi_X1_doing 9 M9 136 [some (jr (some 64)), some x1, some (.int (nI kp)), some (jr (some o)), some (.int x4), some (.int (nI i)), some (.int (nI (sn τ 0 + i))), some (.int (nI (sn τ 0 + i + V 20 e - 1))), some (.int (nI x.1))] [] x.2 P := by
  have h0 : 0 < V 0 0 := (hXr.2.1.1.2 V hv9).1
  have ho := (hXr.2.1.2 V hv9).2.1
  have hst := (hXr.2.1.2 V hv9).2.2.2.1
  have hw9 := (hXr.2.1.2 V hv9).1
  have hnq := wf_nq hw9
  have hnp := wf_np hw9
  have hc3 := hmr.1.2
  have h1000 := pw3 hnp hc3
  obtain ⟨g1, g2, g3, g4, g5, g6, g7⟩ := wf_e hw9 he
  have hE : ∀ a, a = 79 → mvE a := fun a q => by unfold mvE; omega
  refine jW.loop (σ := Nat × Mm) _ (fun x => V 0 0 ^ cnt kp - x.1) _ (fun _ => []) (fun x => x.2) (fun x hI ih => ?_)
  obtain ⟨s, M1⟩ := x
  obtain ⟨hs1, hf, hS, hno⟩ := hI
  dsimp only at hs1 hf hS hno ih ⊢
  have hX1 := hXr.mv hf hE hS
  have hm1 := hmr.fr hXr.1 hf hE
  by_cases hkn : s < V 0 0 ^ cnt kp
  · have hg79 : jsm (fun a => a = 79) M1 (js_As M1 79 (allG M1 V τ kp s (cnt kp))) := jsm.As rfl
    have hX2 := hX1.mv hg79 hE hS
    have hm2 := hm1.fr hS hg79 hE
    have hR1 := hR.fr (by decide) hXr.1 hf (by decide)
    obtain ⟨pe, e1, e2, e3, e4, e5, e6, e7, e8, e9⟩ := (hEr.fr hf (fun a q z => by omega)).fr hg79 (fun a q z => by omega)
    have hpl : plS V τ kp s (V 16 e) < V 0 0 := plS_lt h0 ho g1
    have ihn : doOk V τ kp e i s = false → ∀ M', jsm (fun a => a = 79) Mr M' → jSh M' → jW G mi_X1_doing 9 M9 136 [some (jr (some 64)), some x1, some (.int (nI kp)), some (jr (some o)), some (.int x4), some (.int (nI i)), some (.int (nI (sn τ 0 + i))), some (.int (nI (sn τ 0 + i + V 20 e - 1))), some (.int (nI (s + 1)))] [] M' P := fun q M' q1 q2 => ih (s + 1, M') ⟨hkn, q1, q2, by dsimp only; rw [anyB_s, hno, q]; rfl⟩ (by dsimp only; omega)
    refine jw_iload (pc := 136) dX1_doing_136 rfl ?_
    refine jw_aload_n (pc := 138) dX1_doing_138 rfl ?_
    refine jx_getIs (pc := 139) (jf_X1_290_0.r) rfl dX1_doing_139 rfl (is_64 hS) (by decide) (hm1.2.2.1) ?_
    first | refine jx_icmp_ge (pc := 142) (tgt := 209) dX1_doing_142 (by decide) (by omega) (by omega) ?_ ?_ | refine jw_icmp_ge (pc := 142) (tgt := 209) dX1_doing_142 (by decide) ?_ ?_
    · intro h_142
      omega
    · intro h_142
      refine jw_aload_n (pc := 145) dX1_doing_145 rfl ?_
      refine jx_getRs (pc := 146) (jf_X1_62_0.r) rfl dX1_doing_146 rfl (is_64 hS) (by decide) (sr_64_22 hS) ?_
      refine jw_sipush (pc := 149) dX1_doing_149 sp_1000 ?_
      refine jw_iload (pc := 152) dX1_doing_152 rfl ?_
      first | refine jx_imul (pc := 154) dX1_doing_154 ?_ | refine jw_imul (pc := 154) dX1_doing_154 ?_
      refine jw_iload (pc := 155) dX1_doing_155 rfl ?_
      first | refine jx_iadd (pc := 157) dX1_doing_157 ?_ | refine jw_iadd (pc := 157) dX1_doing_157 ?_
      refine jx_zalds (pc := 158) dX1_doing_158 (ok_85 hS) (nn_85 hS) rfl (by omega) (hR1 i s hi hkn) ?_
      first | refine jx_ifb_eq (pc := 159) (tgt := 203) dX1_doing_159 (by decide) ?_ ?_ | refine jx_if_eq (pc := 159) (tgt := 203) dX1_doing_159 (by decide) (by omega) ?_ ?_ | refine jw_if_eq (pc := 159) (tgt := 203) dX1_doing_159 (by decide) ?_ ?_
      · intro h_159
        first | refine jx_iinc (pc := 203) dX1_doing_203 rfl rfl ?_ | refine jw_iinc (pc := 203) dX1_doing_203 rfl rfl rfl ?_
        try dsimp only [jput1, jkill, jclr, jis2_i, jis2_l, jis2_rs, jis2_rn, cond]
        refine jw_goto (pc := 206) (tgt := 136) dX1_doing_206 (by decide) ?_
        first
          | exact ihn (by unfold doOk; rw [h_159]; rfl) M1 hf hS
          | exact ihn (by unfold doOk; rw [decide_eq_false h_180, Bool.and_false, Bool.false_and]) _ (hf.tr hg79) hS
          | exact ihn (by unfold doOk; rw [h_197, Bool.and_false]) _ ((hf.tr hg79).tr m2) m3
      · intro h_159
        refine jw_aload_n (pc := 162) dX1_doing_162 rfl ?_
        refine jw_iload (pc := 163) dX1_doing_163 rfl ?_
        refine jx_cVE (mi1 := mi_X1_allIn) (pc := 165) rfl dX1_doing_165 lk_X1_307 rfl fi_X1_allIn rfl rfl rfl (by decide) (is_64 hS) (t_X1_allIn hX1 hv9 hm1 h0 (by omega)) (by first | decide | omega) rfl rfl (by decide) ?_
        refine jw_aload_n (pc := 168) dX1_doing_168 rfl ?_
        refine jx_getRs (pc := 169) (jf_X1_237_11.r) rfl dX1_doing_169 rfl (e1) (by decide) (e3) ?_
        refine jx_getIs (pc := 172) jg_X1_241_7 rfl dX1_doing_172 rfl (e4.1) (by decide) (e5) ?_
        refine jx_ialds (pc := 175) dX1_doing_175 (ok_79 hS) (nn_79 hS) rfl (by omega) (allG_r g1) ?_
        refine jw_aload_n (pc := 176) dX1_doing_176 rfl ?_
        refine jx_getIs (pc := 177) (jf_X1_244_11.r) rfl dX1_doing_177 rfl (e1) (by decide) (e6) ?_
        first | refine jx_icmp_ne (pc := 180) (tgt := 203) dX1_doing_180 (by decide) (by omega) (by omega) ?_ ?_ | refine jw_icmp_ne (pc := 180) (tgt := 203) dX1_doing_180 (by decide) ?_ ?_
        · intro h_180
          first | refine jx_iinc (pc := 203) dX1_doing_203 rfl rfl ?_ | refine jw_iinc (pc := 203) dX1_doing_203 rfl rfl rfl ?_
          try dsimp only [jput1, jkill, jclr, jis2_i, jis2_l, jis2_rs, jis2_rn, cond]
          refine jw_goto (pc := 206) (tgt := 136) dX1_doing_206 (by decide) ?_
          first
            | exact ihn (by unfold doOk; rw [h_159]; rfl) M1 hf hS
            | exact ihn (by unfold doOk; rw [decide_eq_false h_180, Bool.and_false, Bool.false_and]) _ (hf.tr hg79) hS
            | exact ihn (by unfold doOk; rw [h_197, Bool.and_false]) _ ((hf.tr hg79).tr m2) m3
        · intro h_180
          refine jw_aload_n (pc := 183) dX1_doing_183 rfl ?_
          refine jw_iload (pc := 184) dX1_doing_184 rfl ?_
          refine jw_iload (pc := 186) dX1_doing_186 rfl ?_
          refine jw_aload_n (pc := 188) dX1_doing_188 rfl ?_
          refine jx_getIs (pc := 189) (jf_X1_250_11.r) rfl dX1_doing_189 rfl (e1) (by decide) (e9) ?_
          refine jw_iconst (pc := 192) dX1_doing_192 ic_1 ?_
          refine jw_isub (pc := 193) dX1_doing_193 ?_
          rw [sub1 g6]
          refine jx_cVi (mi1 := mi_X1_mayStay) (pc := 194) rfl dX1_doing_194 lk_X1_338 rfl fi_X1_mayStay rfl rfl rfl (by decide) (is_64 hS) (t_X1_mayStay hX2 hv9 hm2 (by omega) (by omega) (by omega)) (by first | decide | omega) rfl rfl (by decide) ?_
          intro x_194 M_194 q_194
          obtain ⟨m1, m2, m3⟩ := q_194
          subst m1
          first | refine jx_ifb_eq (pc := 197) (tgt := 203) dX1_doing_197 (by decide) ?_ ?_ | refine jx_if_eq (pc := 197) (tgt := 203) dX1_doing_197 (by decide) (by omega) ?_ ?_ | refine jw_if_eq (pc := 197) (tgt := 203) dX1_doing_197 (by decide) ?_ ?_
          · intro h_197
            first | refine jx_iinc (pc := 203) dX1_doing_203 rfl rfl ?_ | refine jw_iinc (pc := 203) dX1_doing_203 rfl rfl rfl ?_
            try dsimp only [jput1, jkill, jclr, jis2_i, jis2_l, jis2_rs, jis2_rn, cond]
            refine jw_goto (pc := 206) (tgt := 136) dX1_doing_206 (by decide) ?_
            first
              | exact ihn (by unfold doOk; rw [h_159]; rfl) M1 hf hS
              | exact ihn (by unfold doOk; rw [decide_eq_false h_180, Bool.and_false, Bool.false_and]) _ (hf.tr hg79) hS
              | exact ihn (by unfold doOk; rw [h_197, Bool.and_false]) _ ((hf.tr hg79).tr m2) m3
          · intro h_197
            refine jw_iload (pc := 200) dX1_doing_200 rfl ?_
            refine jw_ireturn (pc := 202) dX1_doing_202 rfl (rfl) ?_
            exact k1 _ (anyB_iff.mpr ⟨s, hkn, by unfold doOk; rw [h_159, decide_eq_true h_180, h_197]; rfl⟩) ((hf.tr hg79).tr m2) m3
  · have hk' : s = V 0 0 ^ cnt kp := by omega
    subst hk'
    refine jw_iload (pc := 136) dX1_doing_136 rfl ?_
    refine jw_aload_n (pc := 138) dX1_doing_138 rfl ?_
    refine jx_getIs (pc := 139) (jf_X1_290_0.r) rfl dX1_doing_139 rfl (is_64 hS) (by decide) (hm1.2.2.1) ?_
    first | refine jx_icmp_ge (pc := 142) (tgt := 209) dX1_doing_142 (by decide) (by omega) (by omega) ?_ ?_ | refine jw_icmp_ge (pc := 142) (tgt := 209) dX1_doing_142 (by decide) ?_ ?_
    · intro h_142
      exact k2 M1 _ hno hf hS
    · intro h_142
      omega
theorem lp_d73 {M9 Mr M0 : Mm} {V : Vt} {kp e o : Nat} {x1 : Value} {x4 : Int32} {q : Int32 × Int32} (hXr : jXx Mr (sgT σ 0 (-1))) (hv9 : sv σ = some V) (hmr : jMv Mr V kp) (hR : jRw Mr 85 (V 0 0 ^ cnt kp) (rch V (sgT σ 0 (-1)) kp)) (he : e < V 0 2) (hEr : jEr Mr o V e) (hfr : jfx M0 Mr) (hq : q = (doI V (sgT σ 0 (-1)) kp e, 0)) :
    ∀ x : Nat × Mm, (x.1 ≤ 31 ∧ jsm (fun a => a = 79) Mr x.2 ∧ jSh x.2 ∧ ∀ j, j < x.1 → doAt V (sgT σ 0 (-1)) kp e j = false) → jW G mi_X1_doing 9 M9 73 [some (jr (some 64)), some x1, some (.int (nI kp)), some (jr (some o)), some (.int x4), some (.int (nI x.1)), none, none, none] [] x.2 (jQx M0 σ q) := by
  have hst := (hXr.2.1.2 V hv9).2.2.2.1
  have hw9 := (hXr.2.1.2 V hv9).1
  obtain ⟨d1, d2, d3, d4, d5⟩ := wf_d hw9
  obtain ⟨g1, g2, g3, g4, g5, g6, g7⟩ := wf_e hw9 he
  have hE : ∀ a, a = 79 → mvE a := fun a q => by unfold mvE; omega
  refine jW.loop (σ := Nat × Mm) _ (fun x => 31 - x.1) _ (fun _ => []) (fun x => x.2) (fun x hI ih => ?_)
  obtain ⟨i, M1⟩ := x
  obtain ⟨hi, hf, hS, hno⟩ := hI
  dsimp only at hi hf hS hno ih ⊢
  have hX1 := hXr.mv hf hE hS
  by_cases hkn : i < 31
  · obtain ⟨v, hs, hN⟩ := hX1.so hv9
    have hv := hs.s
    obtain ⟨pe, e1, e2, e3, e4, e5, e6, e7, e8, e9⟩ := hEr.fr hf (fun a q z => by omega)
    have hst2 : sn (sgT σ 0 (-1)) 0 = sn σ 0 := rfl
    have ihn : doAt V (sgT σ 0 (-1)) kp e i = false → ∀ M' (x6 x7 x8 : Option Value), jsm (fun a => a = 79) Mr M' → jSh M' → jW G mi_X1_doing 9 M9 209 [some (jr (some 64)), some x1, some (.int (nI kp)), some (jr (some o)), some (.int x4), some (.int (nI i)), x6, x7, x8] [] M' (jQx M0 σ q) := fun c M' x6 x7 x8 q1 q2 => by
      have hS := q2
      first | refine jx_iinc (pc := 209) dX1_doing_209 rfl rfl ?_ | refine jw_iinc (pc := 209) dX1_doing_209 rfl rfl rfl ?_
      try dsimp only [jput1, jkill, jclr, jis2_i, jis2_l, jis2_rs, jis2_rn, cond]
      refine jw_goto (pc := 212) (tgt := 73) dX1_doing_212 (by decide) ?_
      refine jW.sub ?_ (ih (i + 1, M') ⟨hkn, q1, q2, fun j hj => ?_⟩ (by dsimp only; omega))
      · exact ⟨rfl, rfl, rfl, rfl, rfl, rfl, trivial⟩
      · by_cases e : j = i
        · subst e; exact c
        · exact hno j (by dsimp only at hj; omega)
    refine jw_iload (pc := 73) dX1_doing_73 rfl ?_
    refine jw_bipush (pc := 75) dX1_doing_75 bp_30 ?_
    first | refine jx_icmp_gt (pc := 77) (tgt := 215) dX1_doing_77 (by decide) (by omega) (by omega) ?_ ?_ | refine jw_icmp_gt (pc := 77) (tgt := 215) dX1_doing_77 (by decide) ?_ ?_
    · intro h_77
      omega
    · intro h_77
      refine jw_aload_n (pc := 80) dX1_doing_80 rfl ?_
      refine jx_getIs (pc := 81) (jf_X1_131_0.r) rfl dX1_doing_81 rfl (is_64 hS) (by decide) (hN.1) ?_
      refine jw_iload (pc := 84) dX1_doing_84 rfl ?_
      first | refine jx_iadd (pc := 86) dX1_doing_86 ?_ | refine jw_iadd (pc := 86) dX1_doing_86 ?_
      refine jw_istore (pc := 87) dX1_doing_87 (Nat.le_of_ble_eq_true rfl) rfl ?_
      try dsimp only [jput1, jput2, jkill, jclr, jis2_i, jis2_l, jis2_rs, jis2_rn, cond]
      refine jw_iload (pc := 89) dX1_doing_89 rfl ?_
      refine jw_aload_n (pc := 91) dX1_doing_91 rfl ?_
      refine jx_getIs (pc := 92) (jf_X1_250_11.r) rfl dX1_doing_92 rfl (e1) (by decide) (e9) ?_
      first | refine jx_iadd (pc := 95) dX1_doing_95 ?_ | refine jw_iadd (pc := 95) dX1_doing_95 ?_
      refine jw_iconst (pc := 96) dX1_doing_96 ic_1 ?_
      refine jw_isub (pc := 97) dX1_doing_97 ?_
      rw [sub1 (by omega)]
      refine jw_istore (pc := 98) dX1_doing_98 (Nat.le_of_ble_eq_true rfl) rfl ?_
      try dsimp only [jput1, jput2, jkill, jclr, jis2_i, jis2_l, jis2_rs, jis2_rn, cond]
      refine jw_iload (pc := 100) dX1_doing_100 rfl ?_
      refine jw_aload_n (pc := 102) dX1_doing_102 rfl ?_
      refine jx_getIs (pc := 103) (jf_X1_231_11.r) rfl dX1_doing_103 rfl (e1) (by decide) (e7) ?_
      first | refine jx_icmp_lt (pc := 106) (tgt := 209) dX1_doing_106 (by decide) (by omega) (by omega) ?_ ?_ | refine jw_icmp_lt (pc := 106) (tgt := 209) dX1_doing_106 (by decide) ?_ ?_
      · intro h_106
        refine ihn ?_ M1 _ _ _ hf hS
        unfold doAt doMay
        first
          | (rw [decide_eq_false (show ¬ V 18 e ≤ sn (sgT σ 0 (-1)) 0 + i by omega)]; rfl)
          | (rw [decide_eq_false (show ¬ sn (sgT σ 0 (-1)) 0 + i + V 20 e - 1 < V 19 e by omega), Bool.and_false]; rfl)
          | (rw [decide_eq_false (show ¬ sn (sgT σ 0 (-1)) 0 + i + V 20 e - 1 < V 0 12 by omega), Bool.and_false]; rfl)
      · intro h_106
        refine jw_iload (pc := 109) dX1_doing_109 rfl ?_
        refine jw_aload_n (pc := 111) dX1_doing_111 rfl ?_
        refine jx_getIs (pc := 112) (jf_X1_235_11.r) rfl dX1_doing_112 rfl (e1) (by decide) (e8) ?_
        first | refine jx_icmp_ge (pc := 115) (tgt := 209) dX1_doing_115 (by decide) (by omega) (by omega) ?_ ?_ | refine jw_icmp_ge (pc := 115) (tgt := 209) dX1_doing_115 (by decide) ?_ ?_
        · intro h_115
          refine ihn ?_ M1 _ _ _ hf hS
          unfold doAt doMay
          first
            | (rw [decide_eq_false (show ¬ V 18 e ≤ sn (sgT σ 0 (-1)) 0 + i by omega)]; rfl)
            | (rw [decide_eq_false (show ¬ sn (sgT σ 0 (-1)) 0 + i + V 20 e - 1 < V 19 e by omega), Bool.and_false]; rfl)
            | (rw [decide_eq_false (show ¬ sn (sgT σ 0 (-1)) 0 + i + V 20 e - 1 < V 0 12 by omega), Bool.and_false]; rfl)
        · intro h_115
          refine jw_iload (pc := 118) dX1_doing_118 rfl ?_
          refine jw_aload_n (pc := 120) dX1_doing_120 rfl ?_
          refine jx_getRs (pc := 121) (jf_X1_109_0.r) rfl dX1_doing_121 rfl (is_64 hS) (by decide) (hs.r) ?_
          refine jx_getIs (pc := 124) (jf_X1_225_5.r) rfl dX1_doing_124 rfl (vis hv) (by decide) (xi_steps hs.V) ?_
          first | refine jx_icmp_lt (pc := 127) (tgt := 133) dX1_doing_127 (by decide) (by omega) (by omega) ?_ ?_ | refine jw_icmp_lt (pc := 127) (tgt := 133) dX1_doing_127 (by decide) ?_ ?_
          · intro h_127
            refine jw_iconst (pc := 133) dX1_doing_133 ic_0 ?_
            refine jw_istore (pc := 134) dX1_doing_134 (Nat.le_of_ble_eq_true rfl) rfl ?_
            try dsimp only [jput1, jput2, jkill, jclr, jis2_i, jis2_l, jis2_rs, jis2_rn, cond]
            have hmay : doMay V (sgT σ 0 (-1)) e i = true := by
              unfold doMay
              rw [decide_eq_true (show V 18 e ≤ sn (sgT σ 0 (-1)) 0 + i by omega), decide_eq_true (show sn (sgT σ 0 (-1)) 0 + i + V 20 e - 1 < V 19 e by omega), decide_eq_true (show sn (sgT σ 0 (-1)) 0 + i + V 20 e - 1 < V 0 12 by omega)]; rfl
            refine lp_d136 (τ := sgT σ 0 (-1)) hXr hv9 hmr hR he hEr (by omega) (by omega) (fun M' c q1 q2 => ?_) (fun M' x8 c q1 q2 => ihn (by unfold doAt; rw [hmay, c]; rfl) M' _ _ _ q1 q2) (0, M1) ⟨Nat.zero_le _, hf, hS, rfl⟩
            have e9 : doN V (sgT σ 0 (-1)) kp e = i := fst_hit hkn (by unfold doAt; rw [hmay, c]; rfl) hno
            refine qx_ok ?_ (hfr.tr (frmv q1 hE)) (hXr.mv q1 hE q2)
            rw [hq]; unfold doI; rw [e9, if_pos hkn]
          · intro h_127
            refine jw_goto (pc := 130) (tgt := 209) dX1_doing_130 (by decide) ?_
            refine ihn ?_ M1 _ _ _ hf hS
            unfold doAt doMay
            first
              | (rw [decide_eq_false (show ¬ V 18 e ≤ sn (sgT σ 0 (-1)) 0 + i by omega)]; rfl)
              | (rw [decide_eq_false (show ¬ sn (sgT σ 0 (-1)) 0 + i + V 20 e - 1 < V 19 e by omega), Bool.and_false]; rfl)
              | (rw [decide_eq_false (show ¬ sn (sgT σ 0 (-1)) 0 + i + V 20 e - 1 < V 0 12 by omega), Bool.and_false]; rfl)
  · have hk' : i = 31 := by omega
    subst hk'
    have e9 : doN V (sgT σ 0 (-1)) kp e = 31 := fst_none hno
    refine jw_iload (pc := 73) dX1_doing_73 rfl ?_
    refine jw_bipush (pc := 75) dX1_doing_75 bp_30 ?_
    first | refine jx_icmp_gt (pc := 77) (tgt := 215) dX1_doing_77 (by decide) (by omega) (by omega) ?_ ?_ | refine jw_icmp_gt (pc := 77) (tgt := 215) dX1_doing_77 (by decide) ?_ ?_
    · intro h_77
      refine jw_bipush (pc := 215) dX1_doing_215 bp_m2 ?_
      refine jw_ireturn (pc := 217) dX1_doing_217 rfl (rfl) ?_
      refine qx_ok ?_ (hfr.tr (frmv hf hE)) hX1
      rw [hq]; unfold doI; rw [e9, if_neg (Nat.lt_irrefl _)]
    · intro h_77
      omega
theorem t_X1_doing {e p : Int32} (h : jXx M σ) : jT G mi_X1_doing 9 [jr (some 64), .int e, .int p] M (jQx M σ (q_doing σ e p)) := by
  have hS := h.1
  refine jT.of (by decide) rfl (Nat.le_of_ble_eq_true rfl) ?_
  refine jw_aload_n (pc := 0) dX1_doing_0 rfl ?_
  refine jx_cVv (mi1 := mi_X1_anew) (pc := 1) rfl dX1_doing_1 lk_X1_84 rfl fi_X1_anew rfl rfl rfl (by decide) (is_64 hS) (t_X1_anew h) (by first | decide | omega) rfl rfl (by decide) ?_
  intro M_1 q_1
  obtain ⟨hX, hf⟩ := q_1
  have hS := hX.1
  refine jw_aload_n (pc := 4) dX1_doing_4 rfl ?_
  refine jw_iload_n (pc := 5) dX1_doing_5 rfl ?_
  refine jx_cVE (mi1 := mi_X1_isErrand) (pc := 6) rfl dX1_doing_6 lk_X1_270 rfl fi_X1_isErrand rfl rfl rfl (by decide) (is_64 hS) (t_X1_isErrand (o := sv σ) hX rfl) (by first | decide | omega) rfl rfl (by decide) ?_
  first | refine jx_ifb_ne (pc := 9) (tgt := 18) dX1_doing_9 (by decide) ?_ ?_ | refine jx_if_ne (pc := 9) (tgt := 18) dX1_doing_9 (by decide) (by omega) ?_ ?_ | refine jw_if_ne (pc := 9) (tgt := 18) dX1_doing_9 (by decide) ?_ ?_
  · intro h_9
    obtain ⟨V, ke, hv9, hke, rfl⟩ := ixV_t h_9
    obtain ⟨v, hs, hN⟩ := hX.so hv9
    have hn := wf_ne hs.w
    have hnq := wf_nq hs.w
    have hpw : 2 ^ V 0 1 ≤ 32 := Nat.pow_le_pow_right (n := 2) (by decide) hnq
    have hv := hs.s
    obtain ⟨o, pe, c1, e1, e2, e3, e4, e5, e6, e7, e8, e9⟩ := hs.V.2.2.2.2.2 ke hke
    have hEr : jEr M_1 o V ke := ⟨pe, e1, e2, e3, e4, e5, e6, e7, e8, e9⟩
    have g1 := (wf_e hs.w hke).1
    refine jw_aload_n (pc := 18) dX1_doing_18 rfl ?_
    refine jx_getRs (pc := 19) (jf_X1_109_0.r) rfl dX1_doing_19 rfl (is_64 hS) (by decide) (hs.r) ?_
    refine jx_getRs (pc := 22) jg_X1_259_5 rfl dX1_doing_22 rfl (vis hv) (by decide) (vr_3 hv) ?_
    refine jw_iload_n (pc := 25) dX1_doing_25 rfl ?_
    refine jx_aalds (pc := 26) (by decide) (by decide) dX1_doing_26 (vok_3 hv) (vnn_3 hv) rfl (by omega) (c1) ?_
    refine jw_astore_n (pc := 27) dX1_doing_27 (Nat.le_of_ble_eq_true rfl) rfl ?_
    try dsimp only [jput1, jput2, jkill, jclr, jis2_i, jis2_l, jis2_rs, jis2_rn, cond]
    refine jw_aload_n (pc := 28) dX1_doing_28 rfl ?_
    refine jw_iload_n (pc := 29) dX1_doing_29 rfl ?_
    refine jw_iconst (pc := 30) dX1_doing_30 ic_3 ?_
    refine jx_cVE (mi1 := mi_X1_peopleWhy) (pc := 31) rfl dX1_doing_31 lk_X1_323 rfl fi_X1_peopleWhy rfl rfl rfl (by decide) (is_64 hS) (t_X1_peopleWhy (o := some V) (most := 3) hX hv9 (by decide)) (by first | decide | omega) rfl rfl (by decide) ?_
    refine jw_istore (pc := 34) dX1_doing_34 (Nat.le_of_ble_eq_true rfl) rfl ?_
    try dsimp only [jput1, jput2, jkill, jclr, jis2_i, jis2_l, jis2_rs, jis2_rn, cond]
    refine jw_iload (pc := 36) dX1_doing_36 rfl ?_
    refine jw_if_ne (pc := 38) (tgt := 55) dX1_doing_38 (by decide) ?_ ?_
    · intro h_38
      refine jw_aload_n (pc := 55) dX1_doing_55 rfl ?_
      refine jw_iconst (pc := 56) dX1_doing_56 ic_2 ?_
      refine jx_cVi (mi1 := mi_X1_no) (pc := 57) rfl dX1_doing_57 lk_X1_98 rfl fi_X1_no rfl rfl rfl (by decide) (is_64 hS) (t_X1_no hX (by decide)) (by first | decide | omega) rfl rfl (by decide) ?_
      intro x_57 M_57 q_57
      refine jw_ireturn (pc := 60) dX1_doing_60 rfl (rfl) ?_
      refine qx_no ?_ hf q_57
      unfold q_doing
      first
        | (rw [if_pos h_9, hv9, if_neg (fun c => h_38 c.1)]; rfl)
        | (have hneg : ¬ (pplW (some V) (nI kp) 3 = 0 ∧ (iN (nI kp)).testBit (vv σ 16 (iN (nI ke))) = true) := fun c => by
             rw [vv_s hv9, iN_n (show ke < 2 ^ 31 by omega), hiN, h_52] at c; exact absurd c.2 (by decide)
           rw [if_pos h_9, hv9, if_neg hneg]; rfl)
    · intro h_38
      obtain ⟨V2, kp, eV, hkp, hk1, rfl, hc3, hiN⟩ := pplW_0 h_38
      cases eV
      refine jw_iload_n (pc := 41) dX1_doing_41 rfl ?_
      refine jw_aload_n (pc := 42) dX1_doing_42 rfl ?_
      refine jx_getRs (pc := 43) (jf_X1_237_11.r) rfl dX1_doing_43 rfl (e1) (by decide) (e3) ?_
      refine jx_getIs (pc := 46) jg_X1_241_7 rfl dX1_doing_46 rfl (e4.1) (by decide) (e5) ?_
      refine jx_cSE (mi1 := mi_X1_lies) (pc := 49) rfl dX1_doing_49 lk_X1_189 rfl fi_X1_lies (t_X1_lies (by omega) (by omega)) (by first | decide | omega) rfl rfl (by decide) ?_
      first | refine jx_ifb_ne (pc := 52) (tgt := 61) dX1_doing_52 (by decide) ?_ ?_ | refine jx_if_ne (pc := 52) (tgt := 61) dX1_doing_52 (by decide) (by omega) ?_ ?_ | refine jw_if_ne (pc := 52) (tgt := 61) dX1_doing_52 (by decide) ?_ ?_
      · intro h_52
        refine jw_aload_n (pc := 61) dX1_doing_61 rfl ?_
        refine jw_iload_n (pc := 62) dX1_doing_62 rfl ?_
        refine jx_cVv (mi1 := mi_X1_choose) (pc := 63) rfl dX1_doing_63 lk_X1_326 rfl fi_X1_choose rfl rfl rfl (by decide) (is_64 hS) (t_X1_choose hX hv9 hkp hc3) (by first | decide | omega) rfl rfl (by decide) ?_
        intro M_63 q_63
        obtain ⟨hX2, hf2, hm2⟩ := q_63
        have hS := hX2.1
        refine jw_aload_n (pc := 66) dX1_doing_66 rfl ?_
        refine jx_cVv (mi1 := mi_X1_reach) (pc := 67) rfl dX1_doing_67 lk_X1_329 rfl fi_X1_reach rfl rfl rfl (by decide) (is_64 hS) (t_X1_reach (people := kp) (V := V) hX2 hv9 hm2) (by first | decide | omega) rfl rfl (by decide) ?_
        intro M_67 q_67
        obtain ⟨hX3, hf3, hm3, hR3, hL3⟩ := q_67
        have hS := hX3.1
        refine jw_iconst (pc := 70) dX1_doing_70 ic_0 ?_
        refine jw_istore (pc := 71) dX1_doing_71 (Nat.le_of_ble_eq_true rfl) rfl ?_
        try dsimp only [jput1, jput2, jkill, jclr, jis2_i, jis2_l, jis2_rs, jis2_rn, cond]
        refine jW.sub ?_ (lp_d73 (V := V) (x1 := .int (nI ke)) (x4 := pplW (some V) (nI kp) 3) hX3 hv9 hm3 hR3 hke ((hEr.fr hf2 (fun a q z => by have := z.2; omega)).fr hf3 (fun a q z => by have := z.2; omega)) (hf.tr (hf2.tr hf3)) ?_ (0, M_67) ⟨Nat.zero_le _, jsm.rf, hX3.1, fun j hj => absurd hj (Nat.not_lt_zero _)⟩)
        · exact ⟨rfl, rfl, rfl, rfl, rfl, rfl, trivial⟩
        · unfold q_doing
          rw [if_pos h_9, hv9, if_pos ⟨h_38, by rw [vv_s hv9, iN_n (show ke < 2 ^ 31 by omega), hiN]; exact h_52⟩, vv_s hv9, iN_n (show ke < 2 ^ 31 by omega), hiN]
      · intro h_52
        refine jw_aload_n (pc := 55) dX1_doing_55 rfl ?_
        refine jw_iconst (pc := 56) dX1_doing_56 ic_2 ?_
        refine jx_cVi (mi1 := mi_X1_no) (pc := 57) rfl dX1_doing_57 lk_X1_98 rfl fi_X1_no rfl rfl rfl (by decide) (is_64 hS) (t_X1_no hX (by decide)) (by first | decide | omega) rfl rfl (by decide) ?_
        intro x_57 M_57 q_57
        refine jw_ireturn (pc := 60) dX1_doing_60 rfl (rfl) ?_
        refine qx_no ?_ hf q_57
        unfold q_doing
        first
          | (rw [if_pos h_9, hv9, if_neg (fun c => h_38 c.1)]; rfl)
          | (have hneg : ¬ (pplW (some V) (nI kp) 3 = 0 ∧ (iN (nI kp)).testBit (vv σ 16 (iN (nI ke))) = true) := fun c => by
               rw [vv_s hv9, iN_n (show ke < 2 ^ 31 by omega), hiN, h_52] at c; exact absurd c.2 (by decide)
             rw [if_pos h_9, hv9, if_neg hneg]; rfl)
  · intro h_9
    refine jw_aload_n (pc := 12) dX1_doing_12 rfl ?_
    refine jw_iconst (pc := 13) dX1_doing_13 ic_1 ?_
    refine jx_cVi (mi1 := mi_X1_no) (pc := 14) rfl dX1_doing_14 lk_X1_98 rfl fi_X1_no rfl rfl rfl (by decide) (is_64 hS) (t_X1_no hX (by decide)) (by first | decide | omega) rfl rfl (by decide) ?_
    intro x_14 M_14 q_14
    refine jw_ireturn (pc := 17) dX1_doing_17 rfl (rfl) ?_
    refine qx_no ?_ hf q_14
    unfold q_doing; rw [h_9]; rfl
end JXD
