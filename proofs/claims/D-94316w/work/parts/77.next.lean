/-! ===== x: the next token ===== -/
theorem shK_ge : ∀ q ∈ shK, 64 ≤ q.1 := by decide
theorem shN_ge : ∀ q ∈ shN, 64 ≤ q.1 := by decide
theorem shR_ge : ∀ q ∈ shR, 64 ≤ q.1 := by decide
theorem jSh.sm {E : Nat → Prop} {M M1 : Mm} (h : jSh M) (g : jsm E M M1) (hE : ∀ a, 64 ≤ a → a < 104 → ¬ E a) : jSh M1 := by
  have hz := h.2.2.2
  have al : ∀ a, 64 ≤ a → a < 104 → jal M M1 a := fun a q1 q2 => g.2.2 a (by omega) (hE a q1 q2)
  refine ⟨fun q hq => ?_, fun q hq => ?_, fun q hq => ?_, Nat.le_trans hz g.1⟩
  · rw [(al _ (shK_ge q hq) (shK_lt q hq)).1]; exact h.1 q hq
  · rw [(al _ (shN_ge q hq) (shN_lt q hq)).2.1]; exact h.2.1 q hq
  · rw [(al _ (shR_ge q hq) (shR_lt q hq)).2.2.2.2.1]; exact h.2.2.1 q hq
theorem jsm.cut2 {E : Nat → Prop} {M M1 M2 : Mm} (h : jsm (fun a => a = 62) M M1) (g : jsm E M1 M2) (hE : ∀ a, E a → jm_Z M ≤ a ∨ a = 62) : jsm (fun a => a = 62) M M2 := by
  refine ⟨Nat.le_trans h.1 g.1, ⟨Nat.le_trans h.2.1.1 g.2.1.1, fun q => absurd rfl q⟩, fun a h1 h2 => ?_⟩
  exact (h.2.2 a h1 h2).tr (g.2.2 a (Nat.lt_of_lt_of_le h1 h.1) (fun q => by have := hE a q; omega))
/-- x's reader at a token -/
def jRp (M : Mm) (σ : Sg) (n p z : Nat) : Prop := jm_I M 66 32 = nI n ∧ jm_I M 66 33 = nI (tkE (chI σ n) n p) ∧ jm_I M 66 34 = nI (tkK (chI σ n) n p) ∧ jm_I M 66 35 = nI (tkA (chI σ n) n p) ∧ (tkK (chI σ n) n p = 3 → jm_I M 66 36 = nI (tkV (chI σ n) n p)) ∧ (tkK (chI σ n) n p = 2 → ∃ o, jm_R M 66 37 = some o ∧ z ≤ o ∧ jTx M o (tkV (chI σ n) n p))
/-- in the midst of a token -/
def nxI (M M1 : Mm) (σ : Sg) (n A e : Nat) : Prop := jsm (fun a => a = 66 ∨ a = 68) M M1 ∧ jSh M1 ∧ jm_I M1 66 32 = nI n ∧ jm_I M1 66 35 = nI A ∧ jm_R M1 66 38 = jm_R M 66 38 ∧ (∀ k, k < 900 → jm_A M1 65 k = sb σ 0 k) ∧ jm_I M1 66 33 = nI e
theorem nxI.E {M M1 : Mm} {σ : Sg} {n A e e1 : Nat} (h : nxI M M1 σ n A e) : nxI M (js_I M1 66 33 (nI e1)) σ n A e1 := ⟨h.1.tr (jsm.I (Or.inl rfl)), h.2.1, h.2.2.1, h.2.2.2.1, h.2.2.2.2.1, h.2.2.2.2.2.1, rfl⟩
theorem nxI.T {M M1 : Mm} {σ : Sg} {n A e : Nat} {x : Int32} (h : nxI M M1 σ n A e) : nxI M (js_I M1 66 34 x) σ n A e := ⟨h.1.tr (jsm.I (Or.inl rfl)), h.2.1, h.2.2.1, h.2.2.2.1, h.2.2.2.2.1, h.2.2.2.2.2.1, h.2.2.2.2.2.2⟩
theorem nxI.W {M M1 : Mm} {σ : Sg} {n A e : Nat} {x : Int32} (h : nxI M M1 σ n A e) : nxI M (js_I M1 66 36 x) σ n A e := ⟨h.1.tr (jsm.I (Or.inl rfl)), h.2.1, h.2.2.1, h.2.2.2.1, h.2.2.2.2.1, h.2.2.2.2.2.1, h.2.2.2.2.2.2⟩
theorem nxI.L {M M1 : Mm} {σ : Sg} {n A e i : Nat} {x : Int32} (h : nxI M M1 σ n A e) : nxI M (js_A M1 68 i x) σ n A e := ⟨h.1.tr (jsm.A (Or.inr rfl)), h.2.1, h.2.2.1, h.2.2.2.1, h.2.2.2.2.1, fun k hk => (jA_oth2 (by decide)).trans (h.2.2.2.2.2.1 k hk), h.2.2.2.2.2.2⟩
theorem nxI.R {M M1 : Mm} {σ : Sg} {n A e : Nat} {x : Option Nat} (h : nxI M M1 σ n A e) : nxI M (js_R M1 66 37 x) σ n A e := ⟨h.1.tr (jsm.R (Or.inl rfl)), h.2.1.R (by decide), h.2.2.1, h.2.2.2.1, h.2.2.2.2.1, h.2.2.2.2.2.1, h.2.2.2.2.2.2⟩
/-- what a step to the next token leaves -/
def jNk (M : Mm) (σ : Sg) (n p z : Nat) (M' : Mm) : Prop := jRp M' σ n p z ∧ jsm (fun a => a = 62 ∨ a = 66 ∨ a = 68) M M' ∧ (jm_Z M' + 2 * p ≤ jm_Z M + 2 * tkE (chI σ n) n p ∧ jm_S M' + 12 * p ≤ jm_S M + 12 * tkE (chI σ n) n p) ∧ jm_R M' 66 38 = jm_R M 66 38 ∧ jSh M'
theorem jNk.of {M M1 : Mm} {σ : Sg} {n p A e z : Nat} (h : nxI M M1 σ n A e) (hp : p ≤ n) (hA : tkA (chI σ n) n p = A) (he : tkE (chI σ n) n p = e) (hk : jm_I M1 66 34 = nI (tkK (chI σ n) n p)) (h3 : tkK (chI σ n) n p = 3 → jm_I M1 66 36 = nI (tkV (chI σ n) n p)) (h2 : tkK (chI σ n) n p ≠ 2) : jNk M σ n p z M1 := by
  have hz := h.1.z (by omega)
  have h9 := tkE_p (σ := σ) hp
  exact ⟨⟨h.2.2.1, by rw [he]; exact h.2.2.2.2.2.2, hk, by rw [hA]; exact h.2.2.2.1, h3, fun q => absurd q h2⟩, h.1.wk (fun a q => Or.inr q), ⟨by omega, by omega⟩, h.2.2.2.2.1, h.2.1⟩
section JNX
variable {G : Gh} {M : Mm} {σ : Sg}
theorem t_X2_next {n p z : Nat} (hG : jGs G) (hS : jSh M) (ht : ∀ k, k < 900 → jm_A M 65 k = sb σ 0 k) (hn : jm_I M 66 32 = nI n) (he : jm_I M 66 33 = nI p) (hp : p ≤ n) (hn9 : n ≤ 900) (hzz : z ≤ jm_Z M) : jT G mi_X2_next 6 [jr (some 66)] M (jPv (jNk M σ n p z)) := by
  -- a word
  have LW : ∀ (A : Nat) (M0 : Mm) (x2 : Option Value), A < n → tkA (chI σ n) n p = A → smlB (chI σ n A) = true → nxI M M0 σ n A A → jW G mi_X2_next 6 M 69 [some (jr (some 66)), some (.int (nI A)), x2] [] M0 (jPv (jNk M σ n p z)) := by
    intro A M0 x2 hA hAe hsm h0
    have K : ∀ x : Nat × Mm, ((A ≤ x.1 ∧ x.1 ≤ n) ∧ nxI M x.2 σ n A x.1 ∧ (∀ j, A ≤ j → j < x.1 → smlB (chI σ n j) = true) ∧ (∀ i, i < 8 → A + i < x.1 → jm_A x.2 68 i = nI (cNt (chI σ n (A + i))))) → jW G mi_X2_next 6 M 69 [some (jr (some 66)), some (.int (nI A)), x2] [] x.2 (jPv (jNk M σ n p z)) := by
      refine jW.loop (σ := Nat × Mm) _ (fun x => n - x.1) _ (fun _ => []) (fun x => x.2) (fun x hI ih => ?_)
      obtain ⟨e, M1⟩ := x
      obtain ⟨⟨hAx, hxn⟩, hI, hsm0, hlt⟩ := hI
      dsimp only at hAx hxn hI hsm0 hlt ih ⊢
      have hS := hI.2.1
      have hE := hI.2.2.2.2.2.2
      have hNs := hI.2.2.1
      have htp := hI.2.2.2.2.2.1
      by_cases hs : smlB (chI σ n e) = true
      · have hen : e < n := ch_lt (fun q => by rw [q, sml_m] at hs; cases hs)
        obtain ⟨m1, m2, m3⟩ := sml_n hs
        generalize hc9 : cNt (chI σ n e) = m at m1 m2 m3
        have g1 : ∀ j, A ≤ j → j < e + 1 → smlB (chI σ n j) = true := fun j a b => by
          by_cases q : j = e
          · subst q; exact hs
          · exact hsm0 j a (by omega)
        refine jw_aload_n (pc := 69) dX2_next_69 rfl ?_
        refine jw_aload_n (pc := 70) dX2_next_70 rfl ?_
        refine jx_getIs (pc := 71) (jf_X2_40_1.r) rfl dX2_next_71 rfl (is_66 hS) (by decide) (hE) ?_
        refine jx_cVE (mi1 := mi_X2_see) (pc := 74) rfl dX2_next_74 lk_X2_43 rfl fi_X2_see rfl rfl rfl (by decide) (is_66 hS) (t_X2_see (σ := σ) hS htp hNs hn9 (by omega)) (by first | decide | omega) rfl rfl (by decide) ?_
        refine jx_cSE (mi1 := mi_X2_isSmall) (pc := 77) rfl dX2_next_77 lk_X2_50 rfl fi_X2_isSmall (t_X2_isSmall) (by first | decide | omega) rfl rfl (by decide) ?_
        first | refine jx_ifb_eq (pc := 80) (tgt := 127) dX2_next_80 (by decide) ?_ ?_ | refine jx_if_eq (pc := 80) (tgt := 127) dX2_next_80 (by decide) (by omega) ?_ ?_ | refine jw_if_eq (pc := 80) (tgt := 127) dX2_next_80 (by decide) ?_ ?_
        · intro h_80
          have h9 : inb (chI σ n e) (nI 97) (nI 122) = true := hs
          rw [h9] at h_80; cases h_80
        · intro h_80
          refine jw_aload_n (pc := 83) dX2_next_83 rfl ?_
          refine jx_getIs (pc := 84) (jf_X2_40_1.r) rfl dX2_next_84 rfl (is_66 hS) (by decide) (hE) ?_
          refine jw_iload_n (pc := 87) dX2_next_87 rfl ?_
          refine jw_isub (pc := 88) dX2_next_88 ?_
          rw [show nI e - nI A = nI (e - A) from pk_sub hAx]
          refine jw_bipush (pc := 89) dX2_next_89 bp_8 ?_
          first | refine jx_icmp_ge (pc := 91) (tgt := 114) dX2_next_91 (by decide) (by omega) (by omega) ?_ ?_ | refine jw_icmp_ge (pc := 91) (tgt := 114) dX2_next_91 (by decide) ?_ ?_
          · intro h_91
            refine jw_aload_n (pc := 114) dX2_next_114 rfl ?_
            refine jw_dup (pc := 115) dX2_next_115 (jis2_r _) ?_
            refine jx_getIs (pc := 116) (jf_X2_40_1.r) rfl dX2_next_116 rfl (is_66 hS) (by decide) (hE) ?_
            refine jw_iconst (pc := 119) dX2_next_119 ic_1 ?_
            first | refine jx_iadd (pc := 120) dX2_next_120 ?_ | refine jw_iadd (pc := 120) dX2_next_120 ?_
            refine jx_putI (pc := 121) jf_X2_40_1 rfl dX2_next_121 rfl rfl (is_66 hS) (by decide) ?_
            refine jw_goto (pc := 124) (tgt := 69) dX2_next_124 (by decide) ?_
            first
              | exact ih (e + 1, _) ⟨⟨by dsimp only; omega, hen⟩, hI.L.E, g1, fun i hi hie => by
                  show jm_A (js_A M1 68 (e - A) (nI m)) 68 i = _
                  rw [jB_8]
                  by_cases q : i = e - A
                  · rw [if_pos q, q, show A + (e - A) = e by omega, hc9]
                  · rw [if_neg q]; exact hlt i hi (by dsimp only at hie; omega)⟩ (by dsimp only; omega)
              | exact ih (e + 1, _) ⟨⟨by dsimp only; omega, hen⟩, hI.E, g1, fun i hi hie => hlt i hi (by dsimp only at hie; omega)⟩ (by dsimp only; omega)
          · intro h_91
            refine jw_aload_n (pc := 94) dX2_next_94 rfl ?_
            refine jx_getRs (pc := 95) (jf_X2_18_1.r) rfl dX2_next_95 rfl (is_66 hS) (by decide) (sr_66_31 hS) ?_
            refine jw_aload_n (pc := 98) dX2_next_98 rfl ?_
            refine jx_getIs (pc := 99) (jf_X2_40_1.r) rfl dX2_next_99 rfl (is_66 hS) (by decide) (hE) ?_
            refine jw_iload_n (pc := 102) dX2_next_102 rfl ?_
            refine jw_isub (pc := 103) dX2_next_103 ?_
            rw [show nI e - nI A = nI (e - A) from pk_sub hAx]
            refine jw_aload_n (pc := 104) dX2_next_104 rfl ?_
            refine jw_aload_n (pc := 105) dX2_next_105 rfl ?_
            refine jx_getIs (pc := 106) (jf_X2_40_1.r) rfl dX2_next_106 rfl (is_66 hS) (by decide) (hE) ?_
            refine jx_cVE (mi1 := mi_X2_see) (pc := 109) rfl dX2_next_109 lk_X2_43 rfl fi_X2_see rfl rfl rfl (by decide) (is_66 hS) (t_X2_see (σ := σ) hS htp hNs hn9 (by omega)) (by first | decide | omega) rfl rfl (by simp only [List.map_cons, List.map_nil, List.sum_cons, List.sum_nil, cat_i, cat_l, jr_cat]; decide) ?_
            rw [m3]
            refine jw_i2c (pc := 112) dX2_next_112 (by exact i2c_n m2) ?_
            refine jx_cast (pc := 113) dX2_next_113 (by decide) (ok_68 hS) (nn_68 hS) rfl (by omega) (nar_c m2) ?_
            refine jw_aload_n (pc := 114) dX2_next_114 rfl ?_
            refine jw_dup (pc := 115) dX2_next_115 (jis2_r _) ?_
            refine jx_getIs (pc := 116) (jf_X2_40_1.r) rfl dX2_next_116 rfl (is_66 hS) (by decide) (hE) ?_
            refine jw_iconst (pc := 119) dX2_next_119 ic_1 ?_
            first | refine jx_iadd (pc := 120) dX2_next_120 ?_ | refine jw_iadd (pc := 120) dX2_next_120 ?_
            refine jx_putI (pc := 121) jf_X2_40_1 rfl dX2_next_121 rfl rfl (is_66 hS) (by decide) ?_
            refine jw_goto (pc := 124) (tgt := 69) dX2_next_124 (by decide) ?_
            first
              | exact ih (e + 1, _) ⟨⟨by dsimp only; omega, hen⟩, hI.L.E, g1, fun i hi hie => by
                  show jm_A (js_A M1 68 (e - A) (nI m)) 68 i = _
                  rw [jB_8]
                  by_cases q : i = e - A
                  · rw [if_pos q, q, show A + (e - A) = e by omega, hc9]
                  · rw [if_neg q]; exact hlt i hi (by dsimp only at hie; omega)⟩ (by dsimp only; omega)
              | exact ih (e + 1, _) ⟨⟨by dsimp only; omega, hen⟩, hI.E, g1, fun i hi hie => hlt i hi (by dsimp only at hie; omega)⟩ (by dsimp only; omega)
      · have hsf : smlB (chI σ n e) = false := by rw [Bool.not_eq_true] at hs; exact hs
        have hAe2 : A < e := by
          refine Nat.lt_of_le_of_ne hAx (fun q => hs ?_)
          rw [← q]; exact hsm
        have hsm9 : smlB (chI σ n (tkA (chI σ n) n p)) = true := by rw [hAe]; exact hsm
        obtain ⟨w1, w2, w3⟩ := tk_wrd (σ := σ) (n := n) (p := p) hsm9 (e := e) (by rw [hAe]; exact hAx) hxn hsf (fun j a b => hsm0 j (by rw [hAe] at a; exact a) b)
        rw [hAe] at w2 w3
        have hp9 := tkA_ge (σ := σ) hp
        rw [hAe] at hp9
        have LB : 8 < e - A → jW G mi_X2_next 6 M 144 [some (jr (some 66)), some (.int (nI A)), x2] [.int (nI 1), jr (some 66)] M1 (jPv (jNk M σ n p z)) := by
          intro h8
          rw [if_neg (by omega)] at w2
          refine jx_putI (pc := 144) jf_X2_47_1 rfl dX2_next_144 rfl rfl (is_66 hS) (by decide) ?_
          refine jw_aload_n (pc := 147) dX2_next_147 rfl ?_
          refine jw_aload_n (pc := 148) dX2_next_148 rfl ?_
          refine jx_getIs (pc := 149) (jf_X2_47_1.r) rfl dX2_next_149 rfl (is_66 hS) (by decide) (rfl) ?_
          refine jw_iconst (pc := 152) dX2_next_152 ic_2 ?_
          first | refine jx_icmp_ne (pc := 153) (tgt := 177) dX2_next_153 (by decide) (by omega) (by omega) ?_ ?_ | refine jw_icmp_ne (pc := 153) (tgt := 177) dX2_next_153 (by decide) ?_ ?_
          · intro h_153
            refine jw_ldcs (pc := 177) (js_X2_59) rfl (by decide) dX2_next_177 ?_
            refine jx_putR (pc := 179) jf_X2_61_1 rfl dX2_next_179 rfl rfl (pd_Ljava_lang_String_) (Or.inl ⟨_, rfl⟩) (is_66 hS) (by decide) ?_
            refine jw_goto (pc := 182) (tgt := 305) dX2_next_182 (by decide) ?_
            refine jw_return (pc := 305) dX2_next_305 rfl ?_
            exact ⟨rfl, jNk.of hI.T.R hp hAe w1 (by rw [w2]; rfl) (fun q => by rw [w2] at q; cases q) (by rw [w2]; decide)⟩
          · intro h_153
            exact absurd h_153 (by decide)
        have LD : e - A ≤ 8 → jW G mi_X2_next 6 M 144 [some (jr (some 66)), some (.int (nI A)), x2] [.int (nI 2), jr (some 66)] M1 (jPv (jNk M σ n p z)) := by
          intro h8
          rw [if_pos h8] at w2
          have hI2 := hI.T (x := nI 2)
          have hl : txl (fun i => cNt (chI σ n (A + i))) (e - A) := ⟨h8, fun i hi => by
            have := sml_n (hsm0 (A + i) (by omega) (by omega)); exact ⟨this.1, this.2.1⟩⟩
          have hz := hI2.1.z (by omega)
          have hz4 := hS.2.2.2
          refine jx_putI (pc := 144) jf_X2_47_1 rfl dX2_next_144 rfl rfl (is_66 hS) (by decide) ?_
          refine jw_aload_n (pc := 147) dX2_next_147 rfl ?_
          refine jw_aload_n (pc := 148) dX2_next_148 rfl ?_
          refine jx_getIs (pc := 149) (jf_X2_47_1.r) rfl dX2_next_149 rfl (is_66 hS) (by decide) (rfl) ?_
          refine jw_iconst (pc := 152) dX2_next_152 ic_2 ?_
          first | refine jx_icmp_ne (pc := 153) (tgt := 177) dX2_next_153 (by decide) (by omega) (by omega) ?_ ?_ | refine jw_icmp_ne (pc := 153) (tgt := 177) dX2_next_153 (by decide) ?_ ?_
          · intro h_153
            exact absurd rfl h_153
          · intro h_153
            generalize hM2 : js_I M1 66 34 (nI 2) = M2 at hI2 hz ⊢
            have hT2 : jm_I M2 66 34 = nI 2 := by rw [← hM2]; rfl
            have hE2 := hI2.2.2.2.2.2.2
            have hS2 := hI2.2.1
            have hL2 : ∀ i, i < 8 → A + i < e → jm_A M2 68 i = nI (cNt (chI σ n (A + i))) := by rw [← hM2]; exact hlt
            have hz2 := hS2.2.2.2
            clear hM2 hS
            have hS := hS2.n (c := 14) (n := 0) (s := 4)
            refine jw_new (pc := 156) jn_X2_54 rfl (by decide) dX2_next_156 ?_
            refine jw_dup (pc := 159) dX2_next_159 (jis2_r _) ?_
            refine jw_aload_n (pc := 160) dX2_next_160 rfl ?_
            have hSn := hS
            have hE3 : jm_I (js_new M2 14 0 4) 66 33 = nI e := by rw [jI_n, if_neg (by omega)]; exact hE2
            refine jx_getRs (pc := 161) (jf_X2_18_1.r) rfl dX2_next_161 rfl (is_66 hS) (by decide) (sr_66_31 hS) ?_
            refine jw_iconst (pc := 164) dX2_next_164 ic_0 ?_
            refine jw_aload_n (pc := 165) dX2_next_165 rfl ?_
            refine jx_getIs (pc := 166) (jf_X2_40_1.r) rfl dX2_next_166 rfl (is_66 hS) (by decide) (hE3) ?_
            refine jw_iload_n (pc := 169) dX2_next_169 rfl ?_
            refine jw_isub (pc := 170) dX2_next_170 ?_
            rw [show nI e - nI A = nI (e - A) from pk_sub hAx]
            refine jx_cIv (mi1 := mi_J3_init) (pc := 171) rfl dX2_next_171 q564 q161 q565 q566 rfl rfl rfl fi_J3_init (t_J3_init (M := js_new M2 14 0 4) (o := jm_Z M2) (f := fun i => cNt (chI σ n (A + i))) (k := e - A) hG ⟨by rw [jK_n, if_pos rfl], by rw [jZ_n]; omega, by omega⟩ (ok_68 hSn) (nn_68 hSn) (by decide) h8 hl (by omega) (fun i hi => by rw [jA_n, if_neg (by omega)]; exact hL2 i (by omega) (by omega)) (by rw [jI_n, if_pos rfl]) (by rw [jI_n, if_pos rfl])) (by first | decide | omega) rfl rfl (by simp only [List.map_cons, List.map_nil, List.sum_cons, List.sum_nil, cat_i, cat_l, jr_cat]; decide) ?_
            intro M_171 q_171
            obtain ⟨r1, r2, r3, r4⟩ := q_171
            have hS3 : jSh M_171 := hSn.sm r2 (fun a a1 a2 => by omega)
            clear hS
            have hS := hS3
            have a66 := r2.2.2 66 (by rw [jZ_n]; omega) (by omega)
            have n66 := jal_n (M := M2) (c := 14) (n := 0) (s := 4) 66 (by omega)
            have b66 := n66.tr a66
            refine jw_goto (pc := 174) (tgt := 179) dX2_next_174 (by decide) ?_
            refine jx_putR (pc := 179) jf_X2_61_1 rfl dX2_next_179 rfl rfl (pd_Ljava_lang_String_) (Or.inl ⟨_, rfl⟩) (is_66 hS) (by decide) ?_
            refine jw_goto (pc := 182) (tgt := 305) dX2_next_182 (by decide) ?_
            refine jw_return (pc := 305) dX2_next_305 rfl ?_
            refine ⟨rfl, ⟨?_, ?_, ?_, ?_, ?_, ?_⟩, ?_, ⟨?_, ?_⟩, ?_, ?_⟩
            · exact (b66.2.2.1 _).trans hI2.2.2.1
            · rw [w1]; exact (b66.2.2.1 _).trans hE2
            · rw [w2]; exact (b66.2.2.1 _).trans hT2
            · rw [hAe]; exact (b66.2.2.1 _).trans hI2.2.2.2.1
            · intro q; rw [w2] at q; cases q
            · intro q; refine ⟨jm_Z M2, by rw [jR_R, if_pos ⟨rfl, rfl⟩], by omega, ?_⟩
              rw [w3]
              exact r1.fr (E := fun a => a = 66) (jsm.R rfl) (fun a q1 q2 q3 => by subst q1; rw [(is_66 hS3).1]; decide)
            · refine (hI2.1.wk (fun a q => Or.inr q)).tr ?_
              refine jsm.tr (M1 := M_171) ?_ (jsm.R (Or.inr (Or.inl rfl)))
              exact (jsm.cut2 (jsm.n rfl) r2 (fun a q => by omega)).wk (fun a q => Or.inl q)
            · rw [show jm_Z (js_R M_171 66 37 (some (jm_Z M2))) = jm_Z M_171 from rfl, r3, jZ_n, w1]; omega
            · rw [show jm_S (js_R M_171 66 37 (some (jm_Z M2))) = jm_S M_171 from rfl, r4, jS_n, w1]; omega
            · exact (b66.2.2.2.2.1 _).trans hI2.2.2.2.2.1
            · exact hS3.R (by decide)
        refine jw_aload_n (pc := 69) dX2_next_69 rfl ?_
        refine jw_aload_n (pc := 70) dX2_next_70 rfl ?_
        refine jx_getIs (pc := 71) (jf_X2_40_1.r) rfl dX2_next_71 rfl (is_66 hS) (by decide) (hE) ?_
        refine jx_cVE (mi1 := mi_X2_see) (pc := 74) rfl dX2_next_74 lk_X2_43 rfl fi_X2_see rfl rfl rfl (by decide) (is_66 hS) (t_X2_see (σ := σ) hS htp hNs hn9 (by omega)) (by first | decide | omega) rfl rfl (by decide) ?_
        refine jx_cSE (mi1 := mi_X2_isSmall) (pc := 77) rfl dX2_next_77 lk_X2_50 rfl fi_X2_isSmall (t_X2_isSmall) (by first | decide | omega) rfl rfl (by decide) ?_
        first | refine jx_ifb_eq (pc := 80) (tgt := 127) dX2_next_80 (by decide) ?_ ?_ | refine jx_if_eq (pc := 80) (tgt := 127) dX2_next_80 (by decide) (by omega) ?_ ?_ | refine jw_if_eq (pc := 80) (tgt := 127) dX2_next_80 (by decide) ?_ ?_
        · intro h_80
          refine jw_aload_n (pc := 127) dX2_next_127 rfl ?_
          refine jw_aload_n (pc := 128) dX2_next_128 rfl ?_
          refine jx_getIs (pc := 129) (jf_X2_40_1.r) rfl dX2_next_129 rfl (is_66 hS) (by decide) (hE) ?_
          refine jw_iload_n (pc := 132) dX2_next_132 rfl ?_
          refine jw_isub (pc := 133) dX2_next_133 ?_
          rw [show nI e - nI A = nI (e - A) from pk_sub hAx]
          refine jw_bipush (pc := 134) dX2_next_134 bp_8 ?_
          first | refine jx_icmp_le (pc := 136) (tgt := 143) dX2_next_136 (by decide) (by omega) (by omega) ?_ ?_ | refine jw_icmp_le (pc := 136) (tgt := 143) dX2_next_136 (by decide) ?_ ?_
          · intro h_136
            refine jw_iconst (pc := 143) dX2_next_143 ic_2 ?_
            exact LD (by omega)
          · intro h_136
            refine jw_iconst (pc := 139) dX2_next_139 ic_1 ?_
            refine jw_goto (pc := 140) (tgt := 144) dX2_next_140 (by decide) ?_
            exact LB (by omega)
        · intro h_80
          have h9 : inb (chI σ n e) (nI 97) (nI 122) = false := hsf
          rw [h9] at h_80; cases h_80
    exact K (A, M0) ⟨⟨Nat.le_refl _, by dsimp only; omega⟩, h0, fun j a b => by dsimp only at b; omega, fun i _ q => by dsimp only at q; omega⟩
  -- a number
  have LN : ∀ (A : Nat) (M0 : Mm) (x2 : Option Value), A < n → tkA (chI σ n) n p = A → digB (chI σ n A) = true → nxI M M0 σ n A A → jm_I M0 66 36 = nI 0 → jW G mi_X2_next 6 M 202 [some (jr (some 66)), some (.int (nI A)), x2] [] M0 (jPv (jNk M σ n p z)) := by
    intro A M0 x2 hA hAe hsm h0 hw0
    have K : ∀ x : Nat × Mm, ((A ≤ x.1 ∧ x.1 ≤ n) ∧ nxI M x.2 σ n A x.1 ∧ (∀ j, A ≤ j → j < x.1 → digB (chI σ n j) = true) ∧ (x.1 - A ≤ 3 → jm_I x.2 66 36 = nI (codeN 10 (x.1 - A) (fun i => cNt (chI σ n (A + i)) - 48)))) → jW G mi_X2_next 6 M 202 [some (jr (some 66)), some (.int (nI A)), x2] [] x.2 (jPv (jNk M σ n p z)) := by
      refine jW.loop (σ := Nat × Mm) _ (fun x => n - x.1) _ (fun _ => []) (fun x => x.2) (fun x hI ih => ?_)
      obtain ⟨e, M1⟩ := x
      obtain ⟨⟨hAx, hxn⟩, hI, hsm0, hlt⟩ := hI
      dsimp only at hAx hxn hI hsm0 hlt ih ⊢
      have hS := hI.2.1
      have hE := hI.2.2.2.2.2.2
      have hNs := hI.2.2.1
      have htp := hI.2.2.2.2.2.1
      by_cases hs : digB (chI σ n e) = true
      · have hen : e < n := ch_lt (fun q => by rw [q, dig_m] at hs; cases hs)
        obtain ⟨m1, m2, m3⟩ := dig_n hs
        generalize hc9 : cNt (chI σ n e) = m at m1 m2 m3
        have g1 : ∀ j, A ≤ j → j < e + 1 → digB (chI σ n j) = true := fun j a b => by
          by_cases q : j = e
          · subst q; exact hs
          · exact hsm0 j a (by omega)
        by_cases h3 : e - A < 3
        · have hW := hlt (by omega)
          refine jw_aload_n (pc := 202) dX2_next_202 rfl ?_
          refine jw_aload_n (pc := 203) dX2_next_203 rfl ?_
          refine jx_getIs (pc := 204) (jf_X2_40_1.r) rfl dX2_next_204 rfl (is_66 hS) (by decide) (hE) ?_
          refine jx_cVE (mi1 := mi_X2_see) (pc := 207) rfl dX2_next_207 lk_X2_43 rfl fi_X2_see rfl rfl rfl (by decide) (is_66 hS) (t_X2_see (σ := σ) hS htp hNs hn9 (by omega)) (by first | decide | omega) rfl rfl (by decide) ?_
          refine jx_cSE (mi1 := mi_X2_isDigit) (pc := 210) rfl dX2_next_210 lk_X2_65 rfl fi_X2_isDigit (t_X2_isDigit) (by first | decide | omega) rfl rfl (by decide) ?_
          first | refine jx_ifb_eq (pc := 213) (tgt := 262) dX2_next_213 (by decide) ?_ ?_ | refine jx_if_eq (pc := 213) (tgt := 262) dX2_next_213 (by decide) (by omega) ?_ ?_ | refine jw_if_eq (pc := 213) (tgt := 262) dX2_next_213 (by decide) ?_ ?_
          · intro h_213
            have h9 : inb (chI σ n e) (nI 48) (nI 57) = true := hs
            rw [h9] at h_213; cases h_213
          · intro h_213
            refine jw_aload_n (pc := 216) dX2_next_216 rfl ?_
            refine jx_getIs (pc := 217) (jf_X2_40_1.r) rfl dX2_next_217 rfl (is_66 hS) (by decide) (hE) ?_
            refine jw_iload_n (pc := 220) dX2_next_220 rfl ?_
            refine jw_isub (pc := 221) dX2_next_221 ?_
            rw [show nI e - nI A = nI (e - A) from pk_sub hAx]
            refine jw_iconst (pc := 222) dX2_next_222 ic_3 ?_
            first | refine jx_icmp_ge (pc := 223) (tgt := 249) dX2_next_223 (by decide) (by omega) (by omega) ?_ ?_ | refine jw_icmp_ge (pc := 223) (tgt := 249) dX2_next_223 (by decide) ?_ ?_
            · intro h_223
              omega
            · intro h_223
              refine jw_aload_n (pc := 226) dX2_next_226 rfl ?_
              refine jw_bipush (pc := 227) dX2_next_227 bp_10 ?_
              refine jw_aload_n (pc := 229) dX2_next_229 rfl ?_
              refine jx_getIs (pc := 230) (jf_X2_68_1.r) rfl dX2_next_230 rfl (is_66 hS) (by decide) (hW) ?_
              first | refine jx_imul (pc := 233) dX2_next_233 ?_ | refine jw_imul (pc := 233) dX2_next_233 ?_
              refine jw_aload_n (pc := 234) dX2_next_234 rfl ?_
              refine jw_aload_n (pc := 235) dX2_next_235 rfl ?_
              refine jx_getIs (pc := 236) (jf_X2_40_1.r) rfl dX2_next_236 rfl (is_66 hS) (by decide) (hE) ?_
              refine jx_cVE (mi1 := mi_X2_see) (pc := 239) rfl dX2_next_239 lk_X2_43 rfl fi_X2_see rfl rfl rfl (by decide) (is_66 hS) (t_X2_see (σ := σ) hS htp hNs hn9 (by omega)) (by first | decide | omega) rfl rfl (by simp only [List.map_cons, List.map_nil, List.sum_cons, List.sum_nil, cat_i, cat_l, jr_cat]; decide) ?_
              rw [m3]
              first | refine jx_iadd (pc := 242) dX2_next_242 ?_ | refine jw_iadd (pc := 242) dX2_next_242 ?_
              refine jw_bipush (pc := 243) dX2_next_243 bp_48 ?_
              refine jw_isub (pc := 245) dX2_next_245 ?_
              rw [show nI (10 * codeN 10 (e - A) (fun i => cNt (chI σ n (A + i)) - 48) + m) - nI 48 = nI (10 * codeN 10 (e - A) (fun i => cNt (chI σ n (A + i)) - 48) + m - 48) from pk_sub (by omega)]
              refine jx_putI (pc := 246) jf_X2_68_1 rfl dX2_next_246 rfl rfl (is_66 hS) (by decide) ?_
              refine jw_aload_n (pc := 249) dX2_next_249 rfl ?_
              refine jw_dup (pc := 250) dX2_next_250 (jis2_r _) ?_
              refine jx_getIs (pc := 251) (jf_X2_40_1.r) rfl dX2_next_251 rfl (is_66 hS) (by decide) (hE) ?_
              refine jw_iconst (pc := 254) dX2_next_254 ic_1 ?_
              first | refine jx_iadd (pc := 255) dX2_next_255 ?_ | refine jw_iadd (pc := 255) dX2_next_255 ?_
              refine jx_putI (pc := 256) jf_X2_40_1 rfl dX2_next_256 rfl rfl (is_66 hS) (by decide) ?_
              refine jw_goto (pc := 259) (tgt := 202) dX2_next_259 (by decide) ?_
              exact ih (e + 1, _) ⟨⟨by dsimp only; omega, hen⟩, hI.W.E, g1, fun _ => by
                show nI (10 * codeN 10 (e - A) (fun i => cNt (chI σ n (A + i)) - 48) + m - 48) = _
                dsimp only
                rw [show e + 1 - A = (e - A) + 1 by omega, codeN_s, show A + (e - A) = e by omega, hc9]
                congr 1; omega⟩ (by dsimp only; omega)
        ·
          refine jw_aload_n (pc := 202) dX2_next_202 rfl ?_
          refine jw_aload_n (pc := 203) dX2_next_203 rfl ?_
          refine jx_getIs (pc := 204) (jf_X2_40_1.r) rfl dX2_next_204 rfl (is_66 hS) (by decide) (hE) ?_
          refine jx_cVE (mi1 := mi_X2_see) (pc := 207) rfl dX2_next_207 lk_X2_43 rfl fi_X2_see rfl rfl rfl (by decide) (is_66 hS) (t_X2_see (σ := σ) hS htp hNs hn9 (by omega)) (by first | decide | omega) rfl rfl (by decide) ?_
          refine jx_cSE (mi1 := mi_X2_isDigit) (pc := 210) rfl dX2_next_210 lk_X2_65 rfl fi_X2_isDigit (t_X2_isDigit) (by first | decide | omega) rfl rfl (by decide) ?_
          first | refine jx_ifb_eq (pc := 213) (tgt := 262) dX2_next_213 (by decide) ?_ ?_ | refine jx_if_eq (pc := 213) (tgt := 262) dX2_next_213 (by decide) (by omega) ?_ ?_ | refine jw_if_eq (pc := 213) (tgt := 262) dX2_next_213 (by decide) ?_ ?_
          · intro h_213
            have h9 : inb (chI σ n e) (nI 48) (nI 57) = true := hs
            rw [h9] at h_213; cases h_213
          · intro h_213
            refine jw_aload_n (pc := 216) dX2_next_216 rfl ?_
            refine jx_getIs (pc := 217) (jf_X2_40_1.r) rfl dX2_next_217 rfl (is_66 hS) (by decide) (hE) ?_
            refine jw_iload_n (pc := 220) dX2_next_220 rfl ?_
            refine jw_isub (pc := 221) dX2_next_221 ?_
            rw [show nI e - nI A = nI (e - A) from pk_sub hAx]
            refine jw_iconst (pc := 222) dX2_next_222 ic_3 ?_
            first | refine jx_icmp_ge (pc := 223) (tgt := 249) dX2_next_223 (by decide) (by omega) (by omega) ?_ ?_ | refine jw_icmp_ge (pc := 223) (tgt := 249) dX2_next_223 (by decide) ?_ ?_
            · intro h_223
              refine jw_aload_n (pc := 249) dX2_next_249 rfl ?_
              refine jw_dup (pc := 250) dX2_next_250 (jis2_r _) ?_
              refine jx_getIs (pc := 251) (jf_X2_40_1.r) rfl dX2_next_251 rfl (is_66 hS) (by decide) (hE) ?_
              refine jw_iconst (pc := 254) dX2_next_254 ic_1 ?_
              first | refine jx_iadd (pc := 255) dX2_next_255 ?_ | refine jw_iadd (pc := 255) dX2_next_255 ?_
              refine jx_putI (pc := 256) jf_X2_40_1 rfl dX2_next_256 rfl rfl (is_66 hS) (by decide) ?_
              refine jw_goto (pc := 259) (tgt := 202) dX2_next_259 (by decide) ?_
              exact ih (e + 1, _) ⟨⟨by dsimp only; omega, hen⟩, hI.E, g1, fun q => by dsimp only at q; omega⟩ (by dsimp only; omega)
            · intro h_223
              omega
      · have hsf : digB (chI σ n e) = false := by rw [Bool.not_eq_true] at hs; exact hs
        have hsm9 : digB (chI σ n (tkA (chI σ n) n p)) = true := by rw [hAe]; exact hsm
        obtain ⟨w1, w2, w3⟩ := tk_num (σ := σ) (n := n) (p := p) hsm9 (e := e) (by rw [hAe]; exact hAx) hxn hsf (fun j a b => hsm0 j (by rw [hAe] at a; exact a) b)
        rw [hAe] at w2 w3
        refine jw_aload_n (pc := 202) dX2_next_202 rfl ?_
        refine jw_aload_n (pc := 203) dX2_next_203 rfl ?_
        refine jx_getIs (pc := 204) (jf_X2_40_1.r) rfl dX2_next_204 rfl (is_66 hS) (by decide) (hE) ?_
        refine jx_cVE (mi1 := mi_X2_see) (pc := 207) rfl dX2_next_207 lk_X2_43 rfl fi_X2_see rfl rfl rfl (by decide) (is_66 hS) (t_X2_see (σ := σ) hS htp hNs hn9 (by omega)) (by first | decide | omega) rfl rfl (by decide) ?_
        refine jx_cSE (mi1 := mi_X2_isDigit) (pc := 210) rfl dX2_next_210 lk_X2_65 rfl fi_X2_isDigit (t_X2_isDigit) (by first | decide | omega) rfl rfl (by decide) ?_
        first | refine jx_ifb_eq (pc := 213) (tgt := 262) dX2_next_213 (by decide) ?_ ?_ | refine jx_if_eq (pc := 213) (tgt := 262) dX2_next_213 (by decide) (by omega) ?_ ?_ | refine jw_if_eq (pc := 213) (tgt := 262) dX2_next_213 (by decide) ?_ ?_
        · intro h_213
          refine jw_aload_n (pc := 262) dX2_next_262 rfl ?_
          refine jw_aload_n (pc := 263) dX2_next_263 rfl ?_
          refine jx_getIs (pc := 264) (jf_X2_40_1.r) rfl dX2_next_264 rfl (is_66 hS) (by decide) (hE) ?_
          refine jw_iload_n (pc := 267) dX2_next_267 rfl ?_
          refine jw_isub (pc := 268) dX2_next_268 ?_
          rw [show nI e - nI A = nI (e - A) from pk_sub hAx]
          refine jw_iconst (pc := 269) dX2_next_269 ic_3 ?_
          first | refine jx_icmp_le (pc := 270) (tgt := 277) dX2_next_270 (by decide) (by omega) (by omega) ?_ ?_ | refine jw_icmp_le (pc := 270) (tgt := 277) dX2_next_270 (by decide) ?_ ?_
          · intro h_270
            refine jw_iconst (pc := 277) dX2_next_277 ic_3 ?_
            refine jx_putI (pc := 278) jf_X2_47_1 rfl dX2_next_278 rfl rfl (is_66 hS) (by decide) ?_
            refine jw_goto (pc := 281) (tgt := 305) dX2_next_281 (by decide) ?_
            refine jw_return (pc := 305) dX2_next_305 rfl ?_
            refine ⟨rfl, ?_⟩
            first
              | (rw [if_neg (by omega)] at w2; exact jNk.of hI.T hp hAe w1 (by rw [w2]; rfl) (fun q => by rw [w2] at q; cases q) (by rw [w2]; decide))
              | (rw [if_pos (by omega)] at w2; exact jNk.of hI.T hp hAe w1 (by rw [w2]; rfl) (fun q => by rw [w3]; exact hlt (by omega)) (by rw [w2]; decide))
          · intro h_270
            refine jw_iconst (pc := 273) dX2_next_273 ic_1 ?_
            refine jw_goto (pc := 274) (tgt := 278) dX2_next_274 (by decide) ?_
            refine jx_putI (pc := 278) jf_X2_47_1 rfl dX2_next_278 rfl rfl (is_66 hS) (by decide) ?_
            refine jw_goto (pc := 281) (tgt := 305) dX2_next_281 (by decide) ?_
            refine jw_return (pc := 305) dX2_next_305 rfl ?_
            refine ⟨rfl, ?_⟩
            first
              | (rw [if_neg (by omega)] at w2; exact jNk.of hI.T hp hAe w1 (by rw [w2]; rfl) (fun q => by rw [w2] at q; cases q) (by rw [w2]; decide))
              | (rw [if_pos (by omega)] at w2; exact jNk.of hI.T hp hAe w1 (by rw [w2]; rfl) (fun q => by rw [w3]; exact hlt (by omega)) (by rw [w2]; decide))
        · intro h_213
          have h9 : inb (chI σ n e) (nI 48) (nI 57) = false := hsf
          rw [h9] at h_213; cases h_213
    exact K (A, M0) ⟨⟨Nat.le_refl _, by dsimp only; omega⟩, h0, fun j a b => by dsimp only at b; omega, fun q => by dsimp only; rw [Nat.sub_self]; exact hw0⟩
  -- behind the spaces
  have L21 : ∀ A : Nat, A ≤ n → tkA (chI σ n) n p = A → jW G mi_X2_next 6 M 21 [some (jr (some 66)), some (.int (nI A)), none] [] M (jPv (jNk M σ n p z)) := by
    intro A hA hAe
    refine jw_aload_n (pc := 21) dX2_next_21 rfl ?_
    refine jw_iload_n (pc := 22) dX2_next_22 rfl ?_
    refine jx_putI (pc := 23) jf_X2_26_1 rfl dX2_next_23 rfl rfl (is_66 hS) (by decide) ?_
    refine jw_aload_n (pc := 26) dX2_next_26 rfl ?_
    refine jw_iload_n (pc := 27) dX2_next_27 rfl ?_
    refine jw_iconst (pc := 28) dX2_next_28 ic_1 ?_
    first | refine jx_iadd (pc := 29) dX2_next_29 ?_ | refine jw_iadd (pc := 29) dX2_next_29 ?_
    refine jx_putI (pc := 30) jf_X2_40_1 rfl dX2_next_30 rfl rfl (is_66 hS) (by decide) ?_
    have hI : nxI M (js_I (js_I M 66 35 (nI A)) 66 33 (nI (A + 1))) σ n A (A + 1) := ⟨(jsm.I (Or.inl rfl)).tr (jsm.I (Or.inl rfl)), hS, hn, rfl, rfl, ht, rfl⟩
    generalize js_I (js_I M 66 35 (nI A)) 66 33 (nI (A + 1)) = M1 at hI ⊢
    clear hS
    have hS := hI.2.1
    refine jw_aload_n (pc := 33) dX2_next_33 rfl ?_
    refine jw_iload_n (pc := 34) dX2_next_34 rfl ?_
    refine jx_cVE (mi1 := mi_X2_see) (pc := 35) rfl dX2_next_35 lk_X2_43 rfl fi_X2_see rfl rfl rfl (by decide) (is_66 hS) (t_X2_see (σ := σ) hS hI.2.2.2.2.2.1 hI.2.2.1 hn9 (by omega)) (by first | decide | omega) rfl rfl (by decide) ?_
    refine jw_istore_n (pc := 38) dX2_next_38 (Nat.le_of_ble_eq_true rfl) rfl ?_
    try dsimp only [jput1, jput2, jkill, jclr, jis2_i, jis2_l, jis2_rs, jis2_rn, cond]
    refine jw_iload_n (pc := 39) dX2_next_39 rfl ?_
    refine jw_iconst (pc := 40) dX2_next_40 ic_m1 ?_
    refine jw_icmp_ne (pc := 41) (tgt := 57) dX2_next_41 (by decide) ?_ ?_
    · intro h_41
      refine jw_iload_n (pc := 57) dX2_next_57 rfl ?_
      refine jx_cSE (mi1 := mi_X2_isSmall) (pc := 58) rfl dX2_next_58 lk_X2_50 rfl fi_X2_isSmall (t_X2_isSmall) (by first | decide | omega) rfl rfl (by decide) ?_
      first | refine jx_ifb_eq (pc := 61) (tgt := 185) dX2_next_61 (by decide) ?_ ?_ | refine jx_if_eq (pc := 61) (tgt := 185) dX2_next_61 (by decide) (by omega) ?_ ?_ | refine jw_if_eq (pc := 61) (tgt := 185) dX2_next_61 (by decide) ?_ ?_
      · intro h_61
        have h8 : smlB (chI σ n A) = false := h_61
        refine jw_iload_n (pc := 185) dX2_next_185 rfl ?_
        refine jx_cSE (mi1 := mi_X2_isDigit) (pc := 186) rfl dX2_next_186 lk_X2_65 rfl fi_X2_isDigit (t_X2_isDigit) (by first | decide | omega) rfl rfl (by decide) ?_
        first | refine jx_ifb_eq (pc := 189) (tgt := 284) dX2_next_189 (by decide) ?_ ?_ | refine jx_if_eq (pc := 189) (tgt := 284) dX2_next_189 (by decide) (by omega) ?_ ?_ | refine jw_if_eq (pc := 189) (tgt := 284) dX2_next_189 (by decide) ?_ ?_
        · intro h_189
          have h7 : digB (chI σ n A) = false := h_189
          refine jw_aload_n (pc := 284) dX2_next_284 rfl ?_
          refine jw_iload_n (pc := 285) dX2_next_285 rfl ?_
          refine jw_bipush (pc := 286) dX2_next_286 bp_59 ?_
          refine jw_icmp_eq (pc := 288) (tgt := 297) dX2_next_288 (by decide) ?_ ?_
          · intro h_288
            refine jw_iload_n (pc := 297) dX2_next_297 rfl ?_
            refine jw_goto (pc := 298) (tgt := 302) dX2_next_298 (by decide) ?_
            refine jx_putI (pc := 302) jf_X2_47_1 rfl dX2_next_302 rfl rfl (is_66 hS) (by decide) ?_
            refine jw_return (pc := 305) dX2_next_305 rfl ?_
            refine ⟨rfl, ?_⟩
            first
              | (obtain ⟨k1, k2⟩ := tk_end (σ := σ) (n := n) (p := p) (by rw [hAe]; exact h_41)
                 rw [hAe] at k2
                 exact jNk.of hI.T.E hp hAe k2 (by rw [k1]; rfl) (fun q => by rw [k1] at q; cases q) (by rw [k1]; decide))
              | (obtain ⟨k1, k2⟩ := tk_oth (σ := σ) (n := n) (p := p) (by rw [hAe]; exact h_41) (by rw [hAe]; exact h8) (by rw [hAe]; exact h7)
                 rw [hAe] at k1 k2
                 rw [if_pos h_288] at k2
                 exact jNk.of hI.T hp hAe k1 (by rw [k2]; exact h_288) (fun q => by rw [k2] at q; cases q) (by rw [k2]; decide))
              | (obtain ⟨k1, k2⟩ := tk_oth (σ := σ) (n := n) (p := p) (by rw [hAe]; exact h_41) (by rw [hAe]; exact h8) (by rw [hAe]; exact h7)
                 rw [hAe] at k1 k2
                 rw [if_neg h_288, if_pos h_294] at k2
                 exact jNk.of hI.T hp hAe k1 (by rw [k2]; exact h_294) (fun q => by rw [k2] at q; cases q) (by rw [k2]; decide))
              | (obtain ⟨k1, k2⟩ := tk_oth (σ := σ) (n := n) (p := p) (by rw [hAe]; exact h_41) (by rw [hAe]; exact h8) (by rw [hAe]; exact h7)
                 rw [hAe] at k1 k2
                 rw [if_neg h_288, if_neg h_294] at k2
                 exact jNk.of hI.T hp hAe k1 (by rw [k2]; rfl) (fun q => by rw [k2] at q; cases q) (by rw [k2]; decide))
          · intro h_288
            refine jw_iload_n (pc := 291) dX2_next_291 rfl ?_
            refine jw_bipush (pc := 292) dX2_next_292 bp_44 ?_
            refine jw_icmp_ne (pc := 294) (tgt := 301) dX2_next_294 (by decide) ?_ ?_
            · intro h_294
              refine jw_iconst (pc := 301) dX2_next_301 ic_1 ?_
              refine jx_putI (pc := 302) jf_X2_47_1 rfl dX2_next_302 rfl rfl (is_66 hS) (by decide) ?_
              refine jw_return (pc := 305) dX2_next_305 rfl ?_
              refine ⟨rfl, ?_⟩
              first
                | (obtain ⟨k1, k2⟩ := tk_end (σ := σ) (n := n) (p := p) (by rw [hAe]; exact h_41)
                   rw [hAe] at k2
                   exact jNk.of hI.T.E hp hAe k2 (by rw [k1]; rfl) (fun q => by rw [k1] at q; cases q) (by rw [k1]; decide))
                | (obtain ⟨k1, k2⟩ := tk_oth (σ := σ) (n := n) (p := p) (by rw [hAe]; exact h_41) (by rw [hAe]; exact h8) (by rw [hAe]; exact h7)
                   rw [hAe] at k1 k2
                   rw [if_pos h_288] at k2
                   exact jNk.of hI.T hp hAe k1 (by rw [k2]; exact h_288) (fun q => by rw [k2] at q; cases q) (by rw [k2]; decide))
                | (obtain ⟨k1, k2⟩ := tk_oth (σ := σ) (n := n) (p := p) (by rw [hAe]; exact h_41) (by rw [hAe]; exact h8) (by rw [hAe]; exact h7)
                   rw [hAe] at k1 k2
                   rw [if_neg h_288, if_pos h_294] at k2
                   exact jNk.of hI.T hp hAe k1 (by rw [k2]; exact h_294) (fun q => by rw [k2] at q; cases q) (by rw [k2]; decide))
                | (obtain ⟨k1, k2⟩ := tk_oth (σ := σ) (n := n) (p := p) (by rw [hAe]; exact h_41) (by rw [hAe]; exact h8) (by rw [hAe]; exact h7)
                   rw [hAe] at k1 k2
                   rw [if_neg h_288, if_neg h_294] at k2
                   exact jNk.of hI.T hp hAe k1 (by rw [k2]; rfl) (fun q => by rw [k2] at q; cases q) (by rw [k2]; decide))
            · intro h_294
              refine jw_iload_n (pc := 297) dX2_next_297 rfl ?_
              refine jw_goto (pc := 298) (tgt := 302) dX2_next_298 (by decide) ?_
              refine jx_putI (pc := 302) jf_X2_47_1 rfl dX2_next_302 rfl rfl (is_66 hS) (by decide) ?_
              refine jw_return (pc := 305) dX2_next_305 rfl ?_
              refine ⟨rfl, ?_⟩
              first
                | (obtain ⟨k1, k2⟩ := tk_end (σ := σ) (n := n) (p := p) (by rw [hAe]; exact h_41)
                   rw [hAe] at k2
                   exact jNk.of hI.T.E hp hAe k2 (by rw [k1]; rfl) (fun q => by rw [k1] at q; cases q) (by rw [k1]; decide))
                | (obtain ⟨k1, k2⟩ := tk_oth (σ := σ) (n := n) (p := p) (by rw [hAe]; exact h_41) (by rw [hAe]; exact h8) (by rw [hAe]; exact h7)
                   rw [hAe] at k1 k2
                   rw [if_pos h_288] at k2
                   exact jNk.of hI.T hp hAe k1 (by rw [k2]; exact h_288) (fun q => by rw [k2] at q; cases q) (by rw [k2]; decide))
                | (obtain ⟨k1, k2⟩ := tk_oth (σ := σ) (n := n) (p := p) (by rw [hAe]; exact h_41) (by rw [hAe]; exact h8) (by rw [hAe]; exact h7)
                   rw [hAe] at k1 k2
                   rw [if_neg h_288, if_pos h_294] at k2
                   exact jNk.of hI.T hp hAe k1 (by rw [k2]; exact h_294) (fun q => by rw [k2] at q; cases q) (by rw [k2]; decide))
                | (obtain ⟨k1, k2⟩ := tk_oth (σ := σ) (n := n) (p := p) (by rw [hAe]; exact h_41) (by rw [hAe]; exact h8) (by rw [hAe]; exact h7)
                   rw [hAe] at k1 k2
                   rw [if_neg h_288, if_neg h_294] at k2
                   exact jNk.of hI.T hp hAe k1 (by rw [k2]; rfl) (fun q => by rw [k2] at q; cases q) (by rw [k2]; decide))
        · intro h_189
          refine jw_aload_n (pc := 192) dX2_next_192 rfl ?_
          refine jw_iconst (pc := 193) dX2_next_193 ic_0 ?_
          refine jx_putI (pc := 194) jf_X2_68_1 rfl dX2_next_194 rfl rfl (is_66 hS) (by decide) ?_
          refine jw_aload_n (pc := 197) dX2_next_197 rfl ?_
          refine jw_iload_n (pc := 198) dX2_next_198 rfl ?_
          refine jx_putI (pc := 199) jf_X2_40_1 rfl dX2_next_199 rfl rfl (is_66 hS) (by decide) ?_
          have hA9 : A < n := ch_lt h_41
          exact LN A _ _ hA9 hAe h_189 hI.W.E rfl
      · intro h_61
        refine jw_aload_n (pc := 64) dX2_next_64 rfl ?_
        refine jw_iload_n (pc := 65) dX2_next_65 rfl ?_
        refine jx_putI (pc := 66) jf_X2_40_1 rfl dX2_next_66 rfl rfl (is_66 hS) (by decide) ?_
        have hA9 : A < n := ch_lt h_41
        exact LW A _ _ hA9 hAe h_61 hI.E
    · intro h_41
      refine jw_aload_n (pc := 44) dX2_next_44 rfl ?_
      refine jw_iconst (pc := 45) dX2_next_45 ic_0 ?_
      refine jx_putI (pc := 46) jf_X2_47_1 rfl dX2_next_46 rfl rfl (is_66 hS) (by decide) ?_
      refine jw_aload_n (pc := 49) dX2_next_49 rfl ?_
      refine jw_iload_n (pc := 50) dX2_next_50 rfl ?_
      refine jx_putI (pc := 51) jf_X2_40_1 rfl dX2_next_51 rfl rfl (is_66 hS) (by decide) ?_
      refine jw_goto (pc := 54) (tgt := 305) dX2_next_54 (by decide) ?_
      refine jw_return (pc := 305) dX2_next_305 rfl ?_
      refine ⟨rfl, ?_⟩
      first
        | (obtain ⟨k1, k2⟩ := tk_end (σ := σ) (n := n) (p := p) (by rw [hAe]; exact h_41)
           rw [hAe] at k2
           exact jNk.of hI.T.E hp hAe k2 (by rw [k1]; rfl) (fun q => by rw [k1] at q; cases q) (by rw [k1]; decide))
        | (obtain ⟨k1, k2⟩ := tk_oth (σ := σ) (n := n) (p := p) (by rw [hAe]; exact h_41) (by rw [hAe]; exact h8) (by rw [hAe]; exact h7)
           rw [hAe] at k1 k2
           rw [if_pos h_288] at k2
           exact jNk.of hI.T hp hAe k1 (by rw [k2]; exact h_288) (fun q => by rw [k2] at q; cases q) (by rw [k2]; decide))
        | (obtain ⟨k1, k2⟩ := tk_oth (σ := σ) (n := n) (p := p) (by rw [hAe]; exact h_41) (by rw [hAe]; exact h8) (by rw [hAe]; exact h7)
           rw [hAe] at k1 k2
           rw [if_neg h_288, if_pos h_294] at k2
           exact jNk.of hI.T hp hAe k1 (by rw [k2]; exact h_294) (fun q => by rw [k2] at q; cases q) (by rw [k2]; decide))
        | (obtain ⟨k1, k2⟩ := tk_oth (σ := σ) (n := n) (p := p) (by rw [hAe]; exact h_41) (by rw [hAe]; exact h8) (by rw [hAe]; exact h7)
           rw [hAe] at k1 k2
           rw [if_neg h_288, if_neg h_294] at k2
           exact jNk.of hI.T hp hAe k1 (by rw [k2]; rfl) (fun q => by rw [k2] at q; cases q) (by rw [k2]; decide))
  have K5 : ∀ k : Nat, ((p ≤ k ∧ k ≤ n) ∧ ∀ j, p ≤ j → j < k → chI σ n j = nI 32) → jW G mi_X2_next 6 M 5 [some (jr (some 66)), some (.int (nI k)), none] [] M (jPv (jNk M σ n p z)) := by
    refine jW.loop _ (fun k => n - k) _ (fun _ => []) (fun _ => M) (fun k hI ih => ?_)
    obtain ⟨⟨h1, h2⟩, h0⟩ := hI
    refine jw_aload_n (pc := 5) dX2_next_5 rfl ?_
    refine jw_iload_n (pc := 6) dX2_next_6 rfl ?_
    refine jx_cVE (mi1 := mi_X2_see) (pc := 7) rfl dX2_next_7 lk_X2_43 rfl fi_X2_see rfl rfl rfl (by decide) (is_66 hS) (t_X2_see (σ := σ) hS ht hn hn9 (by omega)) (by first | decide | omega) rfl rfl (by decide) ?_
    refine jw_bipush (pc := 10) dX2_next_10 bp_32 ?_
    refine jw_icmp_ne (pc := 12) (tgt := 21) dX2_next_12 (by decide) ?_ ?_
    · intro h_12
      exact L21 k h2 (tkA_eq h1 h2 h_12 h0)
    · intro h_12
      first | refine jx_iinc (pc := 15) dX2_next_15 rfl rfl ?_ | refine jw_iinc (pc := 15) dX2_next_15 rfl rfl rfl ?_
      try dsimp only [jput1, jkill, jclr, jis2_i, jis2_l, jis2_rs, jis2_rn, cond]
      refine jw_goto (pc := 18) (tgt := 5) dX2_next_18 (by decide) ?_
      have hk : k < n := ch_lt (fun q => by rw [h_12] at q; exact absurd q (by decide +kernel))
      exact ih (k + 1) ⟨⟨by omega, hk⟩, fun j a b => by
        by_cases q : j = k
        · subst q; exact h_12
        · exact h0 j a (by omega)⟩ (by omega)
  refine jT.of (by decide) rfl (Nat.le_of_ble_eq_true rfl) ?_
  refine jw_aload_n (pc := 0) dX2_next_0 rfl ?_
  refine jx_getIs (pc := 1) (jf_X2_40_1.r) rfl dX2_next_1 rfl (is_66 hS) (by decide) (he) ?_
  refine jw_istore_n (pc := 4) dX2_next_4 (Nat.le_of_ble_eq_true rfl) rfl ?_
  try dsimp only [jput1, jput2, jkill, jclr, jis2_i, jis2_l, jis2_rs, jis2_rn, cond]
  exact K5 p ⟨⟨Nat.le_refl _, hp⟩, fun j a b => by omega⟩
end JNX
