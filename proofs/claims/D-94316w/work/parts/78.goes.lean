/-! ===== m: the next token ===== -/
def srt (k : Nat) : Nat := if k = 0 then 1 else if k = 1 then 0 else if k ≤ 3 then k else 4
def sgnK (k : Nat) : Nat := if k ≤ 3 then 0 else k
/-- m at a token -/
def jGp (M : Mm) (σ : Sg) (n p : Nat) : Prop := (tkK (chI σ n) n p ≠ 1 → jm_I M 90 57 = nI (tkE (chI σ n) n p)) ∧ jm_I M 90 58 = nI (srt (tkK (chI σ n) n p)) ∧ jm_I M 90 59 = nI (tkA (chI σ n) n p) ∧ jm_I M 90 60 = nI (sgnK (tkK (chI σ n) n p)) ∧ (tkK (chI σ n) n p = 3 → jm_I M 90 61 = nI (tkV (chI σ n) n p)) ∧ (tkK (chI σ n) n p = 2 → jm_L M 90 64 = lN (tkV (chI σ n) n p))
/-- what of m stays while tokens are read -/
def gKp (M M1 : Mm) : Prop := jsm (fun a => a = 90) M M1 ∧ (∀ j, j < 57 ∨ 61 < j → jm_I M1 90 j = jm_I M 90 j) ∧ (∀ j, jm_R M1 90 j = jm_R M 90 j) ∧ jSh M1
def gI (M M1 : Mm) (σ : Sg) (e : Nat) : Prop := gKp M M1 ∧ (∀ k, k < 900 → jm_A M1 91 k = sb σ 0 k) ∧ jm_I M1 90 57 = nI e
theorem gI.P {M M1 : Mm} {σ : Sg} {e e1 : Nat} (h : gI M M1 σ e) : gI M (js_I M1 90 57 (nI e1)) σ e1 := ⟨⟨h.1.1.tr (jsm.I rfl), fun j hj => (by rw [jI_I, if_neg (by omega)]; exact h.1.2.1 j hj), h.1.2.2.1, h.1.2.2.2⟩, h.2.1, rfl⟩
theorem gI.I {M M1 : Mm} {σ : Sg} {e k : Nat} {x : Int32} (h : gI M M1 σ e) (h1 : 58 ≤ k) (h2 : k ≤ 61) : gI M (js_I M1 90 k x) σ e := ⟨⟨h.1.1.tr (jsm.I rfl), fun j hj => (by rw [jI_I, if_neg (by omega)]; exact h.1.2.1 j hj), h.1.2.2.1, h.1.2.2.2⟩, h.2.1, by rw [jI_I, if_neg (by omega)]; exact h.2.2⟩
theorem gI.L {M M1 : Mm} {σ : Sg} {e k : Nat} {x : Int64} (h : gI M M1 σ e) : gI M (js_L M1 90 k x) σ e := ⟨⟨h.1.1.tr (jsm.L rfl), h.1.2.1, h.1.2.2.1, h.1.2.2.2⟩, h.2.1, h.2.2⟩
section JGO
variable {G : Gh} {M : Mm} {σ : Sg}
theorem t_X5_goesOn1 {n p s0 : Nat} (hS : jSh M) (ht : ∀ k, k < 900 → jm_A M 91 k = sb σ 0 k) (hn : jm_I M 90 56 = nI n) (he : jm_I M 90 57 = nI p) (hs0 : jm_I M 90 58 = nI s0) (h5 : s0 ≠ 5) (h59 : s0 < 2 ^ 30) (hp : p ≤ n) (hn9 : n ≤ 900) : jT G mi_X5_goesOn 4 [jr (some 90)] M (jPv (fun M' => jGp M' σ n p ∧ gKp M M')) := by
  have hz : ∀ {M1 e}, gI M M1 σ e → jm_I M1 90 56 = nI n := fun h => (h.1.2.1 _ (by decide)).trans hn
  -- letters
  have LW : ∀ (A : Nat) (M0 : Mm) (x1 : Int32), A < n → tkA (chI σ n) n p = A → smlB (chI σ n A) = true → gI M M0 σ A → (jm_I M0 90 59 = nI A ∧ jm_I M0 90 58 = nI 0 ∧ jm_I M0 90 60 = nI 0 ∧ jm_L M0 90 64 = lN 0) → jW G mi_X5_goesOn 4 M 89 [some (jr (some 90)), some (.int x1), some (.int (nI 0))] [] M0 (jPv (fun M' => jGp M' σ n p ∧ gKp M M')) := by
    intro A M0 x1 hA hAe hsm h0 hf0
    have K : ∀ x : Nat × Mm, ((A ≤ x.1 ∧ x.1 ≤ n) ∧ gI M x.2 σ x.1 ∧ (∀ j, A ≤ j → j < x.1 → smlB (chI σ n j) = true) ∧ (jm_I x.2 90 59 = nI A ∧ jm_I x.2 90 58 = nI 0 ∧ jm_I x.2 90 60 = nI 0 ∧ (x.1 - A ≤ 8 → jm_L x.2 90 64 = lN (txc (fun i => cNt (chI σ n (A + i))) (x.1 - A))))) → jW G mi_X5_goesOn 4 M 89 [some (jr (some 90)), some (.int x1), some (.int (nI (x.1 - A)))] [] x.2 (jPv (fun M' => jGp M' σ n p ∧ gKp M M')) := by
      refine jW.loop (σ := Nat × Mm) _ (fun x => n - x.1) _ (fun _ => []) (fun x => x.2) (fun x hI ih => ?_)
      obtain ⟨e, M1⟩ := x
      obtain ⟨⟨hAx, hxn⟩, hI, hsm0, hf1, hf2, hf3, hlt⟩ := hI
      dsimp only at hAx hxn hI hsm0 hf1 hf2 hf3 hlt ih ⊢
      have hS := hI.1.2.2.2
      have hE := hI.2.2
      have hNs := hz hI
      have htp := hI.2.1
      by_cases hs : smlB (chI σ n e) = true
      · have hen : e < n := ch_lt (fun q => by rw [q, sml_m] at hs; cases hs)
        obtain ⟨m1, m2, m3⟩ := sml_n hs
        generalize hc9 : cNt (chI σ n e) = m at m1 m2 m3
        have g1 : ∀ j, A ≤ j → j < e + 1 → smlB (chI σ n j) = true := fun j a b => by
          by_cases q : j = e
          · subst q; exact hs
          · exact hsm0 j a (by omega)
        by_cases h8 : e - A < 8
        · have hW := hlt (by omega)
          refine jw_aload_n (pc := 89) dX5_goesOn_89 rfl ?_
          refine jw_aload_n (pc := 90) dX5_goesOn_90 rfl ?_
          refine jx_getIs (pc := 91) (jf_X5_88_4.r) rfl dX5_goesOn_91 rfl (is_90 hS) (by decide) (hE) ?_
          refine jx_cVE (mi1 := mi_X5_byteAt) (pc := 94) rfl dX5_goesOn_94 lk_X5_91 rfl fi_X5_byteAt rfl rfl rfl (by decide) (is_90 hS) (t_X5_byteAt (σ := σ) hS htp hNs hn9 (by omega)) (by first | decide | omega) rfl rfl (by decide) ?_
          refine jx_cSE (mi1 := mi_X5_isLetter) (pc := 97) rfl dX5_goesOn_97 lk_X5_100 rfl fi_X5_isLetter (t_X5_isLetter) (by first | decide | omega) rfl rfl (by decide) ?_
          first | refine jx_ifb_eq (pc := 100) (tgt := 152) dX5_goesOn_100 (by decide) ?_ ?_ | refine jx_if_eq (pc := 100) (tgt := 152) dX5_goesOn_100 (by decide) (by omega) ?_ ?_ | refine jw_if_eq (pc := 100) (tgt := 152) dX5_goesOn_100 (by decide) ?_ ?_
          · intro h_100
            have h9 : inb (chI σ n e) (nI 97) (nI 122) = true := hs
            rw [h9] at h_100; cases h_100
          · intro h_100
            refine jw_iload_n (pc := 103) dX5_goesOn_103 rfl ?_
            refine jw_bipush (pc := 104) dX5_goesOn_104 bp_8 ?_
            first | refine jx_icmp_ge (pc := 106) (tgt := 136) dX5_goesOn_106 (by decide) (by omega) (by omega) ?_ ?_ | refine jw_icmp_ge (pc := 106) (tgt := 136) dX5_goesOn_106 (by decide) ?_ ?_
            · intro h_106
              omega
            · intro h_106
              refine jw_aload_n (pc := 109) dX5_goesOn_109 rfl ?_
              refine jw_ldc2 (pc := 110) q1721 rfl dX5_goesOn_110 ?_
              refine jw_aload_n (pc := 113) dX5_goesOn_113 rfl ?_
              refine jx_getLs (pc := 114) (jf_X5_104_4.r) rfl dX5_goesOn_114 rfl (is_90 hS) (by decide) (hW) ?_
              refine jw_lmul (pc := 117) dX5_goesOn_117 ?_
              refine jw_aload_n (pc := 118) dX5_goesOn_118 rfl ?_
              refine jw_aload_n (pc := 119) dX5_goesOn_119 rfl ?_
              refine jx_getIs (pc := 120) (jf_X5_88_4.r) rfl dX5_goesOn_120 rfl (is_90 hS) (by decide) (hE) ?_
              refine jx_cVE (mi1 := mi_X5_byteAt) (pc := 123) rfl dX5_goesOn_123 lk_X5_91 rfl fi_X5_byteAt rfl rfl rfl (by decide) (is_90 hS) (t_X5_byteAt (σ := σ) hS htp hNs hn9 (by omega)) (by first | decide | omega) rfl rfl (by simp only [List.map_cons, List.map_nil, List.sum_cons, List.sum_nil, cat_i, cat_l, jr_cat]; decide) ?_
              rw [m3]
              refine jw_bipush (pc := 126) dX5_goesOn_126 bp_97 ?_
              refine jw_isub (pc := 128) dX5_goesOn_128 ?_
              rw [show nI m - nI 97 = nI (m - 97) from pk_sub m1]
              refine jw_iconst (pc := 129) dX5_goesOn_129 ic_1 ?_
              first | refine jx_iadd (pc := 130) dX5_goesOn_130 ?_ | refine jw_iadd (pc := 130) dX5_goesOn_130 ?_
              refine jw_i2l (pc := 131) dX5_goesOn_131 (rfl) ?_
              refine jw_ladd (pc := 132) dX5_goesOn_132 ?_
              refine jx_putL (pc := 133) jf_X5_104_4 rfl dX5_goesOn_133 rfl rfl (is_90 hS) (by decide) ?_
              first | refine jx_iinc (pc := 136) dX5_goesOn_136 rfl rfl ?_ | refine jw_iinc (pc := 136) dX5_goesOn_136 rfl rfl rfl ?_
              try dsimp only [jput1, jkill, jclr, jis2_i, jis2_l, jis2_rs, jis2_rn, cond]
              refine jw_aload_n (pc := 139) dX5_goesOn_139 rfl ?_
              refine jw_dup (pc := 140) dX5_goesOn_140 (jis2_r _) ?_
              refine jx_getIs (pc := 141) (jf_X5_88_4.r) rfl dX5_goesOn_141 rfl (is_90 hS) (by decide) (hE) ?_
              refine jw_iconst (pc := 144) dX5_goesOn_144 ic_1 ?_
              first | refine jx_iadd (pc := 145) dX5_goesOn_145 ?_ | refine jw_iadd (pc := 145) dX5_goesOn_145 ?_
              refine jx_putI (pc := 146) jf_X5_88_4 rfl dX5_goesOn_146 rfl rfl (is_90 hS) (by decide) ?_
              refine jw_goto (pc := 149) (tgt := 89) dX5_goesOn_149 (by decide) ?_
              refine jW.eq ?_ rfl rfl (ih (e + 1, _) ⟨⟨by dsimp only; omega, hen⟩, (hI.L (k := 64)).P, g1, hf1, hf2, hf3, fun _ => ?_⟩ (by dsimp only; omega))
              · dsimp only; rw [show e + 1 - A = e - A + 1 by omega]
              · show jm_L (js_L M1 90 64 _) 90 64 = _
                rw [jL_L, if_pos ⟨rfl, rfl⟩]
                dsimp only
                rw [show e + 1 - A = (e - A) + 1 by omega, txc_s, show A + (e - A) = e by omega, hc9, nI_l (by omega), show (32 : Int64) = lN 32 from rfl, lN_mul, lN_add, show m - 97 + 1 = m - 96 by omega, Nat.mul_comm]
        ·
          refine jw_aload_n (pc := 89) dX5_goesOn_89 rfl ?_
          refine jw_aload_n (pc := 90) dX5_goesOn_90 rfl ?_
          refine jx_getIs (pc := 91) (jf_X5_88_4.r) rfl dX5_goesOn_91 rfl (is_90 hS) (by decide) (hE) ?_
          refine jx_cVE (mi1 := mi_X5_byteAt) (pc := 94) rfl dX5_goesOn_94 lk_X5_91 rfl fi_X5_byteAt rfl rfl rfl (by decide) (is_90 hS) (t_X5_byteAt (σ := σ) hS htp hNs hn9 (by omega)) (by first | decide | omega) rfl rfl (by decide) ?_
          refine jx_cSE (mi1 := mi_X5_isLetter) (pc := 97) rfl dX5_goesOn_97 lk_X5_100 rfl fi_X5_isLetter (t_X5_isLetter) (by first | decide | omega) rfl rfl (by decide) ?_
          first | refine jx_ifb_eq (pc := 100) (tgt := 152) dX5_goesOn_100 (by decide) ?_ ?_ | refine jx_if_eq (pc := 100) (tgt := 152) dX5_goesOn_100 (by decide) (by omega) ?_ ?_ | refine jw_if_eq (pc := 100) (tgt := 152) dX5_goesOn_100 (by decide) ?_ ?_
          · intro h_100
            have h9 : inb (chI σ n e) (nI 97) (nI 122) = true := hs
            rw [h9] at h_100; cases h_100
          · intro h_100
            refine jw_iload_n (pc := 103) dX5_goesOn_103 rfl ?_
            refine jw_bipush (pc := 104) dX5_goesOn_104 bp_8 ?_
            first | refine jx_icmp_ge (pc := 106) (tgt := 136) dX5_goesOn_106 (by decide) (by omega) (by omega) ?_ ?_ | refine jw_icmp_ge (pc := 106) (tgt := 136) dX5_goesOn_106 (by decide) ?_ ?_
            · intro h_106
              first | refine jx_iinc (pc := 136) dX5_goesOn_136 rfl rfl ?_ | refine jw_iinc (pc := 136) dX5_goesOn_136 rfl rfl rfl ?_
              try dsimp only [jput1, jkill, jclr, jis2_i, jis2_l, jis2_rs, jis2_rn, cond]
              refine jw_aload_n (pc := 139) dX5_goesOn_139 rfl ?_
              refine jw_dup (pc := 140) dX5_goesOn_140 (jis2_r _) ?_
              refine jx_getIs (pc := 141) (jf_X5_88_4.r) rfl dX5_goesOn_141 rfl (is_90 hS) (by decide) (hE) ?_
              refine jw_iconst (pc := 144) dX5_goesOn_144 ic_1 ?_
              first | refine jx_iadd (pc := 145) dX5_goesOn_145 ?_ | refine jw_iadd (pc := 145) dX5_goesOn_145 ?_
              refine jx_putI (pc := 146) jf_X5_88_4 rfl dX5_goesOn_146 rfl rfl (is_90 hS) (by decide) ?_
              refine jw_goto (pc := 149) (tgt := 89) dX5_goesOn_149 (by decide) ?_
              refine jW.eq ?_ rfl rfl (ih (e + 1, _) ⟨⟨by dsimp only; omega, hen⟩, hI.P, g1, hf1, hf2, hf3, fun q => by dsimp only at q; omega⟩ (by dsimp only; omega))
              dsimp only; rw [show e + 1 - A = e - A + 1 by omega]
            · intro h_106
              omega
      · have hsf : smlB (chI σ n e) = false := by rw [Bool.not_eq_true] at hs; exact hs
        have hsm9 : smlB (chI σ n (tkA (chI σ n) n p)) = true := by rw [hAe]; exact hsm
        obtain ⟨w1, w2, w3⟩ := tk_wrd (σ := σ) (n := n) (p := p) hsm9 (e := e) (by rw [hAe]; exact hAx) hxn hsf (fun j a b => hsm0 j (by rw [hAe] at a; exact a) b)
        rw [hAe] at w2 w3
        refine jw_aload_n (pc := 89) dX5_goesOn_89 rfl ?_
        refine jw_aload_n (pc := 90) dX5_goesOn_90 rfl ?_
        refine jx_getIs (pc := 91) (jf_X5_88_4.r) rfl dX5_goesOn_91 rfl (is_90 hS) (by decide) (hE) ?_
        refine jx_cVE (mi1 := mi_X5_byteAt) (pc := 94) rfl dX5_goesOn_94 lk_X5_91 rfl fi_X5_byteAt rfl rfl rfl (by decide) (is_90 hS) (t_X5_byteAt (σ := σ) hS htp hNs hn9 (by omega)) (by first | decide | omega) rfl rfl (by decide) ?_
        refine jx_cSE (mi1 := mi_X5_isLetter) (pc := 97) rfl dX5_goesOn_97 lk_X5_100 rfl fi_X5_isLetter (t_X5_isLetter) (by first | decide | omega) rfl rfl (by decide) ?_
        first | refine jx_ifb_eq (pc := 100) (tgt := 152) dX5_goesOn_100 (by decide) ?_ ?_ | refine jx_if_eq (pc := 100) (tgt := 152) dX5_goesOn_100 (by decide) (by omega) ?_ ?_ | refine jw_if_eq (pc := 100) (tgt := 152) dX5_goesOn_100 (by decide) ?_ ?_
        · intro h_100
          refine jw_iload_n (pc := 152) dX5_goesOn_152 rfl ?_
          refine jw_bipush (pc := 153) dX5_goesOn_153 bp_8 ?_
          first | refine jx_icmp_gt (pc := 155) (tgt := 281) dX5_goesOn_155 (by decide) (by omega) (by omega) ?_ ?_ | refine jw_icmp_gt (pc := 155) (tgt := 281) dX5_goesOn_155 (by decide) ?_ ?_
          · intro h_155
            refine jw_return (pc := 281) dX5_goesOn_281 rfl ?_
            refine ⟨rfl, ?_⟩
            first
              | (rw [if_neg (by omega)] at w2; exact ⟨⟨fun q => absurd w2 q, by rw [w2]; exact hf2, by rw [hAe]; exact hf1, by rw [w2]; exact hf3, fun q => (by rw [w2] at q; cases q), fun q => (by rw [w2] at q; cases q)⟩, hI.1⟩)
              | (rw [if_pos (by omega)] at w2; exact ⟨⟨fun _ => by rw [w1]; exact hE, by rw [w2]; rfl, by rw [hAe]; exact hf1, by rw [w2]; exact hf3, fun q => (by rw [w2] at q; cases q), fun _ => by rw [w3]; exact hlt (by omega)⟩, (hI.I (by decide) (by decide)).1⟩)
          · intro h_155
            refine jw_aload_n (pc := 158) dX5_goesOn_158 rfl ?_
            refine jw_iconst (pc := 159) dX5_goesOn_159 ic_2 ?_
            refine jx_putI (pc := 160) jf_X5_85_4 rfl dX5_goesOn_160 rfl rfl (is_90 hS) (by decide) ?_
            refine jw_goto (pc := 163) (tgt := 281) dX5_goesOn_163 (by decide) ?_
            refine jw_return (pc := 281) dX5_goesOn_281 rfl ?_
            refine ⟨rfl, ?_⟩
            first
              | (rw [if_neg (by omega)] at w2; exact ⟨⟨fun q => absurd w2 q, by rw [w2]; exact hf2, by rw [hAe]; exact hf1, by rw [w2]; exact hf3, fun q => (by rw [w2] at q; cases q), fun q => (by rw [w2] at q; cases q)⟩, hI.1⟩)
              | (rw [if_pos (by omega)] at w2; exact ⟨⟨fun _ => by rw [w1]; exact hE, by rw [w2]; rfl, by rw [hAe]; exact hf1, by rw [w2]; exact hf3, fun q => (by rw [w2] at q; cases q), fun _ => by rw [w3]; exact hlt (by omega)⟩, (hI.I (by decide) (by decide)).1⟩)
        · intro h_100
          have h9 : inb (chI σ n e) (nI 97) (nI 122) = false := hsf
          rw [h9] at h_100; cases h_100
    have K0 := K (A, M0) ⟨⟨Nat.le_refl _, by dsimp only; omega⟩, h0, fun j a b => by dsimp only at b; omega, hf0.1, hf0.2.1, hf0.2.2.1, fun _ => by dsimp only; rw [Nat.sub_self]; exact hf0.2.2.2⟩
    dsimp only at K0
    rw [Nat.sub_self] at K0
    exact K0
  -- digits
  have LN : ∀ (A : Nat) (M0 : Mm) (x1 : Int32), A < n → tkA (chI σ n) n p = A → digB (chI σ n A) = true → gI M M0 σ A → (jm_I M0 90 59 = nI A ∧ jm_I M0 90 58 = nI 0 ∧ jm_I M0 90 60 = nI 0 ∧ jm_I M0 90 61 = nI 0) → jW G mi_X5_goesOn 4 M 178 [some (jr (some 90)), some (.int x1), some (.int (nI 0))] [] M0 (jPv (fun M' => jGp M' σ n p ∧ gKp M M')) := by
    intro A M0 x1 hA hAe hsm h0 hf0
    have K : ∀ x : Nat × Mm, ((A ≤ x.1 ∧ x.1 ≤ n) ∧ gI M x.2 σ x.1 ∧ (∀ j, A ≤ j → j < x.1 → digB (chI σ n j) = true) ∧ (jm_I x.2 90 59 = nI A ∧ jm_I x.2 90 58 = nI 0 ∧ jm_I x.2 90 60 = nI 0 ∧ (x.1 - A ≤ 3 → jm_I x.2 90 61 = nI (codeN 10 (x.1 - A) (fun i => cNt (chI σ n (A + i)) - 48))))) → jW G mi_X5_goesOn 4 M 178 [some (jr (some 90)), some (.int x1), some (.int (nI (x.1 - A)))] [] x.2 (jPv (fun M' => jGp M' σ n p ∧ gKp M M')) := by
      refine jW.loop (σ := Nat × Mm) _ (fun x => n - x.1) _ (fun _ => []) (fun x => x.2) (fun x hI ih => ?_)
      obtain ⟨e, M1⟩ := x
      obtain ⟨⟨hAx, hxn⟩, hI, hsm0, hf1, hf2, hf3, hlt⟩ := hI
      dsimp only at hAx hxn hI hsm0 hf1 hf2 hf3 hlt ih ⊢
      have hS := hI.1.2.2.2
      have hE := hI.2.2
      have hNs := hz hI
      have htp := hI.2.1
      by_cases hs : digB (chI σ n e) = true
      · have hen : e < n := ch_lt (fun q => by rw [q, dig_m] at hs; cases hs)
        obtain ⟨m1, m2, m3⟩ := dig_n hs
        generalize hc9 : cNt (chI σ n e) = m at m1 m2 m3
        have g1 : ∀ j, A ≤ j → j < e + 1 → digB (chI σ n j) = true := fun j a b => by
          by_cases q : j = e
          · subst q; exact hs
          · exact hsm0 j a (by omega)
        by_cases h8 : e - A < 3
        · have hW := hlt (by omega)
          refine jw_aload_n (pc := 178) dX5_goesOn_178 rfl ?_
          refine jw_aload_n (pc := 179) dX5_goesOn_179 rfl ?_
          refine jx_getIs (pc := 180) (jf_X5_88_4.r) rfl dX5_goesOn_180 rfl (is_90 hS) (by decide) (hE) ?_
          refine jx_cVE (mi1 := mi_X5_byteAt) (pc := 183) rfl dX5_goesOn_183 lk_X5_91 rfl fi_X5_byteAt rfl rfl rfl (by decide) (is_90 hS) (t_X5_byteAt (σ := σ) hS htp hNs hn9 (by omega)) (by first | decide | omega) rfl rfl (by decide) ?_
          refine jx_cSE (mi1 := mi_X5_isDigit) (pc := 186) rfl dX5_goesOn_186 lk_X5_108 rfl fi_X5_isDigit (t_X5_isDigit) (by first | decide | omega) rfl rfl (by decide) ?_
          first | refine jx_ifb_eq (pc := 189) (tgt := 236) dX5_goesOn_189 (by decide) ?_ ?_ | refine jx_if_eq (pc := 189) (tgt := 236) dX5_goesOn_189 (by decide) (by omega) ?_ ?_ | refine jw_if_eq (pc := 189) (tgt := 236) dX5_goesOn_189 (by decide) ?_ ?_
          · intro h_189
            have h9 : inb (chI σ n e) (nI 48) (nI 57) = true := hs
            rw [h9] at h_189; cases h_189
          · intro h_189
            refine jw_iload_n (pc := 192) dX5_goesOn_192 rfl ?_
            refine jw_iconst (pc := 193) dX5_goesOn_193 ic_3 ?_
            first | refine jx_icmp_ge (pc := 194) (tgt := 220) dX5_goesOn_194 (by decide) (by omega) (by omega) ?_ ?_ | refine jw_icmp_ge (pc := 194) (tgt := 220) dX5_goesOn_194 (by decide) ?_ ?_
            · intro h_194
              omega
            · intro h_194
              refine jw_aload_n (pc := 197) dX5_goesOn_197 rfl ?_
              refine jw_bipush (pc := 198) dX5_goesOn_198 bp_10 ?_
              refine jw_aload_n (pc := 200) dX5_goesOn_200 rfl ?_
              refine jx_getIs (pc := 201) (jf_X5_111_4.r) rfl dX5_goesOn_201 rfl (is_90 hS) (by decide) (hW) ?_
              first | refine jx_imul (pc := 204) dX5_goesOn_204 ?_ | refine jw_imul (pc := 204) dX5_goesOn_204 ?_
              refine jw_aload_n (pc := 205) dX5_goesOn_205 rfl ?_
              refine jw_aload_n (pc := 206) dX5_goesOn_206 rfl ?_
              refine jx_getIs (pc := 207) (jf_X5_88_4.r) rfl dX5_goesOn_207 rfl (is_90 hS) (by decide) (hE) ?_
              refine jx_cVE (mi1 := mi_X5_byteAt) (pc := 210) rfl dX5_goesOn_210 lk_X5_91 rfl fi_X5_byteAt rfl rfl rfl (by decide) (is_90 hS) (t_X5_byteAt (σ := σ) hS htp hNs hn9 (by omega)) (by first | decide | omega) rfl rfl (by simp only [List.map_cons, List.map_nil, List.sum_cons, List.sum_nil, cat_i, cat_l, jr_cat]; decide) ?_
              rw [m3]
              first | refine jx_iadd (pc := 213) dX5_goesOn_213 ?_ | refine jw_iadd (pc := 213) dX5_goesOn_213 ?_
              refine jw_bipush (pc := 214) dX5_goesOn_214 bp_48 ?_
              refine jw_isub (pc := 216) dX5_goesOn_216 ?_
              rw [show nI (10 * codeN 10 (e - A) (fun i => cNt (chI σ n (A + i)) - 48) + m) - nI 48 = nI (10 * codeN 10 (e - A) (fun i => cNt (chI σ n (A + i)) - 48) + m - 48) from pk_sub (by omega)]
              refine jx_putI (pc := 217) jf_X5_111_4 rfl dX5_goesOn_217 rfl rfl (is_90 hS) (by decide) ?_
              first | refine jx_iinc (pc := 220) dX5_goesOn_220 rfl rfl ?_ | refine jw_iinc (pc := 220) dX5_goesOn_220 rfl rfl rfl ?_
              try dsimp only [jput1, jkill, jclr, jis2_i, jis2_l, jis2_rs, jis2_rn, cond]
              refine jw_aload_n (pc := 223) dX5_goesOn_223 rfl ?_
              refine jw_dup (pc := 224) dX5_goesOn_224 (jis2_r _) ?_
              refine jx_getIs (pc := 225) (jf_X5_88_4.r) rfl dX5_goesOn_225 rfl (is_90 hS) (by decide) (hE) ?_
              refine jw_iconst (pc := 228) dX5_goesOn_228 ic_1 ?_
              first | refine jx_iadd (pc := 229) dX5_goesOn_229 ?_ | refine jw_iadd (pc := 229) dX5_goesOn_229 ?_
              refine jx_putI (pc := 230) jf_X5_88_4 rfl dX5_goesOn_230 rfl rfl (is_90 hS) (by decide) ?_
              refine jw_goto (pc := 233) (tgt := 178) dX5_goesOn_233 (by decide) ?_
              refine jW.eq ?_ rfl rfl (ih (e + 1, _) ⟨⟨by dsimp only; omega, hen⟩, (hI.I (k := 61) (by decide) (by decide)).P, g1, hf1, hf2, hf3, fun _ => ?_⟩ (by dsimp only; omega))
              · dsimp only; rw [show e + 1 - A = e - A + 1 by omega]
              · show nI (10 * codeN 10 (e - A) (fun i => cNt (chI σ n (A + i)) - 48) + m - 48) = _
                dsimp only
                rw [show e + 1 - A = (e - A) + 1 by omega, codeN_s, show A + (e - A) = e by omega, hc9]
                congr 1; omega
        ·
          refine jw_aload_n (pc := 178) dX5_goesOn_178 rfl ?_
          refine jw_aload_n (pc := 179) dX5_goesOn_179 rfl ?_
          refine jx_getIs (pc := 180) (jf_X5_88_4.r) rfl dX5_goesOn_180 rfl (is_90 hS) (by decide) (hE) ?_
          refine jx_cVE (mi1 := mi_X5_byteAt) (pc := 183) rfl dX5_goesOn_183 lk_X5_91 rfl fi_X5_byteAt rfl rfl rfl (by decide) (is_90 hS) (t_X5_byteAt (σ := σ) hS htp hNs hn9 (by omega)) (by first | decide | omega) rfl rfl (by decide) ?_
          refine jx_cSE (mi1 := mi_X5_isDigit) (pc := 186) rfl dX5_goesOn_186 lk_X5_108 rfl fi_X5_isDigit (t_X5_isDigit) (by first | decide | omega) rfl rfl (by decide) ?_
          first | refine jx_ifb_eq (pc := 189) (tgt := 236) dX5_goesOn_189 (by decide) ?_ ?_ | refine jx_if_eq (pc := 189) (tgt := 236) dX5_goesOn_189 (by decide) (by omega) ?_ ?_ | refine jw_if_eq (pc := 189) (tgt := 236) dX5_goesOn_189 (by decide) ?_ ?_
          · intro h_189
            have h9 : inb (chI σ n e) (nI 48) (nI 57) = true := hs
            rw [h9] at h_189; cases h_189
          · intro h_189
            refine jw_iload_n (pc := 192) dX5_goesOn_192 rfl ?_
            refine jw_iconst (pc := 193) dX5_goesOn_193 ic_3 ?_
            first | refine jx_icmp_ge (pc := 194) (tgt := 220) dX5_goesOn_194 (by decide) (by omega) (by omega) ?_ ?_ | refine jw_icmp_ge (pc := 194) (tgt := 220) dX5_goesOn_194 (by decide) ?_ ?_
            · intro h_194
              first | refine jx_iinc (pc := 220) dX5_goesOn_220 rfl rfl ?_ | refine jw_iinc (pc := 220) dX5_goesOn_220 rfl rfl rfl ?_
              try dsimp only [jput1, jkill, jclr, jis2_i, jis2_l, jis2_rs, jis2_rn, cond]
              refine jw_aload_n (pc := 223) dX5_goesOn_223 rfl ?_
              refine jw_dup (pc := 224) dX5_goesOn_224 (jis2_r _) ?_
              refine jx_getIs (pc := 225) (jf_X5_88_4.r) rfl dX5_goesOn_225 rfl (is_90 hS) (by decide) (hE) ?_
              refine jw_iconst (pc := 228) dX5_goesOn_228 ic_1 ?_
              first | refine jx_iadd (pc := 229) dX5_goesOn_229 ?_ | refine jw_iadd (pc := 229) dX5_goesOn_229 ?_
              refine jx_putI (pc := 230) jf_X5_88_4 rfl dX5_goesOn_230 rfl rfl (is_90 hS) (by decide) ?_
              refine jw_goto (pc := 233) (tgt := 178) dX5_goesOn_233 (by decide) ?_
              refine jW.eq ?_ rfl rfl (ih (e + 1, _) ⟨⟨by dsimp only; omega, hen⟩, hI.P, g1, hf1, hf2, hf3, fun q => by dsimp only at q; omega⟩ (by dsimp only; omega))
              dsimp only; rw [show e + 1 - A = e - A + 1 by omega]
            · intro h_194
              omega
      · have hsf : digB (chI σ n e) = false := by rw [Bool.not_eq_true] at hs; exact hs
        have hsm9 : digB (chI σ n (tkA (chI σ n) n p)) = true := by rw [hAe]; exact hsm
        obtain ⟨w1, w2, w3⟩ := tk_num (σ := σ) (n := n) (p := p) hsm9 (e := e) (by rw [hAe]; exact hAx) hxn hsf (fun j a b => hsm0 j (by rw [hAe] at a; exact a) b)
        rw [hAe] at w2 w3
        refine jw_aload_n (pc := 178) dX5_goesOn_178 rfl ?_
        refine jw_aload_n (pc := 179) dX5_goesOn_179 rfl ?_
        refine jx_getIs (pc := 180) (jf_X5_88_4.r) rfl dX5_goesOn_180 rfl (is_90 hS) (by decide) (hE) ?_
        refine jx_cVE (mi1 := mi_X5_byteAt) (pc := 183) rfl dX5_goesOn_183 lk_X5_91 rfl fi_X5_byteAt rfl rfl rfl (by decide) (is_90 hS) (t_X5_byteAt (σ := σ) hS htp hNs hn9 (by omega)) (by first | decide | omega) rfl rfl (by decide) ?_
        refine jx_cSE (mi1 := mi_X5_isDigit) (pc := 186) rfl dX5_goesOn_186 lk_X5_108 rfl fi_X5_isDigit (t_X5_isDigit) (by first | decide | omega) rfl rfl (by decide) ?_
        first | refine jx_ifb_eq (pc := 189) (tgt := 236) dX5_goesOn_189 (by decide) ?_ ?_ | refine jx_if_eq (pc := 189) (tgt := 236) dX5_goesOn_189 (by decide) (by omega) ?_ ?_ | refine jw_if_eq (pc := 189) (tgt := 236) dX5_goesOn_189 (by decide) ?_ ?_
        · intro h_189
          refine jw_iload_n (pc := 236) dX5_goesOn_236 rfl ?_
          refine jw_iconst (pc := 237) dX5_goesOn_237 ic_3 ?_
          first | refine jx_icmp_gt (pc := 238) (tgt := 281) dX5_goesOn_238 (by decide) (by omega) (by omega) ?_ ?_ | refine jw_icmp_gt (pc := 238) (tgt := 281) dX5_goesOn_238 (by decide) ?_ ?_
          · intro h_238
            refine jw_return (pc := 281) dX5_goesOn_281 rfl ?_
            refine ⟨rfl, ?_⟩
            first
              | (rw [if_neg (by omega)] at w2; exact ⟨⟨fun q => absurd w2 q, by rw [w2]; exact hf2, by rw [hAe]; exact hf1, by rw [w2]; exact hf3, fun q => (by rw [w2] at q; cases q), fun q => (by rw [w2] at q; cases q)⟩, hI.1⟩)
              | (rw [if_pos (by omega)] at w2; exact ⟨⟨fun _ => by rw [w1]; exact hE, by rw [w2]; rfl, by rw [hAe]; exact hf1, by rw [w2]; exact hf3, fun _ => by rw [w3]; exact hlt (by omega), fun q => (by rw [w2] at q; cases q)⟩, (hI.I (by decide) (by decide)).1⟩)
          · intro h_238
            refine jw_aload_n (pc := 241) dX5_goesOn_241 rfl ?_
            refine jw_iconst (pc := 242) dX5_goesOn_242 ic_3 ?_
            refine jx_putI (pc := 243) jf_X5_85_4 rfl dX5_goesOn_243 rfl rfl (is_90 hS) (by decide) ?_
            refine jw_goto (pc := 246) (tgt := 281) dX5_goesOn_246 (by decide) ?_
            refine jw_return (pc := 281) dX5_goesOn_281 rfl ?_
            refine ⟨rfl, ?_⟩
            first
              | (rw [if_neg (by omega)] at w2; exact ⟨⟨fun q => absurd w2 q, by rw [w2]; exact hf2, by rw [hAe]; exact hf1, by rw [w2]; exact hf3, fun q => (by rw [w2] at q; cases q), fun q => (by rw [w2] at q; cases q)⟩, hI.1⟩)
              | (rw [if_pos (by omega)] at w2; exact ⟨⟨fun _ => by rw [w1]; exact hE, by rw [w2]; rfl, by rw [hAe]; exact hf1, by rw [w2]; exact hf3, fun _ => by rw [w3]; exact hlt (by omega), fun q => (by rw [w2] at q; cases q)⟩, (hI.I (by decide) (by decide)).1⟩)
        · intro h_189
          have h9 : inb (chI σ n e) (nI 48) (nI 57) = false := hsf
          rw [h9] at h_189; cases h_189
    have K0 := K (A, M0) ⟨⟨Nat.le_refl _, by dsimp only; omega⟩, h0, fun j a b => by dsimp only at b; omega, hf0.1, hf0.2.1, hf0.2.2.1, fun _ => by dsimp only; rw [Nat.sub_self]; exact hf0.2.2.2⟩
    dsimp only at K0
    rw [Nat.sub_self] at K0
    exact K0
  have L35 : ∀ (A : Nat) (M0 : Mm), A ≤ n → tkA (chI σ n) n p = A → gI M M0 σ A → jW G mi_X5_goesOn 4 M 35 [some (jr (some 90)), none, none] [] M0 (jPv (fun M' => jGp M' σ n p ∧ gKp M M')) := by
    intro A M0 hA hAe hI0
    have hS := hI0.1.2.2.2
    refine jw_aload_n (pc := 35) dX5_goesOn_35 rfl ?_
    refine jw_aload_n (pc := 36) dX5_goesOn_36 rfl ?_
    refine jx_getIs (pc := 37) (jf_X5_88_4.r) rfl dX5_goesOn_37 rfl (is_90 hS) (by decide) (hI0.2.2) ?_
    refine jx_putI (pc := 40) jf_X5_94_4 rfl dX5_goesOn_40 rfl rfl (is_90 hS) (by decide) ?_
    refine jw_aload_n (pc := 43) dX5_goesOn_43 rfl ?_
    refine jw_iconst (pc := 44) dX5_goesOn_44 ic_0 ?_
    refine jx_putI (pc := 45) jf_X5_85_4 rfl dX5_goesOn_45 rfl rfl (is_90 hS) (by decide) ?_
    refine jw_aload_n (pc := 48) dX5_goesOn_48 rfl ?_
    refine jw_iconst (pc := 49) dX5_goesOn_49 ic_0 ?_
    refine jx_putI (pc := 50) jf_X5_97_4 rfl dX5_goesOn_50 rfl rfl (is_90 hS) (by decide) ?_
    have hI : gI M (js_I (js_I (js_I M0 90 59 (nI A)) 90 58 (nI 0)) 90 60 (nI 0)) σ A := ((hI0.I (by decide) (by decide)).I (by decide) (by decide)).I (by decide) (by decide)
    have hf : jm_I (js_I (js_I (js_I M0 90 59 (nI A)) 90 58 (nI 0)) 90 60 (nI 0)) 90 59 = nI A ∧ jm_I (js_I (js_I (js_I M0 90 59 (nI A)) 90 58 (nI 0)) 90 60 (nI 0)) 90 58 = nI 0 ∧ jm_I (js_I (js_I (js_I M0 90 59 (nI A)) 90 58 (nI 0)) 90 60 (nI 0)) 90 60 = nI 0 := ⟨rfl, rfl, rfl⟩
    generalize js_I (js_I (js_I M0 90 59 (nI A)) 90 58 (nI 0)) 90 60 (nI 0) = M1 at hI hf ⊢
    clear hS
    have hS := hI.1.2.2.2
    have hE := hI.2.2
    refine jw_aload_n (pc := 53) dX5_goesOn_53 rfl ?_
    refine jw_aload_n (pc := 54) dX5_goesOn_54 rfl ?_
    refine jx_getIs (pc := 55) (jf_X5_88_4.r) rfl dX5_goesOn_55 rfl (is_90 hS) (by decide) (hE) ?_
    refine jx_cVE (mi1 := mi_X5_byteAt) (pc := 58) rfl dX5_goesOn_58 lk_X5_91 rfl fi_X5_byteAt rfl rfl rfl (by decide) (is_90 hS) (t_X5_byteAt (σ := σ) hS hI.2.1 (hz hI) hn9 (by omega)) (by first | decide | omega) rfl rfl (by decide) ?_
    refine jw_istore_n (pc := 61) dX5_goesOn_61 (Nat.le_of_ble_eq_true rfl) rfl ?_
    try dsimp only [jput1, jput2, jkill, jclr, jis2_i, jis2_l, jis2_rs, jis2_rn, cond]
    refine jw_iconst (pc := 62) dX5_goesOn_62 ic_0 ?_
    refine jw_istore_n (pc := 63) dX5_goesOn_63 (Nat.le_of_ble_eq_true rfl) rfl ?_
    try dsimp only [jput1, jput2, jkill, jclr, jis2_i, jis2_l, jis2_rs, jis2_rn, cond]
    refine jw_iload_n (pc := 64) dX5_goesOn_64 rfl ?_
    refine jw_iconst (pc := 65) dX5_goesOn_65 ic_m1 ?_
    refine jw_icmp_ne (pc := 66) (tgt := 77) dX5_goesOn_66 (by decide) ?_ ?_
    · intro h_66
      refine jw_iload_n (pc := 77) dX5_goesOn_77 rfl ?_
      refine jx_cSE (mi1 := mi_X5_isLetter) (pc := 78) rfl dX5_goesOn_78 lk_X5_100 rfl fi_X5_isLetter (t_X5_isLetter) (by first | decide | omega) rfl rfl (by decide) ?_
      first | refine jx_ifb_eq (pc := 81) (tgt := 166) dX5_goesOn_81 (by decide) ?_ ?_ | refine jx_if_eq (pc := 81) (tgt := 166) dX5_goesOn_81 (by decide) (by omega) ?_ ?_ | refine jw_if_eq (pc := 81) (tgt := 166) dX5_goesOn_81 (by decide) ?_ ?_
      · intro h_81
        have h8 : smlB (chI σ n A) = false := h_81
        refine jw_iload_n (pc := 166) dX5_goesOn_166 rfl ?_
        refine jx_cSE (mi1 := mi_X5_isDigit) (pc := 167) rfl dX5_goesOn_167 lk_X5_108 rfl fi_X5_isDigit (t_X5_isDigit) (by first | decide | omega) rfl rfl (by decide) ?_
        first | refine jx_ifb_eq (pc := 170) (tgt := 249) dX5_goesOn_170 (by decide) ?_ ?_ | refine jx_if_eq (pc := 170) (tgt := 249) dX5_goesOn_170 (by decide) (by omega) ?_ ?_ | refine jw_if_eq (pc := 170) (tgt := 249) dX5_goesOn_170 (by decide) ?_ ?_
        · intro h_170
          have h7 : digB (chI σ n A) = false := h_170
          refine jw_iload_n (pc := 249) dX5_goesOn_249 rfl ?_
          refine jw_bipush (pc := 250) dX5_goesOn_250 bp_59 ?_
          refine jw_icmp_eq (pc := 252) (tgt := 261) dX5_goesOn_252 (by decide) ?_ ?_
          · intro h_252
            refine jw_aload_n (pc := 261) dX5_goesOn_261 rfl ?_
            refine jw_iconst (pc := 262) dX5_goesOn_262 ic_4 ?_
            refine jx_putI (pc := 263) jf_X5_85_4 rfl dX5_goesOn_263 rfl rfl (is_90 hS) (by decide) ?_
            refine jw_aload_n (pc := 266) dX5_goesOn_266 rfl ?_
            refine jw_iload_n (pc := 267) dX5_goesOn_267 rfl ?_
            refine jx_putI (pc := 268) jf_X5_97_4 rfl dX5_goesOn_268 rfl rfl (is_90 hS) (by decide) ?_
            refine jw_aload_n (pc := 271) dX5_goesOn_271 rfl ?_
            refine jw_dup (pc := 272) dX5_goesOn_272 (jis2_r _) ?_
            refine jx_getIs (pc := 273) (jf_X5_88_4.r) rfl dX5_goesOn_273 rfl (is_90 hS) (by decide) (hE) ?_
            refine jw_iconst (pc := 276) dX5_goesOn_276 ic_1 ?_
            first | refine jx_iadd (pc := 277) dX5_goesOn_277 ?_ | refine jw_iadd (pc := 277) dX5_goesOn_277 ?_
            refine jx_putI (pc := 278) jf_X5_88_4 rfl dX5_goesOn_278 rfl rfl (is_90 hS) (by decide) ?_
            refine jw_return (pc := 281) dX5_goesOn_281 rfl ?_
            refine ⟨rfl, ?_⟩
            first
              | (obtain ⟨k1, k2⟩ := tk_end (σ := σ) (n := n) (p := p) (by rw [hAe]; exact h_66)
                 rw [hAe] at k2
                 exact ⟨⟨fun _ => by rw [k2]; exact hE, by rw [k1]; rfl, by rw [hAe]; exact hf.1, by rw [k1]; exact hf.2.2, fun q => (by rw [k1] at q; cases q), fun q => (by rw [k1] at q; cases q)⟩, (hI.I (by decide) (by decide)).1⟩)
              | (obtain ⟨k1, k2⟩ := tk_oth (σ := σ) (n := n) (p := p) (by rw [hAe]; exact h_66) (by rw [hAe]; exact h8) (by rw [hAe]; exact h7)
                 rw [hAe] at k1 k2
                 rw [if_pos h_252] at k2
                 exact ⟨⟨fun _ => by rw [k1]; rfl, by rw [k2]; rfl, by rw [hAe]; exact hf.1, by rw [k2]; exact h_252, fun q => (by rw [k2] at q; cases q), fun q => (by rw [k2] at q; cases q)⟩, (((hI.I (by decide) (by decide)).I (by decide) (by decide)).P).1⟩)
              | (obtain ⟨k1, k2⟩ := tk_oth (σ := σ) (n := n) (p := p) (by rw [hAe]; exact h_66) (by rw [hAe]; exact h8) (by rw [hAe]; exact h7)
                 rw [hAe] at k1 k2
                 rw [if_neg h_252, if_pos h_258] at k2
                 exact ⟨⟨fun _ => by rw [k1]; rfl, by rw [k2]; rfl, by rw [hAe]; exact hf.1, by rw [k2]; exact h_258, fun q => (by rw [k2] at q; cases q), fun q => (by rw [k2] at q; cases q)⟩, (((hI.I (by decide) (by decide)).I (by decide) (by decide)).P).1⟩)
              | (obtain ⟨k1, k2⟩ := tk_oth (σ := σ) (n := n) (p := p) (by rw [hAe]; exact h_66) (by rw [hAe]; exact h8) (by rw [hAe]; exact h7)
                 rw [hAe] at k1 k2
                 rw [if_neg h_252, if_neg h_258] at k2
                 exact ⟨⟨fun q => absurd k2 q, by rw [k2]; exact hf.2.1, by rw [hAe]; exact hf.1, by rw [k2]; exact hf.2.2, fun q => (by rw [k2] at q; cases q), fun q => (by rw [k2] at q; cases q)⟩, hI.1⟩)
          · intro h_252
            refine jw_iload_n (pc := 255) dX5_goesOn_255 rfl ?_
            refine jw_bipush (pc := 256) dX5_goesOn_256 bp_44 ?_
            refine jw_icmp_ne (pc := 258) (tgt := 281) dX5_goesOn_258 (by decide) ?_ ?_
            · intro h_258
              refine jw_return (pc := 281) dX5_goesOn_281 rfl ?_
              refine ⟨rfl, ?_⟩
              first
                | (obtain ⟨k1, k2⟩ := tk_end (σ := σ) (n := n) (p := p) (by rw [hAe]; exact h_66)
                   rw [hAe] at k2
                   exact ⟨⟨fun _ => by rw [k2]; exact hE, by rw [k1]; rfl, by rw [hAe]; exact hf.1, by rw [k1]; exact hf.2.2, fun q => (by rw [k1] at q; cases q), fun q => (by rw [k1] at q; cases q)⟩, (hI.I (by decide) (by decide)).1⟩)
                | (obtain ⟨k1, k2⟩ := tk_oth (σ := σ) (n := n) (p := p) (by rw [hAe]; exact h_66) (by rw [hAe]; exact h8) (by rw [hAe]; exact h7)
                   rw [hAe] at k1 k2
                   rw [if_pos h_252] at k2
                   exact ⟨⟨fun _ => by rw [k1]; rfl, by rw [k2]; rfl, by rw [hAe]; exact hf.1, by rw [k2]; exact h_252, fun q => (by rw [k2] at q; cases q), fun q => (by rw [k2] at q; cases q)⟩, (((hI.I (by decide) (by decide)).I (by decide) (by decide)).P).1⟩)
                | (obtain ⟨k1, k2⟩ := tk_oth (σ := σ) (n := n) (p := p) (by rw [hAe]; exact h_66) (by rw [hAe]; exact h8) (by rw [hAe]; exact h7)
                   rw [hAe] at k1 k2
                   rw [if_neg h_252, if_pos h_258] at k2
                   exact ⟨⟨fun _ => by rw [k1]; rfl, by rw [k2]; rfl, by rw [hAe]; exact hf.1, by rw [k2]; exact h_258, fun q => (by rw [k2] at q; cases q), fun q => (by rw [k2] at q; cases q)⟩, (((hI.I (by decide) (by decide)).I (by decide) (by decide)).P).1⟩)
                | (obtain ⟨k1, k2⟩ := tk_oth (σ := σ) (n := n) (p := p) (by rw [hAe]; exact h_66) (by rw [hAe]; exact h8) (by rw [hAe]; exact h7)
                   rw [hAe] at k1 k2
                   rw [if_neg h_252, if_neg h_258] at k2
                   exact ⟨⟨fun q => absurd k2 q, by rw [k2]; exact hf.2.1, by rw [hAe]; exact hf.1, by rw [k2]; exact hf.2.2, fun q => (by rw [k2] at q; cases q), fun q => (by rw [k2] at q; cases q)⟩, hI.1⟩)
            · intro h_258
              refine jw_aload_n (pc := 261) dX5_goesOn_261 rfl ?_
              refine jw_iconst (pc := 262) dX5_goesOn_262 ic_4 ?_
              refine jx_putI (pc := 263) jf_X5_85_4 rfl dX5_goesOn_263 rfl rfl (is_90 hS) (by decide) ?_
              refine jw_aload_n (pc := 266) dX5_goesOn_266 rfl ?_
              refine jw_iload_n (pc := 267) dX5_goesOn_267 rfl ?_
              refine jx_putI (pc := 268) jf_X5_97_4 rfl dX5_goesOn_268 rfl rfl (is_90 hS) (by decide) ?_
              refine jw_aload_n (pc := 271) dX5_goesOn_271 rfl ?_
              refine jw_dup (pc := 272) dX5_goesOn_272 (jis2_r _) ?_
              refine jx_getIs (pc := 273) (jf_X5_88_4.r) rfl dX5_goesOn_273 rfl (is_90 hS) (by decide) (hE) ?_
              refine jw_iconst (pc := 276) dX5_goesOn_276 ic_1 ?_
              first | refine jx_iadd (pc := 277) dX5_goesOn_277 ?_ | refine jw_iadd (pc := 277) dX5_goesOn_277 ?_
              refine jx_putI (pc := 278) jf_X5_88_4 rfl dX5_goesOn_278 rfl rfl (is_90 hS) (by decide) ?_
              refine jw_return (pc := 281) dX5_goesOn_281 rfl ?_
              refine ⟨rfl, ?_⟩
              first
                | (obtain ⟨k1, k2⟩ := tk_end (σ := σ) (n := n) (p := p) (by rw [hAe]; exact h_66)
                   rw [hAe] at k2
                   exact ⟨⟨fun _ => by rw [k2]; exact hE, by rw [k1]; rfl, by rw [hAe]; exact hf.1, by rw [k1]; exact hf.2.2, fun q => (by rw [k1] at q; cases q), fun q => (by rw [k1] at q; cases q)⟩, (hI.I (by decide) (by decide)).1⟩)
                | (obtain ⟨k1, k2⟩ := tk_oth (σ := σ) (n := n) (p := p) (by rw [hAe]; exact h_66) (by rw [hAe]; exact h8) (by rw [hAe]; exact h7)
                   rw [hAe] at k1 k2
                   rw [if_pos h_252] at k2
                   exact ⟨⟨fun _ => by rw [k1]; rfl, by rw [k2]; rfl, by rw [hAe]; exact hf.1, by rw [k2]; exact h_252, fun q => (by rw [k2] at q; cases q), fun q => (by rw [k2] at q; cases q)⟩, (((hI.I (by decide) (by decide)).I (by decide) (by decide)).P).1⟩)
                | (obtain ⟨k1, k2⟩ := tk_oth (σ := σ) (n := n) (p := p) (by rw [hAe]; exact h_66) (by rw [hAe]; exact h8) (by rw [hAe]; exact h7)
                   rw [hAe] at k1 k2
                   rw [if_neg h_252, if_pos h_258] at k2
                   exact ⟨⟨fun _ => by rw [k1]; rfl, by rw [k2]; rfl, by rw [hAe]; exact hf.1, by rw [k2]; exact h_258, fun q => (by rw [k2] at q; cases q), fun q => (by rw [k2] at q; cases q)⟩, (((hI.I (by decide) (by decide)).I (by decide) (by decide)).P).1⟩)
                | (obtain ⟨k1, k2⟩ := tk_oth (σ := σ) (n := n) (p := p) (by rw [hAe]; exact h_66) (by rw [hAe]; exact h8) (by rw [hAe]; exact h7)
                   rw [hAe] at k1 k2
                   rw [if_neg h_252, if_neg h_258] at k2
                   exact ⟨⟨fun q => absurd k2 q, by rw [k2]; exact hf.2.1, by rw [hAe]; exact hf.1, by rw [k2]; exact hf.2.2, fun q => (by rw [k2] at q; cases q), fun q => (by rw [k2] at q; cases q)⟩, hI.1⟩)
        · intro h_170
          refine jw_aload_n (pc := 173) dX5_goesOn_173 rfl ?_
          refine jw_iconst (pc := 174) dX5_goesOn_174 ic_0 ?_
          refine jx_putI (pc := 175) jf_X5_111_4 rfl dX5_goesOn_175 rfl rfl (is_90 hS) (by decide) ?_
          have hA9 : A < n := ch_lt h_66
          exact LN A _ _ hA9 hAe h_170 (hI.I (by decide) (by decide)) ⟨hf.1, hf.2.1, hf.2.2, rfl⟩
      · intro h_81
        refine jw_aload_n (pc := 84) dX5_goesOn_84 rfl ?_
        refine jw_lconst (pc := 85) dX5_goesOn_85 rfl ?_
        refine jx_putL (pc := 86) jf_X5_104_4 rfl dX5_goesOn_86 rfl rfl (is_90 hS) (by decide) ?_
        have hA9 : A < n := ch_lt h_66
        exact LW A _ _ hA9 hAe h_81 hI.L ⟨hf.1, hf.2.1, hf.2.2, rfl⟩
    · intro h_66
      refine jw_aload_n (pc := 69) dX5_goesOn_69 rfl ?_
      refine jw_iconst (pc := 70) dX5_goesOn_70 ic_1 ?_
      refine jx_putI (pc := 71) jf_X5_85_4 rfl dX5_goesOn_71 rfl rfl (is_90 hS) (by decide) ?_
      refine jw_goto (pc := 74) (tgt := 281) dX5_goesOn_74 (by decide) ?_
      refine jw_return (pc := 281) dX5_goesOn_281 rfl ?_
      refine ⟨rfl, ?_⟩
      first
        | (obtain ⟨k1, k2⟩ := tk_end (σ := σ) (n := n) (p := p) (by rw [hAe]; exact h_66)
           rw [hAe] at k2
           exact ⟨⟨fun _ => by rw [k2]; exact hE, by rw [k1]; rfl, by rw [hAe]; exact hf.1, by rw [k1]; exact hf.2.2, fun q => (by rw [k1] at q; cases q), fun q => (by rw [k1] at q; cases q)⟩, (hI.I (by decide) (by decide)).1⟩)
        | (obtain ⟨k1, k2⟩ := tk_oth (σ := σ) (n := n) (p := p) (by rw [hAe]; exact h_66) (by rw [hAe]; exact h8) (by rw [hAe]; exact h7)
           rw [hAe] at k1 k2
           rw [if_pos h_252] at k2
           exact ⟨⟨fun _ => by rw [k1]; rfl, by rw [k2]; rfl, by rw [hAe]; exact hf.1, by rw [k2]; exact h_252, fun q => (by rw [k2] at q; cases q), fun q => (by rw [k2] at q; cases q)⟩, (((hI.I (by decide) (by decide)).I (by decide) (by decide)).P).1⟩)
        | (obtain ⟨k1, k2⟩ := tk_oth (σ := σ) (n := n) (p := p) (by rw [hAe]; exact h_66) (by rw [hAe]; exact h8) (by rw [hAe]; exact h7)
           rw [hAe] at k1 k2
           rw [if_neg h_252, if_pos h_258] at k2
           exact ⟨⟨fun _ => by rw [k1]; rfl, by rw [k2]; rfl, by rw [hAe]; exact hf.1, by rw [k2]; exact h_258, fun q => (by rw [k2] at q; cases q), fun q => (by rw [k2] at q; cases q)⟩, (((hI.I (by decide) (by decide)).I (by decide) (by decide)).P).1⟩)
        | (obtain ⟨k1, k2⟩ := tk_oth (σ := σ) (n := n) (p := p) (by rw [hAe]; exact h_66) (by rw [hAe]; exact h8) (by rw [hAe]; exact h7)
           rw [hAe] at k1 k2
           rw [if_neg h_252, if_neg h_258] at k2
           exact ⟨⟨fun q => absurd k2 q, by rw [k2]; exact hf.2.1, by rw [hAe]; exact hf.1, by rw [k2]; exact hf.2.2, fun q => (by rw [k2] at q; cases q), fun q => (by rw [k2] at q; cases q)⟩, hI.1⟩)
  have K9 : ∀ x : Nat × Mm, ((p ≤ x.1 ∧ x.1 ≤ n) ∧ gI M x.2 σ x.1 ∧ ∀ j, p ≤ j → j < x.1 → chI σ n j = nI 32) → jW G mi_X5_goesOn 4 M 9 [some (jr (some 90)), none, none] [] x.2 (jPv (fun M' => jGp M' σ n p ∧ gKp M M')) := by
    refine jW.loop (σ := Nat × Mm) _ (fun x => n - x.1) _ (fun _ => []) (fun x => x.2) (fun x hI ih => ?_)
    obtain ⟨k, M1⟩ := x
    obtain ⟨⟨h1, h2⟩, hI, h0⟩ := hI
    dsimp only at h1 h2 hI h0 ih ⊢
    have hS := hI.1.2.2.2
    have hE := hI.2.2
    refine jw_aload_n (pc := 9) dX5_goesOn_9 rfl ?_
    refine jw_aload_n (pc := 10) dX5_goesOn_10 rfl ?_
    refine jx_getIs (pc := 11) (jf_X5_88_4.r) rfl dX5_goesOn_11 rfl (is_90 hS) (by decide) (hE) ?_
    refine jx_cVE (mi1 := mi_X5_byteAt) (pc := 14) rfl dX5_goesOn_14 lk_X5_91 rfl fi_X5_byteAt rfl rfl rfl (by decide) (is_90 hS) (t_X5_byteAt (σ := σ) hS hI.2.1 (hz hI) hn9 (by omega)) (by first | decide | omega) rfl rfl (by decide) ?_
    refine jw_bipush (pc := 17) dX5_goesOn_17 bp_32 ?_
    refine jw_icmp_ne (pc := 19) (tgt := 35) dX5_goesOn_19 (by decide) ?_ ?_
    · intro h_19
      exact L35 k _ h2 (tkA_eq h1 h2 h_19 h0) hI
    · intro h_19
      refine jw_aload_n (pc := 22) dX5_goesOn_22 rfl ?_
      refine jw_dup (pc := 23) dX5_goesOn_23 (jis2_r _) ?_
      refine jx_getIs (pc := 24) (jf_X5_88_4.r) rfl dX5_goesOn_24 rfl (is_90 hS) (by decide) (hE) ?_
      refine jw_iconst (pc := 27) dX5_goesOn_27 ic_1 ?_
      first | refine jx_iadd (pc := 28) dX5_goesOn_28 ?_ | refine jw_iadd (pc := 28) dX5_goesOn_28 ?_
      refine jx_putI (pc := 29) jf_X5_88_4 rfl dX5_goesOn_29 rfl rfl (is_90 hS) (by decide) ?_
      refine jw_goto (pc := 32) (tgt := 9) dX5_goesOn_32 (by decide) ?_
      have hk : k < n := ch_lt (fun q => by rw [h_19] at q; exact absurd q (by decide +kernel))
      exact ih (k + 1, _) ⟨⟨by dsimp only; omega, hk⟩, hI.P, fun j a b => by
        by_cases q : j = k
        · subst q; exact h_19
        · exact h0 j a (by dsimp only at b; omega)⟩ (by dsimp only; omega)
  refine jT.of (by decide) rfl (Nat.le_of_ble_eq_true rfl) ?_
  refine jw_aload_n (pc := 0) dX5_goesOn_0 rfl ?_
  refine jx_getIs (pc := 1) (jf_X5_85_4.r) rfl dX5_goesOn_1 rfl (is_90 hS) (by decide) (hs0) ?_
  refine jw_iconst (pc := 4) dX5_goesOn_4 ic_5 ?_
  first | refine jx_icmp_ne (pc := 5) (tgt := 9) dX5_goesOn_5 (by decide) (by omega) (by omega) ?_ ?_ | refine jw_icmp_ne (pc := 5) (tgt := 9) dX5_goesOn_5 (by decide) ?_ ?_
  · intro h_5
    exact K9 (p, M) ⟨⟨Nat.le_refl _, hp⟩, ⟨⟨jsm.rf, fun _ _ => rfl, fun _ => rfl, hS⟩, ht, he⟩, fun j a b => by dsimp only at b; omega⟩
  · intro h_5
    exact absurd h_5 h5
theorem t_X5_goesOn5 (hS : jSh M) (hs0 : jm_I M 90 58 = nI 5) : jT G mi_X5_goesOn 4 [jr (some 90)] M (jPv (fun M' => M' = M)) := by
  refine jT.of (by decide) rfl (Nat.le_of_ble_eq_true rfl) ?_
  refine jw_aload_n (pc := 0) dX5_goesOn_0 rfl ?_
  refine jx_getIs (pc := 1) (jf_X5_85_4.r) rfl dX5_goesOn_1 rfl (is_90 hS) (by decide) (hs0) ?_
  refine jw_iconst (pc := 4) dX5_goesOn_4 ic_5 ?_
  first | refine jx_icmp_ne (pc := 5) (tgt := 9) dX5_goesOn_5 (by decide) (by omega) (by omega) ?_ ?_ | refine jw_icmp_ne (pc := 5) (tgt := 9) dX5_goesOn_5 (by decide) ?_ ?_
  · intro h_5
    exact absurd rfl h_5
  · intro h_5
    refine jw_return (pc := 8) dX5_goesOn_8 rfl ?_
    exact ⟨rfl, rfl⟩
end JGO
