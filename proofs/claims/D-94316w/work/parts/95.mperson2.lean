/-! ===== m reads a person; a line ===== -/
section JLR
variable {G : Gh} {M : Mm} {σ : Sg} {n w : Nat}
theorem lp_pA {M9 : Mm} {Sb Sc : Except Fl (Vt × Nat)} {x1 b2 : Int32} {P : Rs → Mm → Prop} (h : mRd M σ n w Sc) (k : ∀ x3 M' Sd, mRd M' σ n w Sd → mKp M M' w → pAw (chI σ n) n Sb Sc Sd x3 → jW G mi_X5_readPerson 12 M9 65 [some (jr (some 90)), some (.int x1), some (.int b2), some (.int x3), none, none, none] [] M' P) : jW G mi_X5_readPerson 12 M9 50 [some (jr (some 90)), some (.int x1), some (.int b2), none, none, none, none] [.int (jb (sW (chI σ n) n Sb (kwc 8)))] M P := by
  have hS := h.S
  cases hw : sW (chI σ n) n Sb (kwc 8) with
  | true =>
    first | refine jx_ifb_eq (pc := 50) (tgt := 63) dX5_readPerson_50 (by decide) ?_ ?_ | refine jx_if_eq (pc := 50) (tgt := 63) dX5_readPerson_50 (by decide) (by omega) ?_ ?_ | refine jw_if_eq (pc := 50) (tgt := 63) dX5_readPerson_50 (by decide) ?_ ?_
    · intro h_50
      first | cases h_50 | exact absurd h_50 (by decide)
    · intro h_50
      refine jw_aload_n (pc := 53) dX5_readPerson_53 rfl ?_
      refine jw_iconst (pc := 54) dX5_readPerson_54 ic_2 ?_
      refine jw_bipush (pc := 55) dX5_readPerson_55 bp_9 ?_
      refine jx_cVi (mi1 := mi_X5_readWhole) (pc := 57) rfl dX5_readPerson_57 lk_X5_143 rfl fi_X5_readWhole rfl rfl rfl (by decide) (is_90 hS) (t_X5_readWhole h) (by first | decide | omega) rfl rfl (by decide) ?_
      intro x_57 M_57 q_57
      refine jw_goto (pc := 60) (tgt := 64) dX5_readPerson_60 (by decide) ?_
      refine jw_istore_n (pc := 64) dX5_readPerson_64 (Nat.le_of_ble_eq_true rfl) rfl ?_
      try dsimp only [jput1, jput2, jkill, jclr, jis2_i, jis2_l, jis2_rs, jis2_rn, cond]
      exact k _ _ _ q_57.1 q_57.2.1 (Or.inl ⟨hw, rfl, q_57.2.2⟩)
  | false =>
    first | refine jx_ifb_eq (pc := 50) (tgt := 63) dX5_readPerson_50 (by decide) ?_ ?_ | refine jx_if_eq (pc := 50) (tgt := 63) dX5_readPerson_50 (by decide) (by omega) ?_ ?_ | refine jw_if_eq (pc := 50) (tgt := 63) dX5_readPerson_50 (by decide) ?_ ?_
    · intro h_50
      refine jw_iconst (pc := 63) dX5_readPerson_63 ic_0 ?_
      refine jw_istore_n (pc := 64) dX5_readPerson_64 (Nat.le_of_ble_eq_true rfl) rfl ?_
      try dsimp only [jput1, jput2, jkill, jclr, jis2_i, jis2_l, jis2_rs, jis2_rn, cond]
      exact k _ _ _ h mKp.rf (Or.inr ⟨hw, rfl, rfl⟩)
    · intro h_50
      first | cases h_50 | exact absurd h_50 (by decide)
theorem lp_pB {M9 : Mm} {Sd Se : Except Fl (Vt × Nat)} {x1 b2 x3 : Int32} {P : Rs → Mm → Prop} (hG : jGs G) (h : mRd M σ n w Se) (k : ∀ x5 x6 y4 M' Sf, mRd M' σ n w Sf → mKp M M' w → pSl (chI σ n) n Sd Se Sf x5 x6 → jW G mi_X5_readPerson 12 M9 113 [some (jr (some 90)), some (.int x1), some (.int b2), some (.int x3), some (.int y4), some (.int x5), none] [.int x6] M' P) : jW G mi_X5_readPerson 12 M9 71 [some (jr (some 90)), some (.int x1), some (.int b2), some (.int x3), none, none, none] [.int (jb (sW (chI σ n) n Sd (kwc 9)))] M P := by
  have hS := h.S
  cases hw : sW (chI σ n) n Sd (kwc 9) with
  | true =>
    refine jw_istore (pc := 71) dX5_readPerson_71 (Nat.le_of_ble_eq_true rfl) rfl ?_
    try dsimp only [jput1, jput2, jkill, jclr, jis2_i, jis2_l, jis2_rs, jis2_rn, cond]
    refine jw_iload (pc := 73) dX5_readPerson_73 rfl ?_
    first | refine jx_ifb_eq (pc := 75) (tgt := 88) dX5_readPerson_75 (by decide) ?_ ?_ | refine jx_if_eq (pc := 75) (tgt := 88) dX5_readPerson_75 (by decide) (by omega) ?_ ?_ | refine jw_if_eq (pc := 75) (tgt := 88) dX5_readPerson_75 (by decide) ?_ ?_
    · intro h_75
      first | cases h_75 | exact absurd h_75 (by decide)
    · intro h_75
      refine jw_aload_n (pc := 78) dX5_readPerson_78 rfl ?_
      refine jw_iconst (pc := 79) dX5_readPerson_79 ic_0 ?_
      refine jw_bipush (pc := 80) dX5_readPerson_80 bp_99 ?_
      refine jx_cVi (mi1 := mi_X5_readWhole) (pc := 82) rfl dX5_readPerson_82 lk_X5_143 rfl fi_X5_readWhole rfl rfl rfl (by decide) (is_90 hS) (t_X5_readWhole h) (by first | decide | omega) rfl rfl (by decide) ?_
      intro x_82 M_82 q_82
      have hS := q_82.1.S
      have hT := q_82.1.T
      refine jw_goto (pc := 85) (tgt := 89) dX5_readPerson_85 (by decide) ?_
      refine jw_istore (pc := 89) dX5_readPerson_89 (Nat.le_of_ble_eq_true rfl) rfl ?_
      try dsimp only [jput1, jput2, jkill, jclr, jis2_i, jis2_l, jis2_rs, jis2_rn, cond]
      refine jw_iload (pc := 91) dX5_readPerson_91 rfl ?_
      first | refine jx_ifb_eq (pc := 93) (tgt := 112) dX5_readPerson_93 (by decide) ?_ ?_ | refine jx_if_eq (pc := 93) (tgt := 112) dX5_readPerson_93 (by decide) (by omega) ?_ ?_ | refine jw_if_eq (pc := 93) (tgt := 112) dX5_readPerson_93 (by decide) ?_ ?_
      · intro h_93
        first | cases h_93 | exact absurd h_93 (by decide)
      · intro h_93
        refine jw_aload_n (pc := 96) dX5_readPerson_96 rfl ?_
        refine jw_ldcsW (pc := 97) (js_X5_267) rfl (by decide) dX5_readPerson_97 ?_
        refine jw_iload (pc := 100) dX5_readPerson_100 rfl ?_
        refine jw_iconst (pc := 102) dX5_readPerson_102 ic_1 ?_
        refine jw_iadd (pc := 103) dX5_readPerson_103 ?_
        refine jw_bipush (pc := 104) dX5_readPerson_104 bp_99 ?_
        refine jx_cVi (mi1 := mi_X5_readPart) (pc := 106) rfl dX5_readPerson_106 lk_X5_253 rfl fi_X5_readPart rfl rfl rfl (by decide) (is_90 hS) (t_X5_readPart hG q_82.1 (hT 16 (by decide) (by decide))) (by first | decide | omega) rfl rfl (by decide) ?_
        intro x_106 M_106 q_106
        refine jw_goto (pc := 109) (tgt := 113) dX5_readPerson_109 (by decide) ?_
        exact k _ _ _ _ _ q_106.1 (q_82.2.1.tr q_106.2.1) (Or.inl ⟨hw, rfl, q_82.2.2, q_106.2.2⟩)
  | false =>
    refine jw_istore (pc := 71) dX5_readPerson_71 (Nat.le_of_ble_eq_true rfl) rfl ?_
    try dsimp only [jput1, jput2, jkill, jclr, jis2_i, jis2_l, jis2_rs, jis2_rn, cond]
    refine jw_iload (pc := 73) dX5_readPerson_73 rfl ?_
    first | refine jx_ifb_eq (pc := 75) (tgt := 88) dX5_readPerson_75 (by decide) ?_ ?_ | refine jx_if_eq (pc := 75) (tgt := 88) dX5_readPerson_75 (by decide) (by omega) ?_ ?_ | refine jw_if_eq (pc := 75) (tgt := 88) dX5_readPerson_75 (by decide) ?_ ?_
    · intro h_75
      refine jw_iconst (pc := 88) dX5_readPerson_88 ic_0 ?_
      refine jw_istore (pc := 89) dX5_readPerson_89 (Nat.le_of_ble_eq_true rfl) rfl ?_
      try dsimp only [jput1, jput2, jkill, jclr, jis2_i, jis2_l, jis2_rs, jis2_rn, cond]
      refine jw_iload (pc := 91) dX5_readPerson_91 rfl ?_
      first | refine jx_ifb_eq (pc := 93) (tgt := 112) dX5_readPerson_93 (by decide) ?_ ?_ | refine jx_if_eq (pc := 93) (tgt := 112) dX5_readPerson_93 (by decide) (by omega) ?_ ?_ | refine jw_if_eq (pc := 93) (tgt := 112) dX5_readPerson_93 (by decide) ?_ ?_
      · intro h_93
        refine jw_iconst (pc := 112) dX5_readPerson_112 ic_0 ?_
        exact k _ _ _ _ _ h mKp.rf (Or.inr ⟨hw, rfl, rfl, rfl⟩)
      · intro h_93
        first | cases h_93 | exact absurd h_93 (by decide)
    · intro h_75
      first | cases h_75 | exact absurd h_75 (by decide)
theorem lp_perE {M9 : Mm} {V : Vt} {p : Nat} {f : Fl} {x1 b2 x3 x5 x6 y4 : Int32} (h : mRd M σ n w (.error f)) (hk : mKp M9 M w) (he : lPerson (chI σ n) n V p = .error f) : jW G mi_X5_readPerson 12 M9 113 [some (jr (some 90)), some (.int x1), some (.int b2), some (.int x3), some (.int y4), some (.int x5), none] [.int x6] M (jPv (fun M' => mRd M' σ n w (lPerson (chI σ n) n V p) ∧ mKq M9 M' w)) := by
  have hS := h.S
  refine jw_istore (pc := 113) dX5_readPerson_113 (Nat.le_of_ble_eq_true rfl) rfl ?_
  try dsimp only [jput1, jput2, jkill, jclr, jis2_i, jis2_l, jis2_rs, jis2_rn, cond]
  refine jw_aload_n (pc := 115) dX5_readPerson_115 rfl ?_
  refine jx_getIs (pc := 116) (jf_X5_85_4.r) rfl dX5_readPerson_116 rfl (is_90 hS) (by decide) (h.2.1) ?_
  refine jw_iconst (pc := 119) dX5_readPerson_119 ic_5 ?_
  first | refine jx_icmp_ne (pc := 120) (tgt := 124) dX5_readPerson_120 (by decide) (by omega) (by omega) ?_ ?_ | refine jw_icmp_ne (pc := 120) (tgt := 124) dX5_readPerson_120 (by decide) ?_ ?_
  · intro h_120
    exact absurd rfl h_120
  · intro h_120
    refine jw_return (pc := 123) dX5_readPerson_123 rfl ?_
    exact ⟨rfl, by rw [he]; exact h, hk.q⟩
theorem lp_perO {M9 : Mm} {V : Vt} {p p2 u a aw f t : Nat} {b : Bool} {y4 : Int32} (h : mRd M σ n w (.ok (vName V u 1 (V 0 1), p2))) (hk : mKp M9 M w) (hlt : V 0 1 < 5) (he : lPerson (chI σ n) n V p = .ok (vPerson V u a b.toNat aw f t, p2)) : jW G mi_X5_readPerson 12 M9 113 [some (jr (some 90)), some (.int (nI a)), some (.int (jb b)), some (.int (nI aw)), some (.int y4), some (.int (nI f)), none] [.int (nI t)] M (jPv (fun M' => mRd M' σ n w (lPerson (chI σ n) n V p) ∧ mKq M9 M' w)) := by
  have hS := h.S
  have hR := h.1.2.2.2.2.2.1
  have hV := h.2.2.2.2.1
  have hw := hV.1
  have h104 := hw.2.1
  have hs5 := @srt_lt (tkK (chI σ n) n p2)
  have hct : jm_I M w 136 = nI (V 0 1) := mi_nq hV
  refine jw_istore (pc := 113) dX5_readPerson_113 (Nat.le_of_ble_eq_true rfl) rfl ?_
  try dsimp only [jput1, jput2, jkill, jclr, jis2_i, jis2_l, jis2_rs, jis2_rn, cond]
  refine jw_aload_n (pc := 115) dX5_readPerson_115 rfl ?_
  refine jx_getIs (pc := 116) (jf_X5_85_4.r) rfl dX5_readPerson_116 rfl (is_90 hS) (by decide) (h.2.2.1.2.1) ?_
  refine jw_iconst (pc := 119) dX5_readPerson_119 ic_5 ?_
  first | refine jx_icmp_ne (pc := 120) (tgt := 124) dX5_readPerson_120 (by decide) (by omega) (by omega) ?_ ?_ | refine jw_icmp_ne (pc := 120) (tgt := 124) dX5_readPerson_120 (by decide) ?_ ?_
  · intro h_120
    refine jw_aload_n (pc := 124) dX5_readPerson_124 rfl ?_
    refine jx_getRs (pc := 125) (jf_X5_173_4.r) rfl dX5_readPerson_125 rfl (is_90 hS) (by decide) (hR) ?_
    refine jx_getRs (pc := 128) jg_X5_323_12 rfl dX5_readPerson_128 rfl (wis hw) (by decide) (wr_8 hw) ?_
    refine jw_aload_n (pc := 131) dX5_readPerson_131 rfl ?_
    refine jx_getRs (pc := 132) (jf_X5_173_4.r) rfl dX5_readPerson_132 rfl (is_90 hS) (by decide) (hR) ?_
    refine jx_getIs (pc := 135) (jf_X5_221_12.r) rfl dX5_readPerson_135 rfl (wis hw) (by decide) (hct) ?_
    refine jw_iload_n (pc := 138) dX5_readPerson_138 rfl ?_
    refine jx_iast (pc := 139) dX5_readPerson_139 (by omega) (wok_8 hw) (wnn_8 hw) rfl (by omega) ?_
    refine jw_aload_n (pc := 140) dX5_readPerson_140 rfl ?_
    refine jx_getRs (pc := 141) (jf_X5_173_4.r) rfl dX5_readPerson_141 rfl (is_90 hS) (by decide) (hR) ?_
    refine jx_getRs (pc := 144) jg_X5_325_12 rfl dX5_readPerson_144 rfl (wis hw) (by decide) (wr_14 hw) ?_
    refine jw_aload_n (pc := 147) dX5_readPerson_147 rfl ?_
    refine jx_getRs (pc := 148) (jf_X5_173_4.r) rfl dX5_readPerson_148 rfl (is_90 hS) (by decide) (hR) ?_
    refine jx_getIs (pc := 151) (jf_X5_221_12.r) rfl dX5_readPerson_151 rfl (wis hw) (by decide) (hct) ?_
    refine jw_iload_n (pc := 154) dX5_readPerson_154 rfl ?_
    refine jx_zast (pc := 155) dX5_readPerson_155 (by omega) (wok_14 hw) (wnn_14 hw) rfl (by omega) (jnar_b _) ?_
    refine jw_aload_n (pc := 156) dX5_readPerson_156 rfl ?_
    refine jx_getRs (pc := 157) (jf_X5_173_4.r) rfl dX5_readPerson_157 rfl (is_90 hS) (by decide) (hR) ?_
    refine jx_getRs (pc := 160) jg_X5_328_12 rfl dX5_readPerson_160 rfl (wis hw) (by decide) (wr_9 hw) ?_
    refine jw_aload_n (pc := 163) dX5_readPerson_163 rfl ?_
    refine jx_getRs (pc := 164) (jf_X5_173_4.r) rfl dX5_readPerson_164 rfl (is_90 hS) (by decide) (hR) ?_
    refine jx_getIs (pc := 167) (jf_X5_221_12.r) rfl dX5_readPerson_167 rfl (wis hw) (by decide) (hct) ?_
    refine jw_iload_n (pc := 170) dX5_readPerson_170 rfl ?_
    refine jx_iast (pc := 171) dX5_readPerson_171 (by omega) (wok_9 hw) (wnn_9 hw) rfl (by omega) ?_
    refine jw_aload_n (pc := 172) dX5_readPerson_172 rfl ?_
    refine jx_getRs (pc := 173) (jf_X5_173_4.r) rfl dX5_readPerson_173 rfl (is_90 hS) (by decide) (hR) ?_
    refine jx_getRs (pc := 176) jg_X5_330_12 rfl dX5_readPerson_176 rfl (wis hw) (by decide) (wr_10 hw) ?_
    refine jw_aload_n (pc := 179) dX5_readPerson_179 rfl ?_
    refine jx_getRs (pc := 180) (jf_X5_173_4.r) rfl dX5_readPerson_180 rfl (is_90 hS) (by decide) (hR) ?_
    refine jx_getIs (pc := 183) (jf_X5_221_12.r) rfl dX5_readPerson_183 rfl (wis hw) (by decide) (hct) ?_
    refine jw_iload (pc := 186) dX5_readPerson_186 rfl ?_
    refine jx_iast (pc := 188) dX5_readPerson_188 (by omega) (wok_10 hw) (wnn_10 hw) rfl (by omega) ?_
    refine jw_aload_n (pc := 189) dX5_readPerson_189 rfl ?_
    refine jx_getRs (pc := 190) (jf_X5_173_4.r) rfl dX5_readPerson_190 rfl (is_90 hS) (by decide) (hR) ?_
    refine jx_getRs (pc := 193) jg_X5_332_12 rfl dX5_readPerson_193 rfl (wis hw) (by decide) (wr_11 hw) ?_
    refine jw_aload_n (pc := 196) dX5_readPerson_196 rfl ?_
    refine jx_getRs (pc := 197) (jf_X5_173_4.r) rfl dX5_readPerson_197 rfl (is_90 hS) (by decide) (hR) ?_
    refine jx_getIs (pc := 200) (jf_X5_221_12.r) rfl dX5_readPerson_200 rfl (wis hw) (by decide) (hct) ?_
    refine jw_iload (pc := 203) dX5_readPerson_203 rfl ?_
    refine jx_iast (pc := 205) dX5_readPerson_205 (by omega) (wok_11 hw) (wnn_11 hw) rfl (by omega) ?_
    refine jw_aload_n (pc := 206) dX5_readPerson_206 rfl ?_
    refine jx_getRs (pc := 207) (jf_X5_173_4.r) rfl dX5_readPerson_207 rfl (is_90 hS) (by decide) (hR) ?_
    refine jw_dup (pc := 210) dX5_readPerson_210 (jis2_r _) ?_
    refine jx_getIs (pc := 211) (jf_X5_221_12.r) rfl dX5_readPerson_211 rfl (wis hw) (by decide) (hct) ?_
    refine jw_iconst (pc := 214) dX5_readPerson_214 ic_1 ?_
    first | refine jx_iadd (pc := 215) dX5_readPerson_215 ?_ | refine jw_iadd (pc := 215) dX5_readPerson_215 ?_
    refine jx_putI (pc := 216) jf_X5_221_12 rfl dX5_readPerson_216 rfl rfl (wis hw) (by decide) ?_
    refine jw_return (pc := 219) dX5_readPerson_219 rfl ?_
    refine ⟨rfl, ?_, (hk.tr ?_).q⟩
    · rw [he, vPe_e]; exact mPe (u := u) (b := b.toNat) h hlt
    · exact (((((mKp.A (by omega) (by omega)).tr (mKp.A (by omega) (by omega))).tr (mKp.A (by omega) (by omega))).tr (mKp.A (by omega) (by omega))).tr (mKp.A (by omega) (by omega))).tr (mKp.W h104)
  · intro h_120
    omega
theorem t_X5_readPerson {V : Vt} {p : Nat} (hG : jGs G) (h : mRd M σ n w (.ok (V, p))) (hk : tkK (chI σ n) n p = 2) (hW : jWf V) (hn13 : V 0 13 = V 0 0 + V 0 1) : jT G mi_X5_readPerson 12 [jr (some 90)] M (jPv (fun M' => mRd M' σ n w (lPerson (chI σ n) n V p) ∧ mKq M M' w)) := by
  have hS := h.S
  have hR := h.1.2.2.2.2.2.1
  have hV := h.2.2.2.2.1
  have hN9 : V 0 0 ≤ 10 := hW.n.1
  have hN5 : V 0 1 ≤ 5 := hW.n.2.1
  have b44 : ∀ (x1 : Int32) (b : Bool) (M1 : Mm) (Sa : Except Fl (Vt × Nat)), mRd M1 σ n w (sT (chI σ n) n Sa (kwc 7)) → (∀ M2 x3 x5 x6 y4 Sd Sf, mRd M2 σ n w Sf → mKp M1 M2 w → pAw (chI σ n) n (sT (chI σ n) n Sa (kwc 7)) (sT (chI σ n) n (sT (chI σ n) n Sa (kwc 7)) (kwc 8)) Sd x3 → pSl (chI σ n) n Sd (sT (chI σ n) n Sd (kwc 9)) Sf x5 x6 → jW G mi_X5_readPerson 12 M 113 [some (jr (some 90)), some (.int x1), some (.int (jb b)), some (.int x3), some (.int y4), some (.int x5), none] [.int x6] M2 (jPv (fun M' => mRd M' σ n w (lPerson (chI σ n) n V p) ∧ mKq M M' w))) → jW G mi_X5_readPerson 12 M 44 [some (jr (some 90)), some (.int x1), some (.int (jb b)), none, none, none, none] [] M1 (jPv (fun M' => mRd M' σ n w (lPerson (chI σ n) n V p) ∧ mKq M M' w)) := by
    intro x1 b M1 Sa h1 kk
    have hS := h1.S
    have hT := h1.T
    have l65 : ∀ (x3 : Int32) (M2 : Mm) (Sd : Except Fl (Vt × Nat)), mRd M2 σ n w Sd → mKp M1 M2 w → pAw (chI σ n) n (sT (chI σ n) n Sa (kwc 7)) (sT (chI σ n) n (sT (chI σ n) n Sa (kwc 7)) (kwc 8)) Sd x3 → jW G mi_X5_readPerson 12 M 65 [some (jr (some 90)), some (.int x1), some (.int (jb b)), some (.int x3), none, none, none] [] M2 (jPv (fun M' => mRd M' σ n w (lPerson (chI σ n) n V p) ∧ mKq M M' w)) := by
      intro x3 M2 Sd h2 hk2 hA
      have hS := h2.S
      have hT := h2.T
      refine jw_aload_n (pc := 65) dX5_readPerson_65 rfl ?_
      refine jw_ldcs (pc := 66) (js_X5_161) rfl (by decide) dX5_readPerson_66 ?_
      refine jx_cVi (mi1 := mi_X5_eatsWord) (pc := 68) rfl dX5_readPerson_68 lk_X5_320 rfl fi_X5_eatsWord rfl rfl rfl (by decide) (is_90 hS) (t_X5_eatsWord hG h2 (hT 9 (by decide) (by decide))) (by first | decide | omega) rfl rfl (by decide) ?_
      intro x_68 M_68 q_68
      obtain ⟨e1, e2, e3⟩ := q_68
      subst e1
      exact lp_pB hG e2 (fun x5 x6 y4 M' Sf g1 g2 g3 => kk M' x3 x5 x6 y4 Sd Sf g1 ((hk2.tr e3).tr g2) hA g3)
    refine jw_aload_n (pc := 44) dX5_readPerson_44 rfl ?_
    refine jw_ldcs (pc := 45) (js_X5_159) rfl (by decide) dX5_readPerson_45 ?_
    refine jx_cVi (mi1 := mi_X5_eatsWord) (pc := 47) rfl dX5_readPerson_47 lk_X5_320 rfl fi_X5_eatsWord rfl rfl rfl (by decide) (is_90 hS) (t_X5_eatsWord hG h1 (hT 8 (by decide) (by decide))) (by first | decide | omega) rfl rfl (by decide) ?_
    intro x_47 M_47 q_47
    obtain ⟨e1, e2, e3⟩ := q_47
    subst e1
    exact lp_pA e2 (fun x3 M' Sd g1 g2 g3 => l65 x3 M' Sd g1 (e3.tr g2) g3)
  refine jT.of (by decide) rfl (Nat.le_of_ble_eq_true rfl) ?_
  refine jw_aload_n (pc := 0) dX5_readPerson_0 rfl ?_
  refine jw_aload_n (pc := 1) dX5_readPerson_1 rfl ?_
  refine jx_getRs (pc := 2) (jf_X5_173_4.r) rfl dX5_readPerson_2 rfl (is_90 hS) (by decide) (hR) ?_
  refine jx_getIs (pc := 5) (jf_X5_221_12.r) rfl dX5_readPerson_5 rfl (wis hV.1) (by decide) (mi_nq hV) ?_
  refine jw_iconst (pc := 8) dX5_readPerson_8 ic_5 ?_
  refine jx_cVv (mi1 := mi_X5_begins) (pc := 9) rfl dX5_readPerson_9 lk_X5_275 rfl fi_X5_begins rfl rfl rfl (by decide) (is_90 hS) (t_X5_begins h (by rw [hk]; decide) (by omega) (by omega) hN5) (by first | decide | omega) rfl rfl (by decide) ?_
  intro M_9 q_9
  have hS := q_9.1.S
  have hR := q_9.1.1.2.2.2.2.2.1
  have hw := q_9.1.1.2.2.2.2.2.2.1
  obtain ⟨m, hm1, hm2⟩ := q_9.1.1.2.2.2.2.2.2.2 (136, 5) (by decide)
  refine jw_aload_n (pc := 12) dX5_readPerson_12 rfl ?_
  refine jw_iconst (pc := 13) dX5_readPerson_13 ic_1 ?_
  refine jw_aload_n (pc := 14) dX5_readPerson_14 rfl ?_
  refine jx_getRs (pc := 15) (jf_X5_173_4.r) rfl dX5_readPerson_15 rfl (is_90 hS) (by decide) (hR) ?_
  refine jx_getIs (pc := 18) (jf_X5_221_12.r) rfl dX5_readPerson_18 rfl (wis hw) (by decide) (hm2) ?_
  refine jx_cVv (mi1 := mi_X5_readFresh) (pc := 21) rfl dX5_readPerson_21 lk_X5_279 rfl fi_X5_readFresh rfl rfl rfl (by decide) (is_90 hS) (t_X5_readFresh (sort := 1) (num := fun V => V 0 1) hG q_9.1 (by decide) (fun r e => by
    obtain ⟨V', p'⟩ := r
    have hq := q_9.1
    rw [e] at hq
    obtain ⟨eV, eb⟩ := ln_begin e
    have eb := of_decide_eq_true eb
    subst eV
    have e2 := mi_nq hq.2.2.2.2.1
    exact ⟨hm2.symm.trans (hm2.trans (hm2.symm.trans e2)), by dsimp only; omega, by dsimp only; omega⟩)) (by first | decide | omega) rfl rfl (by decide) ?_
  intro M_21 q_21
  have hS := q_21.1.S
  have hT := q_21.1.T
  refine jw_aload_n (pc := 24) dX5_readPerson_24 rfl ?_
  refine jw_ldcsW (pc := 25) (js_X5_282) rfl (by decide) dX5_readPerson_25 ?_
  refine jx_cVv (mi1 := mi_X5_must) (pc := 28) rfl dX5_readPerson_28 lk_X5_139 rfl fi_X5_must rfl rfl rfl (by decide) (is_90 hS) (t_X5_must hG q_21.1 (hT 18 (by decide) (by decide))) (by first | decide | omega) rfl rfl (by decide) ?_
  intro M_28 q_28
  have hS := q_28.1.S
  refine jw_aload_n (pc := 31) dX5_readPerson_31 rfl ?_
  refine jw_iconst (pc := 32) dX5_readPerson_32 ic_0 ?_
  refine jx_cVi (mi1 := mi_X5_readKnown) (pc := 33) rfl dX5_readPerson_33 lk_X5_199 rfl fi_X5_readKnown rfl rfl rfl (by decide) (is_90 hS) (t_X5_readKnown hG q_28.1 (sort := 0) (by decide)) (by first | decide | omega) rfl rfl (by decide) ?_
  intro x_33 M_33 q_33
  have hS := q_33.1.S
  have hT := q_33.1.T
  refine jw_istore_n (pc := 36) dX5_readPerson_36 (Nat.le_of_ble_eq_true rfl) rfl ?_
  try dsimp only [jput1, jput2, jkill, jclr, jis2_i, jis2_l, jis2_rs, jis2_rn, cond]
  refine jw_aload_n (pc := 37) dX5_readPerson_37 rfl ?_
  refine jw_ldcs (pc := 38) (js_X5_157) rfl (by decide) dX5_readPerson_38 ?_
  refine jx_cVi (mi1 := mi_X5_eatsWord) (pc := 40) rfl dX5_readPerson_40 lk_X5_320 rfl fi_X5_eatsWord rfl rfl rfl (by decide) (is_90 hS) (t_X5_eatsWord hG q_33.1 (hT 7 (by decide) (by decide))) (by first | decide | omega) rfl rfl (by decide) ?_
  intro x_40 M_40 q_40
  obtain ⟨e1, e2, e3⟩ := q_40
  subst e1
  refine jw_istore_n (pc := 43) dX5_readPerson_43 (Nat.le_of_ble_eq_true rfl) rfl ?_
  try dsimp only [jput1, jput2, jkill, jclr, jis2_i, jis2_l, jis2_rs, jis2_rn, cond]
  refine b44 _ _ _ _ e2 (fun M2 x3 x5 x6 y4 Sd Sf g1 g2 g3 g4 => ?_)
  have hkk := (((((q_9.2.tr q_21.2).tr q_28.2).tr q_33.2.1).tr e3).tr g2)
  obtain ⟨lE, lO⟩ := ln_person (V := V) (p := p) rfl rfl rfl rfl q_33.2.2 g3 g4 (fun u q2 => pKn_pend)
  cases Sf with
  | error f => exact lp_perE g1 hkk (lE f rfl)
  | ok r =>
    obtain ⟨u, a, aw, f, t, p2, z1, z2, z3, z4, z5, z6, z7⟩ := lO r rfl
    subst z5
    subst z1
    subst z2
    subst z3
    subst z4
    exact lp_perO g1 hkk z6 z7
/-- what holds of a valley in the making -/
def vOk (V : Vt) : Prop := jWf V ∧ vNw V
theorem t_X5_readLine {V : Vt} {p : Nat} (hG : jGs G) (h : mRd M σ n w (.ok (V, p))) (hW : jWf V) (hn13 : V 0 13 = V 0 0 + V 0 1) : jT G mi_X5_readLine 13 [jr (some 90)] M (jPv (fun M' => mRd M' σ n w (lLine (chI σ n) n V p) ∧ mKq M M' w)) := by
  have hS := h.S
  have hT := h.T
  have hN := hW.n
  have k : ∀ i o, 1 ≤ i → i ≤ 12 → o = 2 * i → jE G mi_X5_isWord 7 [jr (some 90), jr (some o)] M (some (.int (jb (sW (chI σ n) n (.ok (V, p)) (kwc i))))) M := fun i o h1 h2 e => t_X5_isWord hG h (by subst e; exact hT i h1 (by omega))
  have st : ∀ i, sW (chI σ n) n (.ok (V, p)) (kwc i) = true → tkK (chI σ n) n p = 2 ∧ tkV (chI σ n) n p = kwc i := fun i e => by
    obtain ⟨V', p', e1, e2, e3⟩ := sW_t e
    cases e1; exact ⟨e2, e3⟩
  have sf : ∀ i, sW (chI σ n) n (.ok (V, p)) (kwc i) = false → ¬ (tkK (chI σ n) n p = 2 ∧ tkV (chI σ n) n p = kwc i) := fun i e => sW_f e
  refine jT.of (by decide) rfl (Nat.le_of_ble_eq_true rfl) ?_
  refine jw_aload_n (pc := 0) dX5_readLine_0 rfl ?_
  refine jw_ldcs (pc := 1) (js_X5_146) rfl (by decide) dX5_readLine_1 ?_
  refine jx_cVE (mi1 := mi_X5_isWord) (pc := 3) rfl dX5_readLine_3 lk_X5_124 rfl fi_X5_isWord rfl rfl rfl (by decide) (is_90 hS) (k 1 2 (by decide) (by decide) rfl) (by first | decide | omega) rfl rfl (by decide) ?_
  first | refine jx_ifb_eq (pc := 6) (tgt := 16) dX5_readLine_6 (by decide) ?_ ?_ | refine jx_if_eq (pc := 6) (tgt := 16) dX5_readLine_6 (by decide) (by omega) ?_ ?_ | refine jw_if_eq (pc := 6) (tgt := 16) dX5_readLine_6 (by decide) ?_ ?_
  · intro h_6
    refine jw_aload_n (pc := 16) dX5_readLine_16 rfl ?_
    refine jw_ldcs (pc := 17) (js_X5_148) rfl (by decide) dX5_readLine_17 ?_
    refine jx_cVE (mi1 := mi_X5_isWord) (pc := 19) rfl dX5_readLine_19 lk_X5_124 rfl fi_X5_isWord rfl rfl rfl (by decide) (is_90 hS) (k 2 4 (by decide) (by decide) rfl) (by first | decide | omega) rfl rfl (by decide) ?_
    first | refine jx_ifb_eq (pc := 22) (tgt := 32) dX5_readLine_22 (by decide) ?_ ?_ | refine jx_if_eq (pc := 22) (tgt := 32) dX5_readLine_22 (by decide) (by omega) ?_ ?_ | refine jw_if_eq (pc := 22) (tgt := 32) dX5_readLine_22 (by decide) ?_ ?_
    · intro h_22
      refine jw_aload_n (pc := 32) dX5_readLine_32 rfl ?_
      refine jw_ldcs (pc := 33) (js_X5_149) rfl (by decide) dX5_readLine_33 ?_
      refine jx_cVE (mi1 := mi_X5_isWord) (pc := 35) rfl dX5_readLine_35 lk_X5_124 rfl fi_X5_isWord rfl rfl rfl (by decide) (is_90 hS) (k 3 6 (by decide) (by decide) rfl) (by first | decide | omega) rfl rfl (by decide) ?_
      first | refine jx_ifb_eq (pc := 38) (tgt := 48) dX5_readLine_38 (by decide) ?_ ?_ | refine jx_if_eq (pc := 38) (tgt := 48) dX5_readLine_38 (by decide) (by omega) ?_ ?_ | refine jw_if_eq (pc := 38) (tgt := 48) dX5_readLine_38 (by decide) ?_ ?_
      · intro h_38
        refine jw_aload_n (pc := 48) dX5_readLine_48 rfl ?_
        refine jw_ldcs (pc := 49) (js_X5_151) rfl (by decide) dX5_readLine_49 ?_
        refine jx_cVE (mi1 := mi_X5_isWord) (pc := 51) rfl dX5_readLine_51 lk_X5_124 rfl fi_X5_isWord rfl rfl rfl (by decide) (is_90 hS) (k 4 8 (by decide) (by decide) rfl) (by first | decide | omega) rfl rfl (by decide) ?_
        first | refine jx_ifb_eq (pc := 54) (tgt := 64) dX5_readLine_54 (by decide) ?_ ?_ | refine jx_if_eq (pc := 54) (tgt := 64) dX5_readLine_54 (by decide) (by omega) ?_ ?_ | refine jw_if_eq (pc := 54) (tgt := 64) dX5_readLine_54 (by decide) ?_ ?_
        · intro h_54
          refine jw_aload_n (pc := 64) dX5_readLine_64 rfl ?_
          refine jw_ldcs (pc := 65) (js_X5_153) rfl (by decide) dX5_readLine_65 ?_
          refine jx_cVE (mi1 := mi_X5_isWord) (pc := 67) rfl dX5_readLine_67 lk_X5_124 rfl fi_X5_isWord rfl rfl rfl (by decide) (is_90 hS) (k 5 10 (by decide) (by decide) rfl) (by first | decide | omega) rfl rfl (by decide) ?_
          first | refine jx_ifb_eq (pc := 70) (tgt := 80) dX5_readLine_70 (by decide) ?_ ?_ | refine jx_if_eq (pc := 70) (tgt := 80) dX5_readLine_70 (by decide) (by omega) ?_ ?_ | refine jw_if_eq (pc := 70) (tgt := 80) dX5_readLine_70 (by decide) ?_ ?_
          · intro h_70
            refine jw_aload_n (pc := 80) dX5_readLine_80 rfl ?_
            refine jw_ldcs (pc := 81) (js_X5_155) rfl (by decide) dX5_readLine_81 ?_
            refine jx_cVE (mi1 := mi_X5_isWord) (pc := 83) rfl dX5_readLine_83 lk_X5_124 rfl fi_X5_isWord rfl rfl rfl (by decide) (is_90 hS) (k 6 12 (by decide) (by decide) rfl) (by first | decide | omega) rfl rfl (by decide) ?_
            first | refine jx_ifb_eq (pc := 86) (tgt := 96) dX5_readLine_86 (by decide) ?_ ?_ | refine jx_if_eq (pc := 86) (tgt := 96) dX5_readLine_86 (by decide) (by omega) ?_ ?_ | refine jw_if_eq (pc := 86) (tgt := 96) dX5_readLine_86 (by decide) ?_ ?_
            · intro h_86
              refine jw_aload_n (pc := 96) dX5_readLine_96 rfl ?_
              refine jw_ldcs (pc := 97) (js_X5_163) rfl (by decide) dX5_readLine_97 ?_
              refine jx_cVE (mi1 := mi_X5_isWord) (pc := 99) rfl dX5_readLine_99 lk_X5_124 rfl fi_X5_isWord rfl rfl rfl (by decide) (is_90 hS) (k 10 20 (by decide) (by decide) rfl) (by first | decide | omega) rfl rfl (by decide) ?_
              first | refine jx_ifb_eq (pc := 102) (tgt := 112) dX5_readLine_102 (by decide) ?_ ?_ | refine jx_if_eq (pc := 102) (tgt := 112) dX5_readLine_102 (by decide) (by omega) ?_ ?_ | refine jw_if_eq (pc := 102) (tgt := 112) dX5_readLine_102 (by decide) ?_ ?_
              · intro h_102
                refine jw_aload_n (pc := 112) dX5_readLine_112 rfl ?_
                refine jw_ldcs (pc := 113) (js_X5_165) rfl (by decide) dX5_readLine_113 ?_
                refine jx_cVE (mi1 := mi_X5_isWord) (pc := 115) rfl dX5_readLine_115 lk_X5_124 rfl fi_X5_isWord rfl rfl rfl (by decide) (is_90 hS) (k 11 22 (by decide) (by decide) rfl) (by first | decide | omega) rfl rfl (by decide) ?_
                first | refine jx_ifb_eq (pc := 118) (tgt := 128) dX5_readLine_118 (by decide) ?_ ?_ | refine jx_if_eq (pc := 118) (tgt := 128) dX5_readLine_118 (by decide) (by omega) ?_ ?_ | refine jw_if_eq (pc := 118) (tgt := 128) dX5_readLine_118 (by decide) ?_ ?_
                · intro h_118
                  refine jw_aload_n (pc := 128) dX5_readLine_128 rfl ?_
                  refine jw_ldcs (pc := 129) (js_X5_167) rfl (by decide) dX5_readLine_129 ?_
                  refine jx_cVE (mi1 := mi_X5_isWord) (pc := 131) rfl dX5_readLine_131 lk_X5_124 rfl fi_X5_isWord rfl rfl rfl (by decide) (is_90 hS) (k 12 24 (by decide) (by decide) rfl) (by first | decide | omega) rfl rfl (by decide) ?_
                  first | refine jx_ifb_eq (pc := 134) (tgt := 144) dX5_readLine_134 (by decide) ?_ ?_ | refine jx_if_eq (pc := 134) (tgt := 144) dX5_readLine_134 (by decide) (by omega) ?_ ?_ | refine jw_if_eq (pc := 134) (tgt := 144) dX5_readLine_134 (by decide) ?_ ?_
                  · intro h_134
                    refine jw_aload_n (pc := 144) dX5_readLine_144 rfl ?_
                    refine jw_iconst (pc := 145) dX5_readLine_145 ic_1 ?_
                    refine jx_cVv (mi1 := mi_X5_wrong) (pc := 146) rfl dX5_readLine_146 lk_X5_131 rfl fi_X5_wrong rfl rfl rfl (by decide) (is_90 hS) (t_X5_wrong h (by decide)) (by first | decide | omega) rfl rfl (by decide) ?_
                    intro M_146 q_146
                    refine jw_return (pc := 149) dX5_readLine_149 rfl ?_
                    refine ⟨rfl, ?_⟩
                    unfold lLine
                    first
                    | (rw [if_pos (st 1 h_6)]; exact ⟨q_10.1, q_10.2⟩)
                    | (rw [if_neg (sf 1 h_6), if_pos (st 2 h_22)]; exact ⟨q_26.1, q_26.2⟩)
                    | (rw [if_neg (sf 1 h_6), if_neg (sf 2 h_22), if_pos (st 3 h_38)]; exact ⟨q_42.1, q_42.2⟩)
                    | (rw [if_neg (sf 1 h_6), if_neg (sf 2 h_22), if_neg (sf 3 h_38), if_pos (st 4 h_54)]; exact ⟨q_58.1, q_58.2⟩)
                    | (rw [if_neg (sf 1 h_6), if_neg (sf 2 h_22), if_neg (sf 3 h_38), if_neg (sf 4 h_54), if_pos (st 5 h_70)]; exact ⟨q_74.1, q_74.2⟩)
                    | (rw [if_neg (sf 1 h_6), if_neg (sf 2 h_22), if_neg (sf 3 h_38), if_neg (sf 4 h_54), if_neg (sf 5 h_70), if_pos (st 6 h_86)]; exact ⟨q_90.1, q_90.2⟩)
                    | (rw [if_neg (sf 1 h_6), if_neg (sf 2 h_22), if_neg (sf 3 h_38), if_neg (sf 4 h_54), if_neg (sf 5 h_70), if_neg (sf 6 h_86), if_pos (st 10 h_102)]; exact ⟨q_106.1, q_106.2⟩)
                    | (rw [if_neg (sf 1 h_6), if_neg (sf 2 h_22), if_neg (sf 3 h_38), if_neg (sf 4 h_54), if_neg (sf 5 h_70), if_neg (sf 6 h_86), if_neg (sf 10 h_102), if_pos (st 11 h_118)]; exact ⟨q_122.1, q_122.2⟩)
                    | (rw [if_neg (sf 1 h_6), if_neg (sf 2 h_22), if_neg (sf 3 h_38), if_neg (sf 4 h_54), if_neg (sf 5 h_70), if_neg (sf 6 h_86), if_neg (sf 10 h_102), if_neg (sf 11 h_118), if_pos (st 12 h_134)]; exact ⟨q_138.1, q_138.2⟩)
                    | (rw [if_neg (sf 1 h_6), if_neg (sf 2 h_22), if_neg (sf 3 h_38), if_neg (sf 4 h_54), if_neg (sf 5 h_70), if_neg (sf 6 h_86), if_neg (sf 10 h_102), if_neg (sf 11 h_118), if_neg (sf 12 h_134)]; exact ⟨q_146.1, q_146.2.q⟩)
                  · intro h_134
                    refine jw_aload_n (pc := 137) dX5_readLine_137 rfl ?_
                    refine jx_cVv (mi1 := mi_X5_readFog) (pc := 138) rfl dX5_readLine_138 lk_X5_248 rfl fi_X5_readFog rfl rfl rfl (by decide) (is_90 hS) (t_X5_readFog hG h (st 12 h_134).1 hW (fun k hk => by have := wf_f hW hk; omega)) (by first | decide | omega) rfl rfl (by decide) ?_
                    intro M_138 q_138
                    refine jw_goto (pc := 141) (tgt := 149) dX5_readLine_141 (by decide) ?_
                    refine jw_return (pc := 149) dX5_readLine_149 rfl ?_
                    refine ⟨rfl, ?_⟩
                    unfold lLine
                    first
                    | (rw [if_pos (st 1 h_6)]; exact ⟨q_10.1, q_10.2⟩)
                    | (rw [if_neg (sf 1 h_6), if_pos (st 2 h_22)]; exact ⟨q_26.1, q_26.2⟩)
                    | (rw [if_neg (sf 1 h_6), if_neg (sf 2 h_22), if_pos (st 3 h_38)]; exact ⟨q_42.1, q_42.2⟩)
                    | (rw [if_neg (sf 1 h_6), if_neg (sf 2 h_22), if_neg (sf 3 h_38), if_pos (st 4 h_54)]; exact ⟨q_58.1, q_58.2⟩)
                    | (rw [if_neg (sf 1 h_6), if_neg (sf 2 h_22), if_neg (sf 3 h_38), if_neg (sf 4 h_54), if_pos (st 5 h_70)]; exact ⟨q_74.1, q_74.2⟩)
                    | (rw [if_neg (sf 1 h_6), if_neg (sf 2 h_22), if_neg (sf 3 h_38), if_neg (sf 4 h_54), if_neg (sf 5 h_70), if_pos (st 6 h_86)]; exact ⟨q_90.1, q_90.2⟩)
                    | (rw [if_neg (sf 1 h_6), if_neg (sf 2 h_22), if_neg (sf 3 h_38), if_neg (sf 4 h_54), if_neg (sf 5 h_70), if_neg (sf 6 h_86), if_pos (st 10 h_102)]; exact ⟨q_106.1, q_106.2⟩)
                    | (rw [if_neg (sf 1 h_6), if_neg (sf 2 h_22), if_neg (sf 3 h_38), if_neg (sf 4 h_54), if_neg (sf 5 h_70), if_neg (sf 6 h_86), if_neg (sf 10 h_102), if_pos (st 11 h_118)]; exact ⟨q_122.1, q_122.2⟩)
                    | (rw [if_neg (sf 1 h_6), if_neg (sf 2 h_22), if_neg (sf 3 h_38), if_neg (sf 4 h_54), if_neg (sf 5 h_70), if_neg (sf 6 h_86), if_neg (sf 10 h_102), if_neg (sf 11 h_118), if_pos (st 12 h_134)]; exact ⟨q_138.1, q_138.2⟩)
                    | (rw [if_neg (sf 1 h_6), if_neg (sf 2 h_22), if_neg (sf 3 h_38), if_neg (sf 4 h_54), if_neg (sf 5 h_70), if_neg (sf 6 h_86), if_neg (sf 10 h_102), if_neg (sf 11 h_118), if_neg (sf 12 h_134)]; exact ⟨q_146.1, q_146.2.q⟩)
                · intro h_118
                  refine jw_aload_n (pc := 121) dX5_readLine_121 rfl ?_
                  refine jx_cVv (mi1 := mi_X5_readErrand) (pc := 122) rfl dX5_readLine_122 lk_X5_245 rfl fi_X5_readErrand rfl rfl rfl (by decide) (is_90 hS) (t_X5_readErrand hG h (st 11 h_118).1 hW) (by first | decide | omega) rfl rfl (by decide) ?_
                  intro M_122 q_122
                  refine jw_goto (pc := 125) (tgt := 149) dX5_readLine_125 (by decide) ?_
                  refine jw_return (pc := 149) dX5_readLine_149 rfl ?_
                  refine ⟨rfl, ?_⟩
                  unfold lLine
                  first
                  | (rw [if_pos (st 1 h_6)]; exact ⟨q_10.1, q_10.2⟩)
                  | (rw [if_neg (sf 1 h_6), if_pos (st 2 h_22)]; exact ⟨q_26.1, q_26.2⟩)
                  | (rw [if_neg (sf 1 h_6), if_neg (sf 2 h_22), if_pos (st 3 h_38)]; exact ⟨q_42.1, q_42.2⟩)
                  | (rw [if_neg (sf 1 h_6), if_neg (sf 2 h_22), if_neg (sf 3 h_38), if_pos (st 4 h_54)]; exact ⟨q_58.1, q_58.2⟩)
                  | (rw [if_neg (sf 1 h_6), if_neg (sf 2 h_22), if_neg (sf 3 h_38), if_neg (sf 4 h_54), if_pos (st 5 h_70)]; exact ⟨q_74.1, q_74.2⟩)
                  | (rw [if_neg (sf 1 h_6), if_neg (sf 2 h_22), if_neg (sf 3 h_38), if_neg (sf 4 h_54), if_neg (sf 5 h_70), if_pos (st 6 h_86)]; exact ⟨q_90.1, q_90.2⟩)
                  | (rw [if_neg (sf 1 h_6), if_neg (sf 2 h_22), if_neg (sf 3 h_38), if_neg (sf 4 h_54), if_neg (sf 5 h_70), if_neg (sf 6 h_86), if_pos (st 10 h_102)]; exact ⟨q_106.1, q_106.2⟩)
                  | (rw [if_neg (sf 1 h_6), if_neg (sf 2 h_22), if_neg (sf 3 h_38), if_neg (sf 4 h_54), if_neg (sf 5 h_70), if_neg (sf 6 h_86), if_neg (sf 10 h_102), if_pos (st 11 h_118)]; exact ⟨q_122.1, q_122.2⟩)
                  | (rw [if_neg (sf 1 h_6), if_neg (sf 2 h_22), if_neg (sf 3 h_38), if_neg (sf 4 h_54), if_neg (sf 5 h_70), if_neg (sf 6 h_86), if_neg (sf 10 h_102), if_neg (sf 11 h_118), if_pos (st 12 h_134)]; exact ⟨q_138.1, q_138.2⟩)
                  | (rw [if_neg (sf 1 h_6), if_neg (sf 2 h_22), if_neg (sf 3 h_38), if_neg (sf 4 h_54), if_neg (sf 5 h_70), if_neg (sf 6 h_86), if_neg (sf 10 h_102), if_neg (sf 11 h_118), if_neg (sf 12 h_134)]; exact ⟨q_146.1, q_146.2.q⟩)
              · intro h_102
                refine jw_aload_n (pc := 105) dX5_readLine_105 rfl ?_
                refine jx_cVv (mi1 := mi_X5_readPair) (pc := 106) rfl dX5_readLine_106 lk_X5_242 rfl fi_X5_readPair rfl rfl rfl (by decide) (is_90 hS) (t_X5_readPair hG h (st 10 h_102).1 hW (fun k hk => by have := wf_r hW hk; omega)) (by first | decide | omega) rfl rfl (by decide) ?_
                intro M_106 q_106
                refine jw_goto (pc := 109) (tgt := 149) dX5_readLine_109 (by decide) ?_
                refine jw_return (pc := 149) dX5_readLine_149 rfl ?_
                refine ⟨rfl, ?_⟩
                unfold lLine
                first
                | (rw [if_pos (st 1 h_6)]; exact ⟨q_10.1, q_10.2⟩)
                | (rw [if_neg (sf 1 h_6), if_pos (st 2 h_22)]; exact ⟨q_26.1, q_26.2⟩)
                | (rw [if_neg (sf 1 h_6), if_neg (sf 2 h_22), if_pos (st 3 h_38)]; exact ⟨q_42.1, q_42.2⟩)
                | (rw [if_neg (sf 1 h_6), if_neg (sf 2 h_22), if_neg (sf 3 h_38), if_pos (st 4 h_54)]; exact ⟨q_58.1, q_58.2⟩)
                | (rw [if_neg (sf 1 h_6), if_neg (sf 2 h_22), if_neg (sf 3 h_38), if_neg (sf 4 h_54), if_pos (st 5 h_70)]; exact ⟨q_74.1, q_74.2⟩)
                | (rw [if_neg (sf 1 h_6), if_neg (sf 2 h_22), if_neg (sf 3 h_38), if_neg (sf 4 h_54), if_neg (sf 5 h_70), if_pos (st 6 h_86)]; exact ⟨q_90.1, q_90.2⟩)
                | (rw [if_neg (sf 1 h_6), if_neg (sf 2 h_22), if_neg (sf 3 h_38), if_neg (sf 4 h_54), if_neg (sf 5 h_70), if_neg (sf 6 h_86), if_pos (st 10 h_102)]; exact ⟨q_106.1, q_106.2⟩)
                | (rw [if_neg (sf 1 h_6), if_neg (sf 2 h_22), if_neg (sf 3 h_38), if_neg (sf 4 h_54), if_neg (sf 5 h_70), if_neg (sf 6 h_86), if_neg (sf 10 h_102), if_pos (st 11 h_118)]; exact ⟨q_122.1, q_122.2⟩)
                | (rw [if_neg (sf 1 h_6), if_neg (sf 2 h_22), if_neg (sf 3 h_38), if_neg (sf 4 h_54), if_neg (sf 5 h_70), if_neg (sf 6 h_86), if_neg (sf 10 h_102), if_neg (sf 11 h_118), if_pos (st 12 h_134)]; exact ⟨q_138.1, q_138.2⟩)
                | (rw [if_neg (sf 1 h_6), if_neg (sf 2 h_22), if_neg (sf 3 h_38), if_neg (sf 4 h_54), if_neg (sf 5 h_70), if_neg (sf 6 h_86), if_neg (sf 10 h_102), if_neg (sf 11 h_118), if_neg (sf 12 h_134)]; exact ⟨q_146.1, q_146.2.q⟩)
            · intro h_86
              refine jw_aload_n (pc := 89) dX5_readLine_89 rfl ?_
              refine jx_cVv (mi1 := mi_X5_readPerson) (pc := 90) rfl dX5_readLine_90 lk_X5_239 rfl fi_X5_readPerson rfl rfl rfl (by decide) (is_90 hS) (t_X5_readPerson hG h (st 6 h_86).1 hW hn13) (by first | decide | omega) rfl rfl (by decide) ?_
              intro M_90 q_90
              refine jw_goto (pc := 93) (tgt := 149) dX5_readLine_93 (by decide) ?_
              refine jw_return (pc := 149) dX5_readLine_149 rfl ?_
              refine ⟨rfl, ?_⟩
              unfold lLine
              first
              | (rw [if_pos (st 1 h_6)]; exact ⟨q_10.1, q_10.2⟩)
              | (rw [if_neg (sf 1 h_6), if_pos (st 2 h_22)]; exact ⟨q_26.1, q_26.2⟩)
              | (rw [if_neg (sf 1 h_6), if_neg (sf 2 h_22), if_pos (st 3 h_38)]; exact ⟨q_42.1, q_42.2⟩)
              | (rw [if_neg (sf 1 h_6), if_neg (sf 2 h_22), if_neg (sf 3 h_38), if_pos (st 4 h_54)]; exact ⟨q_58.1, q_58.2⟩)
              | (rw [if_neg (sf 1 h_6), if_neg (sf 2 h_22), if_neg (sf 3 h_38), if_neg (sf 4 h_54), if_pos (st 5 h_70)]; exact ⟨q_74.1, q_74.2⟩)
              | (rw [if_neg (sf 1 h_6), if_neg (sf 2 h_22), if_neg (sf 3 h_38), if_neg (sf 4 h_54), if_neg (sf 5 h_70), if_pos (st 6 h_86)]; exact ⟨q_90.1, q_90.2⟩)
              | (rw [if_neg (sf 1 h_6), if_neg (sf 2 h_22), if_neg (sf 3 h_38), if_neg (sf 4 h_54), if_neg (sf 5 h_70), if_neg (sf 6 h_86), if_pos (st 10 h_102)]; exact ⟨q_106.1, q_106.2⟩)
              | (rw [if_neg (sf 1 h_6), if_neg (sf 2 h_22), if_neg (sf 3 h_38), if_neg (sf 4 h_54), if_neg (sf 5 h_70), if_neg (sf 6 h_86), if_neg (sf 10 h_102), if_pos (st 11 h_118)]; exact ⟨q_122.1, q_122.2⟩)
              | (rw [if_neg (sf 1 h_6), if_neg (sf 2 h_22), if_neg (sf 3 h_38), if_neg (sf 4 h_54), if_neg (sf 5 h_70), if_neg (sf 6 h_86), if_neg (sf 10 h_102), if_neg (sf 11 h_118), if_pos (st 12 h_134)]; exact ⟨q_138.1, q_138.2⟩)
              | (rw [if_neg (sf 1 h_6), if_neg (sf 2 h_22), if_neg (sf 3 h_38), if_neg (sf 4 h_54), if_neg (sf 5 h_70), if_neg (sf 6 h_86), if_neg (sf 10 h_102), if_neg (sf 11 h_118), if_neg (sf 12 h_134)]; exact ⟨q_146.1, q_146.2.q⟩)
          · intro h_70
            refine jw_aload_n (pc := 73) dX5_readLine_73 rfl ?_
            refine jx_cVv (mi1 := mi_X5_readMirror) (pc := 74) rfl dX5_readLine_74 lk_X5_236 rfl fi_X5_readMirror rfl rfl rfl (by decide) (is_90 hS) (t_X5_readMirror hG h (st 5 h_70).1 hW (fun k hk => by have := wf_m hW hk; omega)) (by first | decide | omega) rfl rfl (by decide) ?_
            intro M_74 q_74
            refine jw_goto (pc := 77) (tgt := 149) dX5_readLine_77 (by decide) ?_
            refine jw_return (pc := 149) dX5_readLine_149 rfl ?_
            refine ⟨rfl, ?_⟩
            unfold lLine
            first
            | (rw [if_pos (st 1 h_6)]; exact ⟨q_10.1, q_10.2⟩)
            | (rw [if_neg (sf 1 h_6), if_pos (st 2 h_22)]; exact ⟨q_26.1, q_26.2⟩)
            | (rw [if_neg (sf 1 h_6), if_neg (sf 2 h_22), if_pos (st 3 h_38)]; exact ⟨q_42.1, q_42.2⟩)
            | (rw [if_neg (sf 1 h_6), if_neg (sf 2 h_22), if_neg (sf 3 h_38), if_pos (st 4 h_54)]; exact ⟨q_58.1, q_58.2⟩)
            | (rw [if_neg (sf 1 h_6), if_neg (sf 2 h_22), if_neg (sf 3 h_38), if_neg (sf 4 h_54), if_pos (st 5 h_70)]; exact ⟨q_74.1, q_74.2⟩)
            | (rw [if_neg (sf 1 h_6), if_neg (sf 2 h_22), if_neg (sf 3 h_38), if_neg (sf 4 h_54), if_neg (sf 5 h_70), if_pos (st 6 h_86)]; exact ⟨q_90.1, q_90.2⟩)
            | (rw [if_neg (sf 1 h_6), if_neg (sf 2 h_22), if_neg (sf 3 h_38), if_neg (sf 4 h_54), if_neg (sf 5 h_70), if_neg (sf 6 h_86), if_pos (st 10 h_102)]; exact ⟨q_106.1, q_106.2⟩)
            | (rw [if_neg (sf 1 h_6), if_neg (sf 2 h_22), if_neg (sf 3 h_38), if_neg (sf 4 h_54), if_neg (sf 5 h_70), if_neg (sf 6 h_86), if_neg (sf 10 h_102), if_pos (st 11 h_118)]; exact ⟨q_122.1, q_122.2⟩)
            | (rw [if_neg (sf 1 h_6), if_neg (sf 2 h_22), if_neg (sf 3 h_38), if_neg (sf 4 h_54), if_neg (sf 5 h_70), if_neg (sf 6 h_86), if_neg (sf 10 h_102), if_neg (sf 11 h_118), if_pos (st 12 h_134)]; exact ⟨q_138.1, q_138.2⟩)
            | (rw [if_neg (sf 1 h_6), if_neg (sf 2 h_22), if_neg (sf 3 h_38), if_neg (sf 4 h_54), if_neg (sf 5 h_70), if_neg (sf 6 h_86), if_neg (sf 10 h_102), if_neg (sf 11 h_118), if_neg (sf 12 h_134)]; exact ⟨q_146.1, q_146.2.q⟩)
        · intro h_54
          refine jw_aload_n (pc := 57) dX5_readLine_57 rfl ?_
          refine jx_cVv (mi1 := mi_X5_readWay) (pc := 58) rfl dX5_readLine_58 lk_X5_233 rfl fi_X5_readWay rfl rfl rfl (by decide) (is_90 hS) (t_X5_readWay hG h (st 4 h_54).1 hW (fun k hk => by have := wf_y hW hk; omega)) (by first | decide | omega) rfl rfl (by decide) ?_
          intro M_58 q_58
          refine jw_goto (pc := 61) (tgt := 149) dX5_readLine_61 (by decide) ?_
          refine jw_return (pc := 149) dX5_readLine_149 rfl ?_
          refine ⟨rfl, ?_⟩
          unfold lLine
          first
          | (rw [if_pos (st 1 h_6)]; exact ⟨q_10.1, q_10.2⟩)
          | (rw [if_neg (sf 1 h_6), if_pos (st 2 h_22)]; exact ⟨q_26.1, q_26.2⟩)
          | (rw [if_neg (sf 1 h_6), if_neg (sf 2 h_22), if_pos (st 3 h_38)]; exact ⟨q_42.1, q_42.2⟩)
          | (rw [if_neg (sf 1 h_6), if_neg (sf 2 h_22), if_neg (sf 3 h_38), if_pos (st 4 h_54)]; exact ⟨q_58.1, q_58.2⟩)
          | (rw [if_neg (sf 1 h_6), if_neg (sf 2 h_22), if_neg (sf 3 h_38), if_neg (sf 4 h_54), if_pos (st 5 h_70)]; exact ⟨q_74.1, q_74.2⟩)
          | (rw [if_neg (sf 1 h_6), if_neg (sf 2 h_22), if_neg (sf 3 h_38), if_neg (sf 4 h_54), if_neg (sf 5 h_70), if_pos (st 6 h_86)]; exact ⟨q_90.1, q_90.2⟩)
          | (rw [if_neg (sf 1 h_6), if_neg (sf 2 h_22), if_neg (sf 3 h_38), if_neg (sf 4 h_54), if_neg (sf 5 h_70), if_neg (sf 6 h_86), if_pos (st 10 h_102)]; exact ⟨q_106.1, q_106.2⟩)
          | (rw [if_neg (sf 1 h_6), if_neg (sf 2 h_22), if_neg (sf 3 h_38), if_neg (sf 4 h_54), if_neg (sf 5 h_70), if_neg (sf 6 h_86), if_neg (sf 10 h_102), if_pos (st 11 h_118)]; exact ⟨q_122.1, q_122.2⟩)
          | (rw [if_neg (sf 1 h_6), if_neg (sf 2 h_22), if_neg (sf 3 h_38), if_neg (sf 4 h_54), if_neg (sf 5 h_70), if_neg (sf 6 h_86), if_neg (sf 10 h_102), if_neg (sf 11 h_118), if_pos (st 12 h_134)]; exact ⟨q_138.1, q_138.2⟩)
          | (rw [if_neg (sf 1 h_6), if_neg (sf 2 h_22), if_neg (sf 3 h_38), if_neg (sf 4 h_54), if_neg (sf 5 h_70), if_neg (sf 6 h_86), if_neg (sf 10 h_102), if_neg (sf 11 h_118), if_neg (sf 12 h_134)]; exact ⟨q_146.1, q_146.2.q⟩)
      · intro h_38
        refine jw_aload_n (pc := 41) dX5_readLine_41 rfl ?_
        refine jx_cVv (mi1 := mi_X5_readWall) (pc := 42) rfl dX5_readLine_42 lk_X5_230 rfl fi_X5_readWall rfl rfl rfl (by decide) (is_90 hS) (t_X5_readWall hG h (st 3 h_38).1 hW (fun k hk => by have := wf_w hW hk; omega)) (by first | decide | omega) rfl rfl (by decide) ?_
        intro M_42 q_42
        refine jw_goto (pc := 45) (tgt := 149) dX5_readLine_45 (by decide) ?_
        refine jw_return (pc := 149) dX5_readLine_149 rfl ?_
        refine ⟨rfl, ?_⟩
        unfold lLine
        first
        | (rw [if_pos (st 1 h_6)]; exact ⟨q_10.1, q_10.2⟩)
        | (rw [if_neg (sf 1 h_6), if_pos (st 2 h_22)]; exact ⟨q_26.1, q_26.2⟩)
        | (rw [if_neg (sf 1 h_6), if_neg (sf 2 h_22), if_pos (st 3 h_38)]; exact ⟨q_42.1, q_42.2⟩)
        | (rw [if_neg (sf 1 h_6), if_neg (sf 2 h_22), if_neg (sf 3 h_38), if_pos (st 4 h_54)]; exact ⟨q_58.1, q_58.2⟩)
        | (rw [if_neg (sf 1 h_6), if_neg (sf 2 h_22), if_neg (sf 3 h_38), if_neg (sf 4 h_54), if_pos (st 5 h_70)]; exact ⟨q_74.1, q_74.2⟩)
        | (rw [if_neg (sf 1 h_6), if_neg (sf 2 h_22), if_neg (sf 3 h_38), if_neg (sf 4 h_54), if_neg (sf 5 h_70), if_pos (st 6 h_86)]; exact ⟨q_90.1, q_90.2⟩)
        | (rw [if_neg (sf 1 h_6), if_neg (sf 2 h_22), if_neg (sf 3 h_38), if_neg (sf 4 h_54), if_neg (sf 5 h_70), if_neg (sf 6 h_86), if_pos (st 10 h_102)]; exact ⟨q_106.1, q_106.2⟩)
        | (rw [if_neg (sf 1 h_6), if_neg (sf 2 h_22), if_neg (sf 3 h_38), if_neg (sf 4 h_54), if_neg (sf 5 h_70), if_neg (sf 6 h_86), if_neg (sf 10 h_102), if_pos (st 11 h_118)]; exact ⟨q_122.1, q_122.2⟩)
        | (rw [if_neg (sf 1 h_6), if_neg (sf 2 h_22), if_neg (sf 3 h_38), if_neg (sf 4 h_54), if_neg (sf 5 h_70), if_neg (sf 6 h_86), if_neg (sf 10 h_102), if_neg (sf 11 h_118), if_pos (st 12 h_134)]; exact ⟨q_138.1, q_138.2⟩)
        | (rw [if_neg (sf 1 h_6), if_neg (sf 2 h_22), if_neg (sf 3 h_38), if_neg (sf 4 h_54), if_neg (sf 5 h_70), if_neg (sf 6 h_86), if_neg (sf 10 h_102), if_neg (sf 11 h_118), if_neg (sf 12 h_134)]; exact ⟨q_146.1, q_146.2.q⟩)
    · intro h_22
      refine jw_aload_n (pc := 25) dX5_readLine_25 rfl ?_
      refine jx_cVv (mi1 := mi_X5_readPlace) (pc := 26) rfl dX5_readLine_26 lk_X5_227 rfl fi_X5_readPlace rfl rfl rfl (by decide) (is_90 hS) (t_X5_readPlace hG h (st 2 h_22).1 hW hn13) (by first | decide | omega) rfl rfl (by decide) ?_
      intro M_26 q_26
      refine jw_goto (pc := 29) (tgt := 149) dX5_readLine_29 (by decide) ?_
      refine jw_return (pc := 149) dX5_readLine_149 rfl ?_
      refine ⟨rfl, ?_⟩
      unfold lLine
      first
      | (rw [if_pos (st 1 h_6)]; exact ⟨q_10.1, q_10.2⟩)
      | (rw [if_neg (sf 1 h_6), if_pos (st 2 h_22)]; exact ⟨q_26.1, q_26.2⟩)
      | (rw [if_neg (sf 1 h_6), if_neg (sf 2 h_22), if_pos (st 3 h_38)]; exact ⟨q_42.1, q_42.2⟩)
      | (rw [if_neg (sf 1 h_6), if_neg (sf 2 h_22), if_neg (sf 3 h_38), if_pos (st 4 h_54)]; exact ⟨q_58.1, q_58.2⟩)
      | (rw [if_neg (sf 1 h_6), if_neg (sf 2 h_22), if_neg (sf 3 h_38), if_neg (sf 4 h_54), if_pos (st 5 h_70)]; exact ⟨q_74.1, q_74.2⟩)
      | (rw [if_neg (sf 1 h_6), if_neg (sf 2 h_22), if_neg (sf 3 h_38), if_neg (sf 4 h_54), if_neg (sf 5 h_70), if_pos (st 6 h_86)]; exact ⟨q_90.1, q_90.2⟩)
      | (rw [if_neg (sf 1 h_6), if_neg (sf 2 h_22), if_neg (sf 3 h_38), if_neg (sf 4 h_54), if_neg (sf 5 h_70), if_neg (sf 6 h_86), if_pos (st 10 h_102)]; exact ⟨q_106.1, q_106.2⟩)
      | (rw [if_neg (sf 1 h_6), if_neg (sf 2 h_22), if_neg (sf 3 h_38), if_neg (sf 4 h_54), if_neg (sf 5 h_70), if_neg (sf 6 h_86), if_neg (sf 10 h_102), if_pos (st 11 h_118)]; exact ⟨q_122.1, q_122.2⟩)
      | (rw [if_neg (sf 1 h_6), if_neg (sf 2 h_22), if_neg (sf 3 h_38), if_neg (sf 4 h_54), if_neg (sf 5 h_70), if_neg (sf 6 h_86), if_neg (sf 10 h_102), if_neg (sf 11 h_118), if_pos (st 12 h_134)]; exact ⟨q_138.1, q_138.2⟩)
      | (rw [if_neg (sf 1 h_6), if_neg (sf 2 h_22), if_neg (sf 3 h_38), if_neg (sf 4 h_54), if_neg (sf 5 h_70), if_neg (sf 6 h_86), if_neg (sf 10 h_102), if_neg (sf 11 h_118), if_neg (sf 12 h_134)]; exact ⟨q_146.1, q_146.2.q⟩)
  · intro h_6
    refine jw_aload_n (pc := 9) dX5_readLine_9 rfl ?_
    refine jx_cVv (mi1 := mi_X5_readLaw) (pc := 10) rfl dX5_readLine_10 lk_X5_224 rfl fi_X5_readLaw rfl rfl rfl (by decide) (is_90 hS) (t_X5_readLaw hG h (st 1 h_6).1) (by first | decide | omega) rfl rfl (by decide) ?_
    intro M_10 q_10
    refine jw_goto (pc := 13) (tgt := 149) dX5_readLine_13 (by decide) ?_
    refine jw_return (pc := 149) dX5_readLine_149 rfl ?_
    refine ⟨rfl, ?_⟩
    unfold lLine
    first
    | (rw [if_pos (st 1 h_6)]; exact ⟨q_10.1, q_10.2⟩)
    | (rw [if_neg (sf 1 h_6), if_pos (st 2 h_22)]; exact ⟨q_26.1, q_26.2⟩)
    | (rw [if_neg (sf 1 h_6), if_neg (sf 2 h_22), if_pos (st 3 h_38)]; exact ⟨q_42.1, q_42.2⟩)
    | (rw [if_neg (sf 1 h_6), if_neg (sf 2 h_22), if_neg (sf 3 h_38), if_pos (st 4 h_54)]; exact ⟨q_58.1, q_58.2⟩)
    | (rw [if_neg (sf 1 h_6), if_neg (sf 2 h_22), if_neg (sf 3 h_38), if_neg (sf 4 h_54), if_pos (st 5 h_70)]; exact ⟨q_74.1, q_74.2⟩)
    | (rw [if_neg (sf 1 h_6), if_neg (sf 2 h_22), if_neg (sf 3 h_38), if_neg (sf 4 h_54), if_neg (sf 5 h_70), if_pos (st 6 h_86)]; exact ⟨q_90.1, q_90.2⟩)
    | (rw [if_neg (sf 1 h_6), if_neg (sf 2 h_22), if_neg (sf 3 h_38), if_neg (sf 4 h_54), if_neg (sf 5 h_70), if_neg (sf 6 h_86), if_pos (st 10 h_102)]; exact ⟨q_106.1, q_106.2⟩)
    | (rw [if_neg (sf 1 h_6), if_neg (sf 2 h_22), if_neg (sf 3 h_38), if_neg (sf 4 h_54), if_neg (sf 5 h_70), if_neg (sf 6 h_86), if_neg (sf 10 h_102), if_pos (st 11 h_118)]; exact ⟨q_122.1, q_122.2⟩)
    | (rw [if_neg (sf 1 h_6), if_neg (sf 2 h_22), if_neg (sf 3 h_38), if_neg (sf 4 h_54), if_neg (sf 5 h_70), if_neg (sf 6 h_86), if_neg (sf 10 h_102), if_neg (sf 11 h_118), if_pos (st 12 h_134)]; exact ⟨q_138.1, q_138.2⟩)
    | (rw [if_neg (sf 1 h_6), if_neg (sf 2 h_22), if_neg (sf 3 h_38), if_neg (sf 4 h_54), if_neg (sf 5 h_70), if_neg (sf 6 h_86), if_neg (sf 10 h_102), if_neg (sf 11 h_118), if_neg (sf 12 h_134)]; exact ⟨q_146.1, q_146.2.q⟩)
end JLR
