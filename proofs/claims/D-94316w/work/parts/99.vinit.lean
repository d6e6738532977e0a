/-! ===== the valleys are made ===== -/
/-- an object at w, its first j rows made behind it -/
def mkI (M0 M : Mm) (w c : Nat) (K N R : List Nat) (j : Nat) : Prop := jis M w c ∧ jm_Z M = w + 1 + j ∧ (∀ i, i < j → jm_K M (w + (i + 1)) = K.getD i 0 ∧ jm_N M (w + (i + 1)) = N.getD i 0 ∧ jm_R M w (R.getD i 0) = some (w + (i + 1))) ∧ (∀ k, jm_I M w k = 0) ∧ jsm (fun a => a = w ∨ a = 62) M0 M ∧ jm_S M ≤ jm_S M0 + 16 * j
theorem mkI.s {M0 M : Mm} {w c j : Nat} {K N R : List Nat} (h : mkI M0 M w c K N R j) {t n key : Nat} (hK : K.getD j 0 = 100 + t) (hN : N.getD j 0 = n) (hR : R.getD j 0 = key) (hd : ∀ i, i < j → ¬ R.getD i 0 = key) (hn : n ≤ 16) : mkI M0 (js_R (js_new M (100 + t) n n) w key (some (jm_Z M))) w c K N R (j + 1) := by
  obtain ⟨h1, h2, h3, h4, h5, h6⟩ := h
  have hz := h1.2.1
  refine ⟨⟨?_, ?_, h1.2.2⟩, ?_, fun i hi => ?_, fun k => ?_, ?_, ?_⟩
  · rw [jK_R, jK_n, if_neg (by omega)]; exact h1.1
  · rw [jZ_R, jZ_n]; omega
  · rw [jZ_R, jZ_n]; omega
  · by_cases e : i = j
    · subst e
      refine ⟨?_, ?_, ?_⟩
      · rw [jK_R, jK_n, if_pos (by omega), hK]
      · rw [jN_R, jN_n, if_pos (by omega), hN]
      · rw [jR_R, if_pos ⟨hR, rfl⟩, h2]; congr 1; omega
    · obtain ⟨a1, a2, a3⟩ := h3 i (by omega)
      refine ⟨?_, ?_, ?_⟩
      · rw [jK_R, jK_n, if_neg (by omega)]; exact a1
      · rw [jN_R, jN_n, if_neg (by omega)]; exact a2
      · rw [jR_R, if_neg (fun q => hd i (by omega) q.1), jR_n, if_neg (by omega)]; exact a3
  · rw [jI_R, jI_n, if_neg (by omega)]; exact h4 k
  · exact h5.tr ((jsm.n (Or.inr rfl)).tr (jsm.R (Or.inl rfl)))
  · rw [jS_R, jS_n]; omega
theorem jis.n {M : Mm} {a c k n s : Nat} (h : jis M a c) : jis (js_new M k n s) a c := ⟨by rw [jK_n, if_neg (Nat.ne_of_lt h.2.1)]; exact h.1, by rw [jZ_n]; exact Nat.lt_succ_of_lt h.2.1, h.2.2⟩
section JVI
variable {G : Gh} {M : Mm}
theorem t_X14_init {w : Nat} (h : jis M w 12) (hz : jm_Z M = w + 1) (h0 : ∀ k, jm_I M w k = 0) : jT G mi_X14_init 3 [jr (some w)] M (jPv (fun M' => mkI M M' w 12 wK wN wR 24)) := by
  have i0 : mkI M M w 12 wK wN wR 0 := ⟨h, hz, fun i hi => absurd hi (Nat.not_lt_zero _), h0, jsm.rf, Nat.le_refl _⟩
  refine jT.of (by decide) rfl (Nat.le_of_ble_eq_true rfl) ?_
  refine jw_aload_n (pc := 0) dX14_init_0 rfl ?_
  refine jw_objInit (pc := 1) rfl dX14_init_1 q1564 q183 q184 rfl (by decide) (by decide) ?_
  refine jw_aload_n (pc := 4) dX14_init_4 rfl ?_
  refine jw_bipush (pc := 5) dX14_init_5 bp_10 ?_
  refine jw_newa (pc := 7) (t := 0) (atype := .int) rfl (by decide) q311 dX14_init_7 (rfl) (by decide) ?_
  refine jx_putRF (pc := 9) jf_X14_9_12 rfl rfl dX14_init_9 rfl rfl (pd__I) (Or.inr ⟨_, rfl⟩) (h.n) (by decide) ?_
  have i1 := i0.s (t := 0) (n := 10) (key := 141) rfl rfl rfl (by decide) (by decide)
  generalize js_R (js_new M 100 10 10) w 141 (some (jm_Z M)) = M_1 at i1 ⊢
  clear h
  have h := i1.1
  refine jw_aload_n (pc := 12) dX14_init_12 rfl ?_
  refine jw_bipush (pc := 13) dX14_init_13 bp_10 ?_
  refine jw_newa (pc := 15) (t := 0) (atype := .int) rfl (by decide) q311 dX14_init_15 (rfl) (by decide) ?_
  refine jx_putRF (pc := 17) jf_X14_15_12 rfl rfl dX14_init_17 rfl rfl (pd__I) (Or.inr ⟨_, rfl⟩) (h.n) (by decide) ?_
  have i2 := i1.s (t := 0) (n := 10) (key := 142) rfl rfl rfl (by decide) (by decide)
  generalize js_R (js_new M_1 100 10 10) w 142 (some (jm_Z M_1)) = M_2 at i2 ⊢
  clear h
  have h := i2.1
  refine jw_aload_n (pc := 20) dX14_init_20 rfl ?_
  refine jw_bipush (pc := 21) dX14_init_21 bp_10 ?_
  refine jw_newa (pc := 23) (t := 0) (atype := .int) rfl (by decide) q311 dX14_init_23 (rfl) (by decide) ?_
  refine jx_putRF (pc := 25) jf_X14_18_12 rfl rfl dX14_init_25 rfl rfl (pd__I) (Or.inr ⟨_, rfl⟩) (h.n) (by decide) ?_
  have i3 := i2.s (t := 0) (n := 10) (key := 143) rfl rfl rfl (by decide) (by decide)
  generalize js_R (js_new M_2 100 10 10) w 143 (some (jm_Z M_2)) = M_3 at i3 ⊢
  clear h
  have h := i3.1
  refine jw_aload_n (pc := 28) dX14_init_28 rfl ?_
  refine jw_bipush (pc := 29) dX14_init_29 bp_10 ?_
  refine jw_newa (pc := 31) (t := 0) (atype := .int) rfl (by decide) q311 dX14_init_31 (rfl) (by decide) ?_
  refine jx_putRF (pc := 33) jf_X14_21_12 rfl rfl dX14_init_33 rfl rfl (pd__I) (Or.inr ⟨_, rfl⟩) (h.n) (by decide) ?_
  have i4 := i3.s (t := 0) (n := 10) (key := 144) rfl rfl rfl (by decide) (by decide)
  generalize js_R (js_new M_3 100 10 10) w 144 (some (jm_Z M_3)) = M_4 at i4 ⊢
  clear h
  have h := i4.1
  refine jw_aload_n (pc := 36) dX14_init_36 rfl ?_
  refine jw_bipush (pc := 37) dX14_init_37 bp_16 ?_
  refine jw_newa (pc := 39) (t := 0) (atype := .int) rfl (by decide) q311 dX14_init_39 (rfl) (by decide) ?_
  refine jx_putRF (pc := 41) jf_X14_24_12 rfl rfl dX14_init_41 rfl rfl (pd__I) (Or.inr ⟨_, rfl⟩) (h.n) (by decide) ?_
  have i5 := i4.s (t := 0) (n := 16) (key := 145) rfl rfl rfl (by decide) (by decide)
  generalize js_R (js_new M_4 100 16 16) w 145 (some (jm_Z M_4)) = M_5 at i5 ⊢
  clear h
  have h := i5.1
  refine jw_aload_n (pc := 44) dX14_init_44 rfl ?_
  refine jw_bipush (pc := 45) dX14_init_45 bp_16 ?_
  refine jw_newa (pc := 47) (t := 0) (atype := .int) rfl (by decide) q311 dX14_init_47 (rfl) (by decide) ?_
  refine jx_putRF (pc := 49) jf_X14_27_12 rfl rfl dX14_init_49 rfl rfl (pd__I) (Or.inr ⟨_, rfl⟩) (h.n) (by decide) ?_
  have i6 := i5.s (t := 0) (n := 16) (key := 146) rfl rfl rfl (by decide) (by decide)
  generalize js_R (js_new M_5 100 16 16) w 146 (some (jm_Z M_5)) = M_6 at i6 ⊢
  clear h
  have h := i6.1
  refine jw_aload_n (pc := 52) dX14_init_52 rfl ?_
  refine jw_iconst (pc := 53) dX14_init_53 ic_4 ?_
  refine jw_newa (pc := 54) (t := 0) (atype := .int) rfl (by decide) q311 dX14_init_54 (rfl) (by decide) ?_
  refine jx_putRF (pc := 56) jf_X14_30_12 rfl rfl dX14_init_56 rfl rfl (pd__I) (Or.inr ⟨_, rfl⟩) (h.n) (by decide) ?_
  have i7 := i6.s (t := 0) (n := 4) (key := 147) rfl rfl rfl (by decide) (by decide)
  generalize js_R (js_new M_6 100 4 4) w 147 (some (jm_Z M_6)) = M_7 at i7 ⊢
  clear h
  have h := i7.1
  refine jw_aload_n (pc := 59) dX14_init_59 rfl ?_
  refine jw_iconst (pc := 60) dX14_init_60 ic_5 ?_
  refine jw_newa (pc := 61) (t := 0) (atype := .int) rfl (by decide) q311 dX14_init_61 (rfl) (by decide) ?_
  refine jx_putRF (pc := 63) jf_X14_33_12 rfl rfl dX14_init_63 rfl rfl (pd__I) (Or.inr ⟨_, rfl⟩) (h.n) (by decide) ?_
  have i8 := i7.s (t := 0) (n := 5) (key := 148) rfl rfl rfl (by decide) (by decide)
  generalize js_R (js_new M_7 100 5 5) w 148 (some (jm_Z M_7)) = M_8 at i8 ⊢
  clear h
  have h := i8.1
  refine jw_aload_n (pc := 66) dX14_init_66 rfl ?_
  refine jw_iconst (pc := 67) dX14_init_67 ic_5 ?_
  refine jw_newa (pc := 68) (t := 0) (atype := .int) rfl (by decide) q311 dX14_init_68 (rfl) (by decide) ?_
  refine jx_putRF (pc := 70) jf_X14_36_12 rfl rfl dX14_init_70 rfl rfl (pd__I) (Or.inr ⟨_, rfl⟩) (h.n) (by decide) ?_
  have i9 := i8.s (t := 0) (n := 5) (key := 149) rfl rfl rfl (by decide) (by decide)
  generalize js_R (js_new M_8 100 5 5) w 149 (some (jm_Z M_8)) = M_9 at i9 ⊢
  clear h
  have h := i9.1
  refine jw_aload_n (pc := 73) dX14_init_73 rfl ?_
  refine jw_iconst (pc := 74) dX14_init_74 ic_5 ?_
  refine jw_newa (pc := 75) (t := 0) (atype := .int) rfl (by decide) q311 dX14_init_75 (rfl) (by decide) ?_
  refine jx_putRF (pc := 77) jf_X14_39_12 rfl rfl dX14_init_77 rfl rfl (pd__I) (Or.inr ⟨_, rfl⟩) (h.n) (by decide) ?_
  have i10 := i9.s (t := 0) (n := 5) (key := 150) rfl rfl rfl (by decide) (by decide)
  generalize js_R (js_new M_9 100 5 5) w 150 (some (jm_Z M_9)) = M_10 at i10 ⊢
  clear h
  have h := i10.1
  refine jw_aload_n (pc := 80) dX14_init_80 rfl ?_
  refine jw_iconst (pc := 81) dX14_init_81 ic_5 ?_
  refine jw_newa (pc := 82) (t := 0) (atype := .int) rfl (by decide) q311 dX14_init_82 (rfl) (by decide) ?_
  refine jx_putRF (pc := 84) jf_X14_42_12 rfl rfl dX14_init_84 rfl rfl (pd__I) (Or.inr ⟨_, rfl⟩) (h.n) (by decide) ?_
  have i11 := i10.s (t := 0) (n := 5) (key := 151) rfl rfl rfl (by decide) (by decide)
  generalize js_R (js_new M_10 100 5 5) w 151 (some (jm_Z M_10)) = M_11 at i11 ⊢
  clear h
  have h := i11.1
  refine jw_aload_n (pc := 87) dX14_init_87 rfl ?_
  refine jw_iconst (pc := 88) dX14_init_88 ic_3 ?_
  refine jw_newa (pc := 89) (t := 0) (atype := .int) rfl (by decide) q311 dX14_init_89 (rfl) (by decide) ?_
  refine jx_putRF (pc := 91) jf_X14_45_12 rfl rfl dX14_init_91 rfl rfl (pd__I) (Or.inr ⟨_, rfl⟩) (h.n) (by decide) ?_
  have i12 := i11.s (t := 0) (n := 3) (key := 152) rfl rfl rfl (by decide) (by decide)
  generalize js_R (js_new M_11 100 3 3) w 152 (some (jm_Z M_11)) = M_12 at i12 ⊢
  clear h
  have h := i12.1
  refine jw_aload_n (pc := 94) dX14_init_94 rfl ?_
  refine jw_iconst (pc := 95) dX14_init_95 ic_3 ?_
  refine jw_newa (pc := 96) (t := 0) (atype := .int) rfl (by decide) q311 dX14_init_96 (rfl) (by decide) ?_
  refine jx_putRF (pc := 98) jf_X14_48_12 rfl rfl dX14_init_98 rfl rfl (pd__I) (Or.inr ⟨_, rfl⟩) (h.n) (by decide) ?_
  have i13 := i12.s (t := 0) (n := 3) (key := 153) rfl rfl rfl (by decide) (by decide)
  generalize js_R (js_new M_12 100 3 3) w 153 (some (jm_Z M_12)) = M_13 at i13 ⊢
  clear h
  have h := i13.1
  refine jw_aload_n (pc := 101) dX14_init_101 rfl ?_
  refine jw_iconst (pc := 102) dX14_init_102 ic_5 ?_
  refine jw_newa (pc := 103) (t := 3) (atype := .boolean) rfl (by decide) q401 dX14_init_103 (rfl) (by decide) ?_
  refine jx_putRF (pc := 105) jf_X14_51_12 rfl rfl dX14_init_105 rfl rfl (pd__Z) (Or.inr ⟨_, rfl⟩) (h.n) (by decide) ?_
  have i14 := i13.s (t := 3) (n := 5) (key := 154) rfl rfl rfl (by decide) (by decide)
  generalize js_R (js_new M_13 103 5 5) w 154 (some (jm_Z M_13)) = M_14 at i14 ⊢
  clear h
  have h := i14.1
  refine jw_aload_n (pc := 108) dX14_init_108 rfl ?_
  refine jw_iconst (pc := 109) dX14_init_109 ic_5 ?_
  refine jw_newa (pc := 110) (t := 0) (atype := .int) rfl (by decide) q311 dX14_init_110 (rfl) (by decide) ?_
  refine jx_putRF (pc := 112) jf_X14_55_12 rfl rfl dX14_init_112 rfl rfl (pd__I) (Or.inr ⟨_, rfl⟩) (h.n) (by decide) ?_
  have i15 := i14.s (t := 0) (n := 5) (key := 155) rfl rfl rfl (by decide) (by decide)
  generalize js_R (js_new M_14 100 5 5) w 155 (some (jm_Z M_14)) = M_15 at i15 ⊢
  clear h
  have h := i15.1
  refine jw_aload_n (pc := 115) dX14_init_115 rfl ?_
  refine jw_iconst (pc := 116) dX14_init_116 ic_5 ?_
  refine jw_newa (pc := 117) (t := 0) (atype := .int) rfl (by decide) q311 dX14_init_117 (rfl) (by decide) ?_
  refine jx_putRF (pc := 119) jf_X14_58_12 rfl rfl dX14_init_119 rfl rfl (pd__I) (Or.inr ⟨_, rfl⟩) (h.n) (by decide) ?_
  have i16 := i15.s (t := 0) (n := 5) (key := 156) rfl rfl rfl (by decide) (by decide)
  generalize js_R (js_new M_15 100 5 5) w 156 (some (jm_Z M_15)) = M_16 at i16 ⊢
  clear h
  have h := i16.1
  refine jw_aload_n (pc := 122) dX14_init_122 rfl ?_
  refine jw_iconst (pc := 123) dX14_init_123 ic_5 ?_
  refine jw_newa (pc := 124) (t := 0) (atype := .int) rfl (by decide) q311 dX14_init_124 (rfl) (by decide) ?_
  refine jx_putRF (pc := 126) jf_X14_61_12 rfl rfl dX14_init_126 rfl rfl (pd__I) (Or.inr ⟨_, rfl⟩) (h.n) (by decide) ?_
  have i17 := i16.s (t := 0) (n := 5) (key := 157) rfl rfl rfl (by decide) (by decide)
  generalize js_R (js_new M_16 100 5 5) w 157 (some (jm_Z M_16)) = M_17 at i17 ⊢
  clear h
  have h := i17.1
  refine jw_aload_n (pc := 129) dX14_init_129 rfl ?_
  refine jw_iconst (pc := 130) dX14_init_130 ic_5 ?_
  refine jw_newa (pc := 131) (t := 0) (atype := .int) rfl (by decide) q311 dX14_init_131 (rfl) (by decide) ?_
  refine jx_putRF (pc := 133) jf_X14_64_12 rfl rfl dX14_init_133 rfl rfl (pd__I) (Or.inr ⟨_, rfl⟩) (h.n) (by decide) ?_
  have i18 := i17.s (t := 0) (n := 5) (key := 158) rfl rfl rfl (by decide) (by decide)
  generalize js_R (js_new M_17 100 5 5) w 158 (some (jm_Z M_17)) = M_18 at i18 ⊢
  clear h
  have h := i18.1
  refine jw_aload_n (pc := 136) dX14_init_136 rfl ?_
  refine jw_iconst (pc := 137) dX14_init_137 ic_5 ?_
  refine jw_newa (pc := 138) (t := 0) (atype := .int) rfl (by decide) q311 dX14_init_138 (rfl) (by decide) ?_
  refine jx_putRF (pc := 140) jf_X14_67_12 rfl rfl dX14_init_140 rfl rfl (pd__I) (Or.inr ⟨_, rfl⟩) (h.n) (by decide) ?_
  have i19 := i18.s (t := 0) (n := 5) (key := 159) rfl rfl rfl (by decide) (by decide)
  generalize js_R (js_new M_18 100 5 5) w 159 (some (jm_Z M_18)) = M_19 at i19 ⊢
  clear h
  have h := i19.1
  refine jw_aload_n (pc := 143) dX14_init_143 rfl ?_
  refine jw_iconst (pc := 144) dX14_init_144 ic_4 ?_
  refine jw_newa (pc := 145) (t := 0) (atype := .int) rfl (by decide) q311 dX14_init_145 (rfl) (by decide) ?_
  refine jx_putRF (pc := 147) jf_X14_70_12 rfl rfl dX14_init_147 rfl rfl (pd__I) (Or.inr ⟨_, rfl⟩) (h.n) (by decide) ?_
  have i20 := i19.s (t := 0) (n := 4) (key := 160) rfl rfl rfl (by decide) (by decide)
  generalize js_R (js_new M_19 100 4 4) w 160 (some (jm_Z M_19)) = M_20 at i20 ⊢
  clear h
  have h := i20.1
  refine jw_aload_n (pc := 150) dX14_init_150 rfl ?_
  refine jw_iconst (pc := 151) dX14_init_151 ic_4 ?_
  refine jw_newa (pc := 152) (t := 0) (atype := .int) rfl (by decide) q311 dX14_init_152 (rfl) (by decide) ?_
  refine jx_putRF (pc := 154) jf_X14_73_12 rfl rfl dX14_init_154 rfl rfl (pd__I) (Or.inr ⟨_, rfl⟩) (h.n) (by decide) ?_
  have i21 := i20.s (t := 0) (n := 4) (key := 161) rfl rfl rfl (by decide) (by decide)
  generalize js_R (js_new M_20 100 4 4) w 161 (some (jm_Z M_20)) = M_21 at i21 ⊢
  clear h
  have h := i21.1
  refine jw_aload_n (pc := 157) dX14_init_157 rfl ?_
  refine jw_bipush (pc := 158) dX14_init_158 bp_15 ?_
  refine jw_newa (pc := 160) (t := 4) (atype := .long) rfl (by decide) q1709 dX14_init_160 (rfl) (by decide) ?_
  refine jx_putRF (pc := 162) jf_X14_76_12 rfl rfl dX14_init_162 rfl rfl (pd__J) (Or.inr ⟨_, rfl⟩) (h.n) (by decide) ?_
  have i22 := i21.s (t := 4) (n := 15) (key := 162) rfl rfl rfl (by decide) (by decide)
  generalize js_R (js_new M_21 104 15 15) w 162 (some (jm_Z M_21)) = M_22 at i22 ⊢
  clear h
  have h := i22.1
  refine jw_aload_n (pc := 165) dX14_init_165 rfl ?_
  refine jw_bipush (pc := 166) dX14_init_166 bp_15 ?_
  refine jw_newa (pc := 168) (t := 0) (atype := .int) rfl (by decide) q311 dX14_init_168 (rfl) (by decide) ?_
  refine jx_putRF (pc := 170) jf_X14_80_12 rfl rfl dX14_init_170 rfl rfl (pd__I) (Or.inr ⟨_, rfl⟩) (h.n) (by decide) ?_
  have i23 := i22.s (t := 0) (n := 15) (key := 163) rfl rfl rfl (by decide) (by decide)
  generalize js_R (js_new M_22 100 15 15) w 163 (some (jm_Z M_22)) = M_23 at i23 ⊢
  clear h
  have h := i23.1
  refine jw_aload_n (pc := 173) dX14_init_173 rfl ?_
  refine jw_bipush (pc := 174) dX14_init_174 bp_15 ?_
  refine jw_newa (pc := 176) (t := 0) (atype := .int) rfl (by decide) q311 dX14_init_176 (rfl) (by decide) ?_
  refine jx_putRF (pc := 178) jf_X14_83_12 rfl rfl dX14_init_178 rfl rfl (pd__I) (Or.inr ⟨_, rfl⟩) (h.n) (by decide) ?_
  have i24 := i23.s (t := 0) (n := 15) (key := 164) rfl rfl rfl (by decide) (by decide)
  generalize js_R (js_new M_23 100 15 15) w 164 (some (jm_Z M_23)) = M_24 at i24 ⊢
  clear h
  have h := i24.1
  refine jw_return (pc := 181) dX14_init_181 rfl ?_
  exact ⟨rfl, i24⟩
theorem t_X6_init {w : Nat} (h : jis M w 5) (hz : jm_Z M = w + 1) (h0 : ∀ k, jm_I M w k = 0) : jT G mi_X6_init 3 [jr (some w)] M (jPv (fun M' => mkI M M' w 5 vK vN vR 10)) := by
  have i0 : mkI M M w 5 vK vN vR 0 := ⟨h, hz, fun i hi => absurd hi (Nat.not_lt_zero _), h0, jsm.rf, Nat.le_refl _⟩
  refine jT.of (by decide) rfl (Nat.le_of_ble_eq_true rfl) ?_
  refine jw_aload_n (pc := 0) dX6_init_0 rfl ?_
  refine jw_objInit (pc := 1) rfl dX6_init_1 q435 q183 q184 rfl (by decide) (by decide) ?_
  refine jw_aload_n (pc := 4) dX6_init_4 rfl ?_
  refine jw_bipush (pc := 5) dX6_init_5 bp_10 ?_
  refine jw_anew (pc := 7) (t := 5) rfl (by decide) rfl q436 q437 dX6_init_7 (rfl) (by decide) ?_
  refine jx_putRF (pc := 10) jf_X6_11_5 rfl rfl dX6_init_10 rfl rfl (pd__LNeverUnseen_Place_) (Or.inr ⟨_, rfl⟩) (h.n) (by decide) ?_
  have i1 := i0.s (t := 5) (n := 10) (key := 87) rfl rfl rfl (by decide) (by decide)
  generalize js_R (js_new M 105 10 10) w 87 (some (jm_Z M)) = M_1 at i1 ⊢
  clear h
  have h := i1.1
  refine jw_aload_n (pc := 13) dX6_init_13 rfl ?_
  refine jw_iconst (pc := 14) dX6_init_14 ic_5 ?_
  refine jw_anew (pc := 15) (t := 6) rfl (by decide) rfl q438 q439 dX6_init_15 (rfl) (by decide) ?_
  refine jx_putRF (pc := 18) jf_X6_19_5 rfl rfl dX6_init_18 rfl rfl (pd__LNeverUnseen_Person_) (Or.inr ⟨_, rfl⟩) (h.n) (by decide) ?_
  have i2 := i1.s (t := 6) (n := 5) (key := 88) rfl rfl rfl (by decide) (by decide)
  generalize js_R (js_new M_1 106 5 5) w 88 (some (jm_Z M_1)) = M_2 at i2 ⊢
  clear h
  have h := i2.1
  refine jw_aload_n (pc := 21) dX6_init_21 rfl ?_
  refine jw_iconst (pc := 22) dX6_init_22 ic_5 ?_
  refine jw_anew (pc := 23) (t := 7) rfl (by decide) rfl q440 q441 dX6_init_23 (rfl) (by decide) ?_
  refine jx_putRF (pc := 26) jf_X6_25_5 rfl rfl dX6_init_26 rfl rfl (pd__LNeverUnseen_Errand_) (Or.inr ⟨_, rfl⟩) (h.n) (by decide) ?_
  have i3 := i2.s (t := 7) (n := 5) (key := 89) rfl rfl rfl (by decide) (by decide)
  generalize js_R (js_new M_2 107 5 5) w 89 (some (jm_Z M_2)) = M_3 at i3 ⊢
  clear h
  have h := i3.1
  refine jw_aload_n (pc := 29) dX6_init_29 rfl ?_
  refine jw_bipush (pc := 30) dX6_init_30 bp_10 ?_
  refine jw_newa (pc := 32) (t := 0) (atype := .int) rfl (by decide) q311 dX6_init_32 (rfl) (by decide) ?_
  refine jx_putRF (pc := 34) jf_X6_29_5 rfl rfl dX6_init_34 rfl rfl (pd__I) (Or.inr ⟨_, rfl⟩) (h.n) (by decide) ?_
  have i4 := i3.s (t := 0) (n := 10) (key := 90) rfl rfl rfl (by decide) (by decide)
  generalize js_R (js_new M_3 100 10 10) w 90 (some (jm_Z M_3)) = M_4 at i4 ⊢
  clear h
  have h := i4.1
  refine jw_aload_n (pc := 37) dX6_init_37 rfl ?_
  refine jw_bipush (pc := 38) dX6_init_38 bp_10 ?_
  refine jw_newa (pc := 40) (t := 0) (atype := .int) rfl (by decide) q311 dX6_init_40 (rfl) (by decide) ?_
  refine jx_putRF (pc := 42) jf_X6_33_5 rfl rfl dX6_init_42 rfl rfl (pd__I) (Or.inr ⟨_, rfl⟩) (h.n) (by decide) ?_
  have i5 := i4.s (t := 0) (n := 10) (key := 91) rfl rfl rfl (by decide) (by decide)
  generalize js_R (js_new M_4 100 10 10) w 91 (some (jm_Z M_4)) = M_5 at i5 ⊢
  clear h
  have h := i5.1
  refine jw_aload_n (pc := 45) dX6_init_45 rfl ?_
  refine jw_iconst (pc := 46) dX6_init_46 ic_4 ?_
  refine jw_newa (pc := 47) (t := 0) (atype := .int) rfl (by decide) q311 dX6_init_47 (rfl) (by decide) ?_
  refine jx_putRF (pc := 49) jf_X6_36_5 rfl rfl dX6_init_49 rfl rfl (pd__I) (Or.inr ⟨_, rfl⟩) (h.n) (by decide) ?_
  have i6 := i5.s (t := 0) (n := 4) (key := 92) rfl rfl rfl (by decide) (by decide)
  generalize js_R (js_new M_5 100 4 4) w 92 (some (jm_Z M_5)) = M_6 at i6 ⊢
  clear h
  have h := i6.1
  refine jw_aload_n (pc := 52) dX6_init_52 rfl ?_
  refine jw_iconst (pc := 53) dX6_init_53 ic_3 ?_
  refine jw_newa (pc := 54) (t := 0) (atype := .int) rfl (by decide) q311 dX6_init_54 (rfl) (by decide) ?_
  refine jx_putRF (pc := 56) jf_X6_39_5 rfl rfl dX6_init_56 rfl rfl (pd__I) (Or.inr ⟨_, rfl⟩) (h.n) (by decide) ?_
  have i7 := i6.s (t := 0) (n := 3) (key := 93) rfl rfl rfl (by decide) (by decide)
  generalize js_R (js_new M_6 100 3 3) w 93 (some (jm_Z M_6)) = M_7 at i7 ⊢
  clear h
  have h := i7.1
  refine jw_aload_n (pc := 59) dX6_init_59 rfl ?_
  refine jw_iconst (pc := 60) dX6_init_60 ic_3 ?_
  refine jw_newa (pc := 61) (t := 0) (atype := .int) rfl (by decide) q311 dX6_init_61 (rfl) (by decide) ?_
  refine jx_putRF (pc := 63) jf_X6_42_5 rfl rfl dX6_init_63 rfl rfl (pd__I) (Or.inr ⟨_, rfl⟩) (h.n) (by decide) ?_
  have i8 := i7.s (t := 0) (n := 3) (key := 94) rfl rfl rfl (by decide) (by decide)
  generalize js_R (js_new M_7 100 3 3) w 94 (some (jm_Z M_7)) = M_8 at i8 ⊢
  clear h
  have h := i8.1
  refine jw_aload_n (pc := 66) dX6_init_66 rfl ?_
  refine jw_iconst (pc := 67) dX6_init_67 ic_4 ?_
  refine jw_newa (pc := 68) (t := 0) (atype := .int) rfl (by decide) q311 dX6_init_68 (rfl) (by decide) ?_
  refine jx_putRF (pc := 70) jf_X6_45_5 rfl rfl dX6_init_70 rfl rfl (pd__I) (Or.inr ⟨_, rfl⟩) (h.n) (by decide) ?_
  have i9 := i8.s (t := 0) (n := 4) (key := 95) rfl rfl rfl (by decide) (by decide)
  generalize js_R (js_new M_8 100 4 4) w 95 (some (jm_Z M_8)) = M_9 at i9 ⊢
  clear h
  have h := i9.1
  refine jw_aload_n (pc := 73) dX6_init_73 rfl ?_
  refine jw_iconst (pc := 74) dX6_init_74 ic_4 ?_
  refine jw_newa (pc := 75) (t := 0) (atype := .int) rfl (by decide) q311 dX6_init_75 (rfl) (by decide) ?_
  refine jx_putRF (pc := 77) jf_X6_48_5 rfl rfl dX6_init_77 rfl rfl (pd__I) (Or.inr ⟨_, rfl⟩) (h.n) (by decide) ?_
  have i10 := i9.s (t := 0) (n := 4) (key := 96) rfl rfl rfl (by decide) (by decide)
  generalize js_R (js_new M_9 100 4 4) w 96 (some (jm_Z M_9)) = M_10 at i10 ⊢
  clear h
  have h := i10.1
  refine jw_return (pc := 80) dX6_init_80 rfl ?_
  exact ⟨rfl, i10⟩
end JVI
