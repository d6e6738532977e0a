/-! ===== a sight looks ===== -/
def jSi (M : Mm) (s : Nat) : Prop := jis M s 3 ∧ jm_R M s 47 = some (s + 1) ∧ jm_R M s 48 = some (s + 2) ∧ jok M (s + 1) 0 ∧ jm_N M (s + 1) = 10 ∧ jok M (s + 2) 0 ∧ jm_N M (s + 2) = 10 ∧ s + 2 < 104 ∧ 64 ≤ s
theorem si_69 {M : Mm} (h : jSh M) : jSi M 69 := ⟨is_69 h, sr_69_47 h, sr_69_48 h, ok_70 h, nn_70 h, ok_71 h, nn_71 h, by decide, by decide⟩
theorem si_72 {M : Mm} (h : jSh M) : jSi M 72 := ⟨is_72 h, sr_72_47 h, sr_72_48 h, ok_73 h, nn_73 h, ok_74 h, nn_74 h, by decide, by decide⟩
theorem si_75 {M : Mm} (h : jSh M) : jSi M 75 := ⟨is_75 h, sr_75_47 h, sr_75_48 h, ok_76 h, nn_76 h, ok_77 h, nn_77 h, by decide, by decide⟩
def rowM (V : Vt) (rng op fg a : Nat) : Nat → Nat
  | 0 => plainS V rng op fg a ||| 2 ^ a
  | k + 1 => if (plainS V rng op fg a).testBit (V 6 k) then rowM V rng op fg a k ||| plainS V rng op fg (V 6 k) else rowM V rng op fg a k
theorem plain_lt {V : Vt} (hw : jWf V) (rng op fg a : Nat) : plainS V rng op fg a < 1024 := msk10 (wf_np hw) _
theorem sees_lt {V : Vt} (hw : jWf V) (rng op fg a : Nat) : seesS V rng op fg a < 1024 := msk10 (wf_np hw) _
theorem plain_bit (V : Vt) (rng op fg a b : Nat) : (plainS V rng op fg a).testBit b = (decide (b < V 0 0) && plainB V rng op fg a b) := msk_bit _ _ _
theorem rowM_bit {V : Vt} (hw : jWf V) (rng op fg a : Nat) (k : Nat) (hk : k ≤ V 0 5) (b : Nat) : (rowM V rng op fg a k).testBit b = (decide (a = b) || (decide (b < V 0 0) && (plainB V rng op fg a b || anyB k (fun j => plainB V rng op fg a (V 6 j) && plainB V rng op fg (V 6 j) b)))) := by
  induction k with
  | zero =>
    unfold rowM
    rw [Nat.testBit_or, plain_bit, Nat.testBit_two_pow]
    simp [anyB, Bool.or_comm]
  | succ k ih =>
    have ih := ih (by omega)
    have hm := wf_m hw (show k < V 0 5 by omega)
    unfold rowM
    rw [plain_bit]
    split
    · next q =>
      rw [Nat.testBit_or, ih, plain_bit]
      simp [hm] at q
      simp only [anyB, q]
      cases decide (a = b) <;> cases decide (b < V 0 0) <;> simp [Bool.or_assoc]
    · next q =>
      rw [ih]
      simp [hm] at q
      simp only [anyB, q]
      simp
theorem rowM_end {V : Vt} (hw : jWf V) (rng op fg a : Nat) (ha : a < V 0 0) : rowM V rng op fg a (V 0 5) = seesS V rng op fg a := by
  apply Nat.eq_of_testBit_eq
  intro b
  rw [rowM_bit hw _ _ _ _ _ (Nat.le_refl _)]
  unfold seesS
  rw [msk_bit]
  unfold seesB
  by_cases h : a = b
  · subst h; simp [ha]
  · by_cases hb : b < V 0 0 <;> simp [h, hb]
def lookP (M : Mm) (s : Nat) (V : Vt) (rng op fg a : Nat) : Nat → Int32 := fun i => if i < a then nI (plainS V rng op fg i) else jm_A M (s + 1) i
def lookQ (M : Mm) (s : Nat) (V : Vt) (rng op fg a : Nat) : Nat → Int32 := fun i => if i < a then nI (seesS V rng op fg i) else jm_A M (s + 2) i
def lookM (M : Mm) (s : Nat) (V : Vt) (rng op fg : Nat) : Mm := js_As (js_As M (s + 1) (lookP M s V rng op fg (V 0 0))) (s + 2) (lookQ M s V rng op fg (V 0 0))
section JL
variable {G : Gh} {M : Mm} {v : Nat} {V : Vt}
theorem jVx.As {a : Nat} {g : Nat → Int32} (h : jVx M v V) (ha : a < 104) : jVx (js_As M a g) v V := h.sm (E := fun b => b = a) (jsm.As rfl) (fun b hb q => by omega)
theorem t_X4_look {s rng op fg : Nat} (hs : jSi M s) (hV : jVx M v V) (hw : jWf V) (hr : rng < 2 ^ 30) (ho : op < 2 ^ 31) (hf : fg < 2 ^ 31) : jE G mi_X4_look 3 [jr (some s), jr (some v), .int (nI rng), .int (nI op), .int (nI fg)] M none (lookM M s V rng op fg) := by
  obtain ⟨s1, s2, s3, s4, s5, s6, s7, s8, s9⟩ := hs
  have hn := wf_np hw
  have hmn := wf_nm hw
  have hv0 := hV.1
  refine jE.of (by decide) rfl (Nat.le_of_ble_eq_true rfl) ?_
  have K0 : ∀ a : Nat, a ≤ V 0 0 → jW G mi_X4_look 3 M 128 [some (jr (some s)), some (jr (some v)), some (.int (nI rng)), some (.int (nI op)), some (.int (nI fg)), some (.int (nI a)), none, none] [] (js_As (js_As M (s + 1) (lookP M s V rng op fg (V 0 0))) (s + 2) (lookQ M s V rng op fg a)) (fun r M' => r = .inl none ∧ M' = lookM M s V rng op fg) := by
    refine jW.loop _ (fun a => V 0 0 - a) _ (fun _ => []) (fun a => js_As (js_As M (s + 1) (lookP M s V rng op fg (V 0 0))) (s + 2) (lookQ M s V rng op fg a)) (fun a ha ih => ?_)
    have hV2 := (hV.As (a := s + 1) (g := lookP M s V rng op fg (V 0 0)) (by omega)).As (a := s + 2) (g := lookQ M s V rng op fg a) (by omega)
    have hv := hV2.1
    by_cases han : a < V 0 0
    · have rp : ∀ i (gg : Nat → Int32), i < V 0 0 → jm_A (js_As (js_As M (s + 1) (lookP M s V rng op fg (V 0 0))) (s + 2) gg) (s + 1) i = nI (plainS V rng op fg i) := fun i gg hi => by
        rw [jA_rn (by omega), jA_rd]; unfold lookP; rw [if_pos hi]
      have L : ∀ k : Nat, k ≤ V 0 5 → jW G mi_X4_look 3 M 159 [some (jr (some s)), some (jr (some v)), some (.int (nI rng)), some (.int (nI op)), some (.int (nI fg)), some (.int (nI a)), some (.int (nI k)), none] [] (js_As (js_As M (s + 1) (lookP M s V rng op fg (V 0 0))) (s + 2) (fun i => if i = a then nI (rowM V rng op fg a k) else lookQ M s V rng op fg a i)) (fun r M' => r = .inl none ∧ M' = lookM M s V rng op fg) := by
        refine jW.loop _ (fun k => V 0 5 - k) _ (fun _ => []) (fun k => js_As (js_As M (s + 1) (lookP M s V rng op fg (V 0 0))) (s + 2) (fun i => if i = a then nI (rowM V rng op fg a k) else lookQ M s V rng op fg a i)) (fun k hk ihk => ?_)
        have hV3 := (hV.As (a := s + 1) (g := lookP M s V rng op fg (V 0 0)) (by omega)).As (a := s + 2) (g := fun i => if i = a then nI (rowM V rng op fg a k) else lookQ M s V rng op fg a i) (by omega)
        have hv := hV3.1
        by_cases hkn : k < V 0 5
        · have hm := wf_m hw hkn
          have hx := hV3.2.2.1.2.1 k hkn
          have hp := plain_lt hw rng op fg a
          have hmn := wf_nm hw
          refine jw_iload (pc := 159) dX4_look_159 rfl ?_
          refine jw_aload_n (pc := 161) dX4_look_161 rfl ?_
          refine jx_getIs (pc := 162) (jf_X4_36_5.r) rfl dX4_look_162 rfl (vis hv) (by decide) (xi_nm hV3) ?_
          first | refine jx_icmp_ge (pc := 165) (tgt := 216) dX4_look_165 (by decide) (by omega) (by omega) ?_ ?_ | refine jw_icmp_ge (pc := 165) (tgt := 216) dX4_look_165 (by decide) ?_ ?_
          · intro h_165
            omega
          · intro h_165
            refine jw_aload_n (pc := 168) dX4_look_168 rfl ?_
            refine jx_getRs (pc := 169) (jf_X4_9_3.r) rfl dX4_look_169 rfl (s1) (by decide) (s2) ?_
            refine jw_iload (pc := 172) dX4_look_172 rfl ?_
            refine jx_ialds (pc := 174) dX4_look_174 (s4) (s5) rfl (by omega) (rp _ _ han) ?_
            refine jw_aload_n (pc := 175) dX4_look_175 rfl ?_
            refine jx_getRs (pc := 176) jg_X4_39_5 rfl dX4_look_176 rfl (vis hv) (by decide) (vr_6 hv) ?_
            refine jw_iload (pc := 179) dX4_look_179 rfl ?_
            refine jx_ialds (pc := 181) dX4_look_181 (vok_6 hv) (vnn_6 hv) rfl (by omega) (hx) ?_
            refine jx_cSNE (mi1 := mi_X1_lies) (pc := 182) rfl dX4_look_182 q960 q152 q838 q839 rfl fi_X1_lies (t_X1_lies (by omega) (by omega)) (by first | decide | omega) rfl rfl (by decide) ?_
            first | refine jx_ifb_eq (pc := 185) (tgt := 210) dX4_look_185 (by decide) ?_ ?_ | refine jx_if_eq (pc := 185) (tgt := 210) dX4_look_185 (by decide) (by omega) ?_ ?_ | refine jw_if_eq (pc := 185) (tgt := 210) dX4_look_185 (by decide) ?_ ?_
            · intro h_185
              first | refine jx_iinc (pc := 210) dX4_look_210 rfl rfl ?_ | refine jw_iinc (pc := 210) dX4_look_210 rfl rfl rfl ?_
              try dsimp only [jput1, jkill, jclr, jis2, cond]
              refine jw_goto (pc := 213) (tgt := 159) dX4_look_213 (by decide) ?_
              refine jW.eq rfl rfl ?_ (jW.sub (by simp [jsub]) (ihk (k + 1) hkn (by omega)))
              first
                | (rw [jAs_A]; refine jAs_cg (fun i => ?_); by_cases hi : i = a <;> simp [hi, rowM, h_185])
                | (refine jAs_cg (fun i => ?_); simp [rowM, h_185])
            · intro h_185
              refine jw_aload_n (pc := 188) dX4_look_188 rfl ?_
              refine jx_getRs (pc := 189) (jf_X4_15_3.r) rfl dX4_look_189 rfl (s1) (by decide) (s3) ?_
              refine jw_iload (pc := 192) dX4_look_192 rfl ?_
              refine jw_dup2 (pc := 194) dX4_look_194 (rfl) (jis2_r _) ?_
              refine jx_ialds (pc := 195) dX4_look_195 (s6) (s7) rfl (by omega) (by rw [jA_rd, if_pos rfl]) ?_
              refine jw_aload_n (pc := 196) dX4_look_196 rfl ?_
              refine jx_getRs (pc := 197) (jf_X4_9_3.r) rfl dX4_look_197 rfl (s1) (by decide) (s2) ?_
              refine jw_aload_n (pc := 200) dX4_look_200 rfl ?_
              refine jx_getRs (pc := 201) jg_X4_39_5 rfl dX4_look_201 rfl (vis hv) (by decide) (vr_6 hv) ?_
              refine jw_iload (pc := 204) dX4_look_204 rfl ?_
              refine jx_ialds (pc := 206) dX4_look_206 (vok_6 hv) (vnn_6 hv) rfl (by omega) (hx) ?_
              refine jx_ialds (pc := 207) dX4_look_207 (s4) (s5) rfl (by omega) (rp _ _ hm) ?_
              refine jw_ior (pc := 208) dX4_look_208 ?_
              rw [nI_or']
              refine jx_iast (pc := 209) dX4_look_209 (by omega) (s6) (s7) rfl (by omega) ?_
              first | refine jx_iinc (pc := 210) dX4_look_210 rfl rfl ?_ | refine jw_iinc (pc := 210) dX4_look_210 rfl rfl rfl ?_
              try dsimp only [jput1, jkill, jclr, jis2, cond]
              refine jw_goto (pc := 213) (tgt := 159) dX4_look_213 (by decide) ?_
              refine jW.eq rfl rfl ?_ (jW.sub (by simp [jsub]) (ihk (k + 1) hkn (by omega)))
              first
                | (rw [jAs_A]; refine jAs_cg (fun i => ?_); by_cases hi : i = a <;> simp [hi, rowM, h_185])
                | (refine jAs_cg (fun i => ?_); simp [rowM, h_185])
        · have hk' : k = V 0 5 := by omega
          subst hk'
          refine jw_iload (pc := 159) dX4_look_159 rfl ?_
          refine jw_aload_n (pc := 161) dX4_look_161 rfl ?_
          refine jx_getIs (pc := 162) (jf_X4_36_5.r) rfl dX4_look_162 rfl (vis hv) (by decide) (xi_nm hV3) ?_
          first | refine jx_icmp_ge (pc := 165) (tgt := 216) dX4_look_165 (by decide) (by omega) (by omega) ?_ ?_ | refine jw_icmp_ge (pc := 165) (tgt := 216) dX4_look_165 (by decide) ?_ ?_
          · intro h_165
            first | refine jx_iinc (pc := 216) dX4_look_216 rfl rfl ?_ | refine jw_iinc (pc := 216) dX4_look_216 rfl rfl rfl ?_
            try dsimp only [jput1, jkill, jclr, jis2, cond]
            refine jw_goto (pc := 219) (tgt := 128) dX4_look_219 (by decide) ?_
            refine jW.eq rfl rfl ?_ (jW.sub (by simp [jsub]) (ih (a + 1) han (by omega)))
            refine jAs_cg (fun i => ?_)
            unfold lookQ
            by_cases hi : i = a
            · subst hi; simp [rowM_end hw _ _ _ _ han]
            · by_cases h2 : i < a
              · simp [hi, h2, show i < a + 1 by omega]
              · simp [hi, h2, show ¬ i < a + 1 by omega]
          · intro h_165
            omega
      have hp := plain_lt hw rng op fg a
      refine jw_iload (pc := 128) dX4_look_128 rfl ?_
      refine jw_aload_n (pc := 130) dX4_look_130 rfl ?_
      refine jx_getIs (pc := 131) (jf_X4_18_5.r) rfl dX4_look_131 rfl (vis hv) (by decide) (xi_np hV2) ?_
      first | refine jx_icmp_ge (pc := 134) (tgt := 222) dX4_look_134 (by decide) (by omega) (by omega) ?_ ?_ | refine jw_icmp_ge (pc := 134) (tgt := 222) dX4_look_134 (by decide) ?_ ?_
      · intro h_134
        omega
      · intro h_134
        refine jw_aload_n (pc := 137) dX4_look_137 rfl ?_
        refine jx_getRs (pc := 138) (jf_X4_15_3.r) rfl dX4_look_138 rfl (s1) (by decide) (s3) ?_
        refine jw_iload (pc := 141) dX4_look_141 rfl ?_
        refine jw_aload_n (pc := 143) dX4_look_143 rfl ?_
        refine jx_getRs (pc := 144) (jf_X4_9_3.r) rfl dX4_look_144 rfl (s1) (by decide) (s2) ?_
        refine jw_iload (pc := 147) dX4_look_147 rfl ?_
        refine jx_ialds (pc := 149) dX4_look_149 (s4) (s5) rfl (by omega) (rp _ _ han) ?_
        refine jw_iconst (pc := 150) dX4_look_150 ic_1 ?_
        refine jw_iload (pc := 151) dX4_look_151 rfl ?_
        refine jw_ishl (pc := 153) dX4_look_153 ?_
        rw [shl1 (by omega)]
        refine jw_ior (pc := 154) dX4_look_154 ?_
        rw [nI_or']
        refine jx_iast (pc := 155) dX4_look_155 (by omega) (s6) (s7) rfl (by omega) ?_
        refine jw_iconst (pc := 156) dX4_look_156 ic_0 ?_
        refine jw_istore (pc := 157) dX4_look_157 (Nat.le_of_ble_eq_true rfl) rfl ?_
        try dsimp only [jput1, jput2, jkill, jclr, jis2, cond]
        refine jW.eq rfl rfl ?_ (jW.sub (by simp [jsub]) (L 0 (Nat.zero_le _)))
        rw [jAs_A]
        rfl
    · have hk' : a = V 0 0 := by omega
      subst hk'
      refine jw_iload (pc := 128) dX4_look_128 rfl ?_
      refine jw_aload_n (pc := 130) dX4_look_130 rfl ?_
      refine jx_getIs (pc := 131) (jf_X4_18_5.r) rfl dX4_look_131 rfl (vis hv) (by decide) (xi_np hV2) ?_
      first | refine jx_icmp_ge (pc := 134) (tgt := 222) dX4_look_134 (by decide) (by omega) (by omega) ?_ ?_ | refine jw_icmp_ge (pc := 134) (tgt := 222) dX4_look_134 (by decide) ?_ ?_
      · intro h_134
        refine jw_return (pc := 222) dX4_look_222 rfl ?_
        exact ⟨rfl, rfl⟩
      · intro h_134
        omega
  have J0 : ∀ a : Nat, a ≤ V 0 0 → jW G mi_X4_look 3 M 3 [some (jr (some s)), some (jr (some v)), some (.int (nI rng)), some (.int (nI op)), some (.int (nI fg)), some (.int (nI a)), none, none] [] (js_As M (s + 1) (lookP M s V rng op fg a)) (fun r M' => r = .inl none ∧ M' = lookM M s V rng op fg) := by
    refine jW.loop _ (fun a => V 0 0 - a) _ (fun _ => []) (fun a => js_As M (s + 1) (lookP M s V rng op fg a)) (fun a ha ih => ?_)
    have hV2 := (hV.As (a := s + 1) (g := lookP M s V rng op fg a) (by omega))
    have hv := hV2.1
    by_cases han : a < V 0 0
    · have L : ∀ b : Nat, b ≤ V 0 0 → jW G mi_X4_look 3 M 23 [some (jr (some s)), some (jr (some v)), some (.int (nI rng)), some (.int (nI op)), some (.int (nI fg)), some (.int (nI a)), some (.int (nI b)), none] [] (js_As M (s + 1) (fun i => if i = a then nI (msk b (plainB V rng op fg a)) else lookP M s V rng op fg a i)) (fun r M' => r = .inl none ∧ M' = lookM M s V rng op fg) := by
        refine jW.loop _ (fun b => V 0 0 - b) _ (fun _ => []) (fun b => js_As M (s + 1) (fun i => if i = a then nI (msk b (plainB V rng op fg a)) else lookP M s V rng op fg a i)) (fun b hb ihb => ?_)
        have hV3 := (hV.As (a := s + 1) (g := fun i => if i = a then nI (msk b (plainB V rng op fg a)) else lookP M s V rng op fg a i) (by omega))
        have hv := hV3.1
        by_cases hbn : b < V 0 0
        · have J88 : jW G mi_X4_look 3 M 88 [some (jr (some s)), some (jr (some v)), some (.int (nI rng)), some (.int (nI op)), some (.int (nI fg)), some (.int (nI a)), some (.int (nI b)), none] [.int (jb (plainB V rng op fg a b))] (js_As M (s + 1) (fun i => if i = a then nI (msk b (plainB V rng op fg a)) else lookP M s V rng op fg a i)) (fun r M' => r = .inl none ∧ M' = lookM M s V rng op fg) := by
            refine jw_istore (pc := 88) dX4_look_88 (Nat.le_of_ble_eq_true rfl) rfl ?_
            try dsimp only [jput1, jput2, jkill, jclr, jis2, cond]
            refine jw_aload_n (pc := 90) dX4_look_90 rfl ?_
            refine jx_getRs (pc := 91) (jf_X4_9_3.r) rfl dX4_look_91 rfl (s1) (by decide) (s2) ?_
            refine jw_iload (pc := 94) dX4_look_94 rfl ?_
            refine jw_dup2 (pc := 96) dX4_look_96 (rfl) (jis2_r _) ?_
            refine jx_ialds (pc := 97) dX4_look_97 (s4) (s5) rfl (by omega) (by rw [jA_rd, if_pos rfl]) ?_
            refine jw_iload (pc := 98) dX4_look_98 rfl ?_
            first | refine jx_ifb_eq (pc := 100) (tgt := 110) dX4_look_100 (by decide) ?_ ?_ | refine jx_if_eq (pc := 100) (tgt := 110) dX4_look_100 (by decide) (by omega) ?_ ?_ | refine jw_if_eq (pc := 100) (tgt := 110) dX4_look_100 (by decide) ?_ ?_
            · intro h_100
              refine jw_iconst (pc := 110) dX4_look_110 ic_0 ?_
              refine jw_ior (pc := 111) dX4_look_111 ?_
              rw [nI_or']
              refine jx_iast (pc := 112) dX4_look_112 (by omega) (s4) (s5) rfl (by omega) ?_
              first | refine jx_iinc (pc := 113) dX4_look_113 rfl rfl ?_ | refine jw_iinc (pc := 113) dX4_look_113 rfl rfl rfl ?_
              try dsimp only [jput1, jkill, jclr, jis2, cond]
              refine jw_goto (pc := 116) (tgt := 23) dX4_look_116 (by decide) ?_
              refine jW.eq rfl rfl ?_ (jW.sub (by simp [jsub]) (ihb (b + 1) hbn (by omega)))
              rw [jAs_A]
              refine jAs_cg (fun i => ?_)
              by_cases hi : i = a
              · simp [hi, msk_s, h_100]
              · simp [hi]
            · intro h_100
              refine jw_iconst (pc := 103) dX4_look_103 ic_1 ?_
              refine jw_iload (pc := 104) dX4_look_104 rfl ?_
              refine jw_ishl (pc := 106) dX4_look_106 ?_
              rw [shl1 (by omega)]
              refine jw_goto (pc := 107) (tgt := 111) dX4_look_107 (by decide) ?_
              refine jw_ior (pc := 111) dX4_look_111 ?_
              rw [nI_or']
              refine jx_iast (pc := 112) dX4_look_112 (by omega) (s4) (s5) rfl (by omega) ?_
              first | refine jx_iinc (pc := 113) dX4_look_113 rfl rfl ?_ | refine jw_iinc (pc := 113) dX4_look_113 rfl rfl rfl ?_
              try dsimp only [jput1, jkill, jclr, jis2, cond]
              refine jw_goto (pc := 116) (tgt := 23) dX4_look_116 (by decide) ?_
              refine jW.eq rfl rfl ?_ (jW.sub (by simp [jsub]) (ihb (b + 1) hbn (by omega)))
              rw [jAs_A]
              refine jAs_cg (fun i => ?_)
              by_cases hi : i = a
              · simp [hi, msk_s, h_100]
              · simp [hi]
          have hdx : distV V a b < 2 ^ 31 := by
            obtain ⟨x1, x2, -⟩ := wf_pl hw han
            obtain ⟨y1, y2, -⟩ := wf_pl hw hbn
            unfold distV
            have := adist_le x1 y1
            have := adist_le x2 y2
            exact Nat.max_lt.mpr ⟨by omega, by omega⟩
          refine jw_iload (pc := 23) dX4_look_23 rfl ?_
          refine jw_aload_n (pc := 25) dX4_look_25 rfl ?_
          refine jx_getIs (pc := 26) (jf_X4_18_5.r) rfl dX4_look_26 rfl (vis hv) (by decide) (xi_np hV3) ?_
          first | refine jx_icmp_ge (pc := 29) (tgt := 119) dX4_look_29 (by decide) (by omega) (by omega) ?_ ?_ | refine jw_icmp_ge (pc := 29) (tgt := 119) dX4_look_29 (by decide) ?_ ?_
          · intro h_29
            omega
          · intro h_29
            refine jw_iload (pc := 32) dX4_look_32 rfl ?_
            refine jw_iload (pc := 34) dX4_look_34 rfl ?_
            first | refine jx_icmp_eq (pc := 36) (tgt := 87) dX4_look_36 (by decide) (by omega) (by omega) ?_ ?_ | refine jw_icmp_eq (pc := 36) (tgt := 87) dX4_look_36 (by decide) ?_ ?_
            · intro h_36
              refine jw_iconst (pc := 87) dX4_look_87 ic_0 ?_
              refine jw_ff ?_ (jW.sub (by simp [jsub]) J88); first | (simp_all [plainB]; done) | (simp_all [plainB]; omega)
            · intro h_36
              refine jw_iload (pc := 39) dX4_look_39 rfl ?_
              refine jw_iload (pc := 41) dX4_look_41 rfl ?_
              refine jx_cSNE (mi1 := mi_X1_lies) (pc := 43) rfl dX4_look_43 q960 q152 q838 q839 rfl fi_X1_lies (t_X1_lies hf (by omega)) (by first | decide | omega) rfl rfl (by decide) ?_
              first | refine jx_ifb_ne (pc := 46) (tgt := 87) dX4_look_46 (by decide) ?_ ?_ | refine jx_if_ne (pc := 46) (tgt := 87) dX4_look_46 (by decide) (by omega) ?_ ?_ | refine jw_if_ne (pc := 46) (tgt := 87) dX4_look_46 (by decide) ?_ ?_
              · intro h_46
                refine jw_iconst (pc := 87) dX4_look_87 ic_0 ?_
                refine jw_ff ?_ (jW.sub (by simp [jsub]) J88); first | (simp_all [plainB]; done) | (simp_all [plainB]; omega)
              · intro h_46
                refine jw_iload (pc := 49) dX4_look_49 rfl ?_
                refine jw_iload (pc := 51) dX4_look_51 rfl ?_
                refine jx_cSNE (mi1 := mi_X1_lies) (pc := 53) rfl dX4_look_53 q960 q152 q838 q839 rfl fi_X1_lies (t_X1_lies hf (by omega)) (by first | decide | omega) rfl rfl (by decide) ?_
                first | refine jx_ifb_ne (pc := 56) (tgt := 87) dX4_look_56 (by decide) ?_ ?_ | refine jx_if_ne (pc := 56) (tgt := 87) dX4_look_56 (by decide) (by omega) ?_ ?_ | refine jw_if_ne (pc := 56) (tgt := 87) dX4_look_56 (by decide) ?_ ?_
                · intro h_56
                  refine jw_iconst (pc := 87) dX4_look_87 ic_0 ?_
                  refine jw_ff ?_ (jW.sub (by simp [jsub]) J88); first | (simp_all [plainB]; done) | (simp_all [plainB]; omega)
                · intro h_56
                  refine jw_aload_n (pc := 59) dX4_look_59 rfl ?_
                  refine jw_iload (pc := 60) dX4_look_60 rfl ?_
                  refine jw_iload (pc := 62) dX4_look_62 rfl ?_
                  refine jx_cVE (mi1 := mi_X6_far) (pc := 64) rfl dX4_look_64 lk_X4_28 rfl fi_X6_far rfl rfl rfl (by decide) (vis hv) (t_X6_far hV3 hw han hbn) (by first | decide | omega) rfl rfl (by decide) ?_
                  refine jw_iload_n (pc := 67) dX4_look_67 rfl ?_
                  first | refine jx_icmp_gt (pc := 68) (tgt := 87) dX4_look_68 (by decide) (by omega) (by omega) ?_ ?_ | refine jw_icmp_gt (pc := 68) (tgt := 87) dX4_look_68 (by decide) ?_ ?_
                  · intro h_68
                    refine jw_iconst (pc := 87) dX4_look_87 ic_0 ?_
                    refine jw_ff ?_ (jW.sub (by simp [jsub]) J88); first | (simp_all [plainB]; done) | (simp_all [plainB]; omega)
                  · intro h_68
                    refine jw_aload_n (pc := 71) dX4_look_71 rfl ?_
                    refine jw_iload (pc := 72) dX4_look_72 rfl ?_
                    refine jw_iload (pc := 74) dX4_look_74 rfl ?_
                    refine jw_iload_n (pc := 76) dX4_look_76 rfl ?_
                    refine jx_cVE (mi1 := mi_X6_isWalled) (pc := 77) rfl dX4_look_77 lk_X4_32 rfl fi_X6_isWalled rfl rfl rfl (by decide) (vis hv) (t_X6_isWalled hV3 hw ho han hbn) (by first | decide | omega) rfl rfl (by decide) ?_
                    first | refine jx_ifb_ne (pc := 80) (tgt := 87) dX4_look_80 (by decide) ?_ ?_ | refine jx_if_ne (pc := 80) (tgt := 87) dX4_look_80 (by decide) (by omega) ?_ ?_ | refine jw_if_ne (pc := 80) (tgt := 87) dX4_look_80 (by decide) ?_ ?_
                    · intro h_80
                      refine jw_iconst (pc := 87) dX4_look_87 ic_0 ?_
                      refine jw_ff ?_ (jW.sub (by simp [jsub]) J88); first | (simp_all [plainB]; done) | (simp_all [plainB]; omega)
                    · intro h_80
                      refine jw_iconst (pc := 83) dX4_look_83 ic_1 ?_
                      refine jw_goto (pc := 84) (tgt := 88) dX4_look_84 (by decide) ?_
                      refine jw_tt ?_ (jW.sub (by simp [jsub]) J88); simp_all [plainB]
        · have hk' : b = V 0 0 := by omega
          subst hk'
          refine jw_iload (pc := 23) dX4_look_23 rfl ?_
          refine jw_aload_n (pc := 25) dX4_look_25 rfl ?_
          refine jx_getIs (pc := 26) (jf_X4_18_5.r) rfl dX4_look_26 rfl (vis hv) (by decide) (xi_np hV3) ?_
          first | refine jx_icmp_ge (pc := 29) (tgt := 119) dX4_look_29 (by decide) (by omega) (by omega) ?_ ?_ | refine jw_icmp_ge (pc := 29) (tgt := 119) dX4_look_29 (by decide) ?_ ?_
          · intro h_29
            first | refine jx_iinc (pc := 119) dX4_look_119 rfl rfl ?_ | refine jw_iinc (pc := 119) dX4_look_119 rfl rfl rfl ?_
            try dsimp only [jput1, jkill, jclr, jis2, cond]
            refine jw_goto (pc := 122) (tgt := 3) dX4_look_122 (by decide) ?_
            refine jW.eq rfl rfl ?_ (jW.sub (by simp [jsub]) (ih (a + 1) han (by omega)))
            refine jAs_cg (fun i => ?_)
            unfold lookP
            by_cases hi : i = a
            · subst hi; simp [plainS]
            · by_cases h2 : i < a
              · simp [hi, h2, show i < a + 1 by omega]
              · simp [hi, h2, show ¬ i < a + 1 by omega]
          · intro h_29
            omega
      refine jw_iload (pc := 3) dX4_look_3 rfl ?_
      refine jw_aload_n (pc := 5) dX4_look_5 rfl ?_
      refine jx_getIs (pc := 6) (jf_X4_18_5.r) rfl dX4_look_6 rfl (vis hv) (by decide) (xi_np hV2) ?_
      first | refine jx_icmp_ge (pc := 9) (tgt := 125) dX4_look_9 (by decide) (by omega) (by omega) ?_ ?_ | refine jw_icmp_ge (pc := 9) (tgt := 125) dX4_look_9 (by decide) ?_ ?_
      · intro h_9
        omega
      · intro h_9
        refine jw_aload_n (pc := 12) dX4_look_12 rfl ?_
        refine jx_getRs (pc := 13) (jf_X4_9_3.r) rfl dX4_look_13 rfl (s1) (by decide) (s2) ?_
        refine jw_iload (pc := 16) dX4_look_16 rfl ?_
        refine jw_iconst (pc := 18) dX4_look_18 ic_0 ?_
        refine jx_iast (pc := 19) dX4_look_19 (by omega) (s4) (s5) rfl (by omega) ?_
        refine jw_iconst (pc := 20) dX4_look_20 ic_0 ?_
        refine jw_istore (pc := 21) dX4_look_21 (Nat.le_of_ble_eq_true rfl) rfl ?_
        try dsimp only [jput1, jput2, jkill, jclr, jis2, cond]
        refine jW.eq rfl rfl ?_ (jW.sub (by simp [jsub]) (L 0 (Nat.zero_le _)))
        rw [jAs_A]; rfl
    · have hk' : a = V 0 0 := by omega
      subst hk'
      refine jw_iload (pc := 3) dX4_look_3 rfl ?_
      refine jw_aload_n (pc := 5) dX4_look_5 rfl ?_
      refine jx_getIs (pc := 6) (jf_X4_18_5.r) rfl dX4_look_6 rfl (vis hv) (by decide) (xi_np hV2) ?_
      first | refine jx_icmp_ge (pc := 9) (tgt := 125) dX4_look_9 (by decide) (by omega) (by omega) ?_ ?_ | refine jw_icmp_ge (pc := 9) (tgt := 125) dX4_look_9 (by decide) ?_ ?_
      · intro h_9
        refine jw_iconst (pc := 125) dX4_look_125 ic_0 ?_
        refine jw_istore (pc := 126) dX4_look_126 (Nat.le_of_ble_eq_true rfl) rfl ?_
        try dsimp only [jput1, jput2, jkill, jclr, jis2, cond]
        refine jW.eq rfl rfl ?_ (jW.sub (by simp [jsub]) (K0 0 (Nat.zero_le _)))
        exact jAs_0 (fun i => by unfold lookQ; rw [if_neg (by omega), jA_rn (by omega)])
      · intro h_9
        omega
  refine jw_iconst (pc := 0) dX4_look_0 ic_0 ?_
  refine jw_istore (pc := 1) dX4_look_1 (Nat.le_of_ble_eq_true rfl) rfl ?_
  try dsimp only [jput1, jput2, jkill, jclr, jis2, cond]
  refine jW.eq rfl rfl ?_ (J0 0 (Nat.zero_le _))
  exact jAs_0 (fun i => by unfold lookP; rw [if_neg (by omega)])
end JL
