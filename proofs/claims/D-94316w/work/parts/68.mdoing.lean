/-! ===== m: doing ===== -/
def stayC (V : Vt) (τ : Sg) (people t c n : Nat) : Bool := allB n (fun j => lawC V τ people (t + (j + 1)) c)
def doC (V : Vt) (τ : Sg) (people e i c : Nat) : Bool := canC V τ people i c && decide (dig 10 (cnt people) c (cntN people (V 16 e)) = V 17 e) && stayC V τ people (sn τ 0 + i) c (V 20 e - 1)
theorem doC_any {V : Vt} {τ : Sg} {people e i : Nat} (hw : jWf V) (hp : people < 2 ^ V 0 1) (h0 : 0 < V 0 0) (ho : ∀ p, p < V 0 1 → sa τ 0 p < V 0 0) (he : V 16 e < V 0 1) (hb : people.testBit (V 16 e) = true) : anyB (10 ^ cnt people) (doC V τ people e i) = anyB (V 0 0 ^ cnt people) (doOk V τ people e i) := by
  rw [any_phi h0 (wf_np hw) (fun a ha q => by unfold doC at q; rw [Bool.and_eq_true, Bool.and_eq_true] at q; exact canC_v hw hp ho q.1.1)]
  refine anyB_congr (fun s hs => ?_)
  unfold doC doOk
  rw [canC_phi hw hp h0 ho _ _ hs, dig_phi h0 (wf_np hw) (cntN_bit (mv_n hw hp) (wf_nq hw) hp he hb)]
  congr 1
  · congr 1
    unfold plS; rw [if_pos ⟨he, hb⟩]
  · unfold stayC stayB
    exact allB_congr (fun j hj => lawC_phi hw hp h0 _ _)
section JMD
variable {G : Gh} {M : Mm} {σ τ : Sg} {w people : Nat} {V : Vt}
theorem t_X5_stays {c i m : Nat} (h : jMk M w V τ people) (hc : c < 2 ^ 30) (hv : valB (V 0 0) (cnt people) c = true) (hi : i < 1000) (hm : m < 1000) : jT G mi_X5_stays 7 [jr (some 90), .int (nI c), .int (nI i), .int (nI (i + m))] M (jPi (fun r M' => r = jb (stayC V τ people (sn τ 0 + i) c m) ∧ jsm (fun a => a = 93) M M' ∧ jSh M')) := by
  have hS := h.1.1
  have hst := h.2.1.2.2.2.2
  refine jT.of (by decide) rfl (Nat.le_of_ble_eq_true rfl) ?_
  have J : ∀ x : Nat × Mm, (x.1 ≤ m ∧ (jsm (fun a => a = 93) M x.2 ∧ jSh x.2) ∧ ∀ j, j < x.1 → lawC V τ people (sn τ 0 + i + (j + 1)) c = true) → jW G mi_X5_stays 7 M 5 [some (jr (some 90)), some (.int (nI c)), some (.int (nI i)), some (.int (nI (i + m))), some (.int (nI (i + x.1 + 1)))] [] x.2 (jPi (fun r M' => r = jb (stayC V τ people (sn τ 0 + i) c m) ∧ jsm (fun a => a = 93) M M' ∧ jSh M')) := by
    refine jW.loop (σ := Nat × Mm) _ (fun x => m - x.1) _ (fun _ => []) (fun x => x.2) (fun x hI ih => ?_)
    obtain ⟨j, M1⟩ := x
    obtain ⟨hj, ⟨hf, hS⟩, hl⟩ := hI
    dsimp only at hj hf hS hl ih ⊢
    have h2 := h.fr hf hS (fun a q => by unfold mkE; omega)
    by_cases hkn : j < m
    · have e9 : sn τ 0 + (i + j + 1) = sn τ 0 + i + (j + 1) := by omega
      have g93 : jsm (fun a => a = 93) M1 (js_As M1 93 (triG M1 V τ people c (cnt people))) := jsm.As rfl
      refine jw_iload (pc := 5) dX5_stays_5 rfl ?_
      refine jw_iload_n (pc := 7) dX5_stays_7 rfl ?_
      first | refine jx_icmp_gt (pc := 8) (tgt := 34) dX5_stays_8 (by decide) (by omega) (by omega) ?_ ?_ | refine jw_icmp_gt (pc := 8) (tgt := 34) dX5_stays_8 (by decide) ?_ ?_
      · intro h_8
        omega
      · intro h_8
        refine jw_aload_n (pc := 11) dX5_stays_11 rfl ?_
        refine jw_iload_n (pc := 12) dX5_stays_12 rfl ?_
        refine jw_aload_n (pc := 13) dX5_stays_13 rfl ?_
        refine jx_getIs (pc := 14) (jf_X5_383_4.r) rfl dX5_stays_14 rfl (is_90 hS) (by decide) (h2.2.2.1) ?_
        refine jw_iload (pc := 17) dX5_stays_17 rfl ?_
        first | refine jx_iadd (pc := 19) dX5_stays_19 ?_ | refine jw_iadd (pc := 19) dX5_stays_19 ?_
        refine jx_cVE (mi1 := mi_X5_isLawfulState) (pc := 20) rfl dX5_stays_20 lk_X5_488 rfl fi_X5_isLawfulState rfl rfl rfl (by decide) (is_90 hS) (t_X5_isLawfulState h2 hc hv (by omega)) (by first | decide | omega) rfl rfl (by decide) ?_
        first | refine jx_ifb_ne (pc := 23) (tgt := 28) dX5_stays_23 (by decide) ?_ ?_ | refine jx_if_ne (pc := 23) (tgt := 28) dX5_stays_23 (by decide) (by omega) ?_ ?_ | refine jw_if_ne (pc := 23) (tgt := 28) dX5_stays_23 (by decide) ?_ ?_
        · intro h_23
          first | refine jx_iinc (pc := 28) dX5_stays_28 rfl rfl ?_ | refine jw_iinc (pc := 28) dX5_stays_28 rfl rfl rfl ?_
          try dsimp only [jput1, jkill, jclr, jis2_i, jis2_l, jis2_rs, jis2_rn, cond]
          refine jw_goto (pc := 31) (tgt := 5) dX5_stays_31 (by decide) ?_
          refine jW.eq ?_ rfl rfl (ih (j + 1, js_As M1 93 (triG M1 V τ people c (cnt people))) ⟨hkn, ⟨hf.tr g93, hS⟩, fun j' hj' => ?_⟩ (by dsimp only; omega))
          · rw [show i + (j + 1) + 1 = i + j + 1 + 1 by omega]
          · by_cases e : j' = j
            · subst e; rw [← e9]; exact h_23
            · exact hl j' (by dsimp only at hj'; omega)
        · intro h_23
          refine jw_iconst (pc := 26) dX5_stays_26 ic_0 ?_
          refine jw_ireturn (pc := 27) dX5_stays_27 rfl (by first | exact jnar_b _ | exact jnar_0 | exact jnar_1 | decide +kernel) ?_
          refine ⟨_, rfl, ?_, hf.tr g93, hS⟩
          rw [show stayC V τ people (sn τ 0 + i) c m = false from allB_no hkn (by rw [← e9]; exact h_23)]; rfl
    · have hk' : j = m := by omega
      subst hk'
      refine jw_iload (pc := 5) dX5_stays_5 rfl ?_
      refine jw_iload_n (pc := 7) dX5_stays_7 rfl ?_
      first | refine jx_icmp_gt (pc := 8) (tgt := 34) dX5_stays_8 (by decide) (by omega) (by omega) ?_ ?_ | refine jw_icmp_gt (pc := 8) (tgt := 34) dX5_stays_8 (by decide) ?_ ?_
      · intro h_8
        refine jw_iconst (pc := 34) dX5_stays_34 ic_1 ?_
        refine jw_ireturn (pc := 35) dX5_stays_35 rfl (by first | exact jnar_b _ | exact jnar_0 | exact jnar_1 | decide +kernel) ?_
        refine ⟨_, rfl, ?_, hf, hS⟩
        rw [show stayC V τ people (sn τ 0 + i) c j = true from allB_iff.mpr hl]; rfl
      · intro h_8
        omega
  refine jw_iload_n (pc := 0) dX5_stays_0 rfl ?_
  refine jw_iconst (pc := 1) dX5_stays_1 ic_1 ?_
  first | refine jx_iadd (pc := 2) dX5_stays_2 ?_ | refine jw_iadd (pc := 2) dX5_stays_2 ?_
  refine jw_istore (pc := 3) dX5_stays_3 (Nat.le_of_ble_eq_true rfl) rfl ?_
  try dsimp only [jput1, jput2, jkill, jclr, jis2_i, jis2_l, jis2_rs, jis2_rn, cond]
  exact J (0, M) ⟨Nat.zero_le _, ⟨jsm.rf, hS⟩, fun j hj => absurd hj (Nat.not_lt_zero _)⟩
theorem lp_md186 {M9 M0 : Mm} {e i : Nat} {x1 x2 : Int32} {P : Rs → Mm → Prop} (h : jMk M0 w V (sgT σ 0 (-1)) people) (hM0 : jMm M0 σ) (he : e < V 0 2) (hb : people.testBit (V 16 e) = true) (hi : i ≤ 30) (hC : jCk M0 V (sgT σ 0 (-1)) people i (10 ^ cnt people) (canC V (sgT σ 0 (-1)) people i)) (hx1 : x1 = nI e)
    (k1 : ∀ M', anyB (10 ^ cnt people) (doC V (sgT σ 0 (-1)) people e i) = true → jMm M' (sgT σ 0 (-1)) → jfm M0 M' → P (.inl (some (.int (nI (sn σ 0 + (i + V 20 e - 1)))))) M')
    (k2 : ∀ M', anyB (10 ^ cnt people) (doC V (sgT σ 0 (-1)) people e i) = false → jsm (fun a => a = 93) M0 M' → jSh M' → jW G mi_X5_doing 9 M9 269 [some (jr (some 90)), some (.int x1), some (.int x2), some (.int (nI (V 16 e))), some (.int (nI (cntN people (V 16 e)))), some (.int (nI i)), some (.int (nI (i + V 20 e - 1))), some (.int (jb true)), none] [] M' P) :
    ∀ x : Nat × Mm, (x.1 ≤ 10 ^ cnt people ∧ (jsm (fun a => a = 93) M0 x.2 ∧ jSh x.2) ∧ ∀ j, j < x.1 → doC V (sgT σ 0 (-1)) people e i j = false) → jW G mi_X5_doing 9 M9 186 [some (jr (some 90)), some (.int x1), some (.int x2), some (.int (nI (V 16 e))), some (.int (nI (cntN people (V 16 e)))), some (.int (nI i)), some (.int (nI (i + V 20 e - 1))), some (.int (jb true)), some (.int (nI x.1))] [] x.2 P := by
  subst hx1
  have hc3 := h.2.1.2.1
  have h1000 := q10 hc3
  have hw9 := h.1.w
  have hnq := wf_nq hw9
  have hne := wf_ne hw9
  have hnp := wf_np hw9
  have ho := h.2.1.2.2.2.1
  have hst : sn σ 0 < 100 := h.2.1.2.2.2.2
  obtain ⟨g1, g2, g3, g4, g5, g6, g7⟩ := wf_e hw9 he
  have hck := cntN_bit (mv_n hw9 h.2.1.1) hnq h.2.1.1 g1 hb
  refine jW.loop (σ := Nat × Mm) _ (fun x => 10 ^ cnt people - x.1) _ (fun _ => []) (fun x => x.2) (fun x hI ih => ?_)
  obtain ⟨c, M1⟩ := x
  obtain ⟨hc, ⟨hf, hS⟩, hno⟩ := hI
  dsimp only at hc hf hS hno ih ⊢
  have hE : ∀ a, a = 93 → mkE a := fun a q => by unfold mkE; omega
  have h2 := h.fr hf hS hE
  have hM1 := hM0.mv hf hE hS
  have hw := h2.1.s
  by_cases hkn : c < 10 ^ cnt people
  · have e1 := (hC.fr h.1.1 hf (by decide)).2 c hkn
    obtain ⟨c1, c2, c3, c4, c5⟩ := ma_e h2.1.V he
    have hno2 : doC V (sgT σ 0 (-1)) people e i c = false → ∀ j, j < c + 1 → doC V (sgT σ 0 (-1)) people e i j = false := fun z j hj => by
      by_cases e : j = c
      · subst e; exact z
      · exact hno j (by omega)
    have hm9 : i + V 20 e - 1 = i + (V 20 e - 1) := by omega
    rw [hm9] at k1 k2 ih ⊢
    have hdg := dig_lt (B := 10) (n := cnt people) (s := c) (k := cntN people (V 16 e)) (by decide)
    refine jw_iload (pc := 186) dX5_doing_186 rfl ?_
    refine jw_aload_n (pc := 188) dX5_doing_188 rfl ?_
    refine jx_getIs (pc := 189) (jf_X5_473_4.r) rfl dX5_doing_189 rfl (is_90 hS) (by decide) (h2.2.2.2.2.2.1) ?_
    first | refine jx_icmp_ge (pc := 192) (tgt := 269) dX5_doing_192 (by decide) (by omega) (by omega) ?_ ?_ | refine jw_icmp_ge (pc := 192) (tgt := 269) dX5_doing_192 (by decide) ?_ ?_
    · intro h_192
      omega
    · intro h_192
      refine jw_iload (pc := 195) dX5_doing_195 rfl ?_
      first | refine jx_ifb_eq (pc := 197) (tgt := 269) dX5_doing_197 (by decide) ?_ ?_ | refine jx_if_eq (pc := 197) (tgt := 269) dX5_doing_197 (by decide) (by omega) ?_ ?_ | refine jw_if_eq (pc := 197) (tgt := 269) dX5_doing_197 (by decide) ?_ ?_
      · intro h_197
        exact absurd h_197 (by decide +kernel)
      · intro h_197
        refine jw_aload_n (pc := 200) dX5_doing_200 rfl ?_
        refine jx_getRs (pc := 201) (jf_X5_33_4.r) rfl dX5_doing_201 rfl (is_90 hS) (by decide) (sr_90_78 hS) ?_
        refine jw_sipush (pc := 204) dX5_doing_204 sp_1000 ?_
        refine jw_iload (pc := 207) dX5_doing_207 rfl ?_
        first | refine jx_imul (pc := 209) dX5_doing_209 ?_ | refine jw_imul (pc := 209) dX5_doing_209 ?_
        refine jw_iload (pc := 210) dX5_doing_210 rfl ?_
        first | refine jx_iadd (pc := 212) dX5_doing_212 ?_ | refine jw_iadd (pc := 212) dX5_doing_212 ?_
        refine jx_zalds (pc := 213) dX5_doing_213 (ok_97 hS) (nn_97 hS) rfl (by omega) (e1) ?_
        first | refine jx_ifb_eq (pc := 214) (tgt := 263) dX5_doing_214 (by decide) ?_ ?_ | refine jx_if_eq (pc := 214) (tgt := 263) dX5_doing_214 (by decide) (by omega) ?_ ?_ | refine jw_if_eq (pc := 214) (tgt := 263) dX5_doing_214 (by decide) ?_ ?_
        · intro h_214
          first | refine jx_iinc (pc := 263) dX5_doing_263 rfl rfl ?_ | refine jw_iinc (pc := 263) dX5_doing_263 rfl rfl rfl ?_
          try dsimp only [jput1, jkill, jclr, jis2_i, jis2_l, jis2_rs, jis2_rn, cond]
          refine jw_goto (pc := 266) (tgt := 186) dX5_doing_266 (by decide) ?_
          first
            | (have e7 := h_247
               refine ih (c + 1, M_244) ⟨hkn, ⟨hf.tr q1, q2⟩, hno2 ?_⟩ (by dsimp only; omega)
               unfold doC; rw [show stayC V (sgT σ 0 (-1)) people (sn (sgT σ 0 (-1)) 0 + i) c (V 20 e - 1) = false from h_247, Bool.and_false])
            | (refine ih (c + 1, M1) ⟨hkn, ⟨hf, hS⟩, hno2 ?_⟩ (by dsimp only; omega)
               unfold doC
               first
                 | (rw [h_214]; rfl)
                 | (rw [decide_eq_false (show ¬ dig 10 (cnt people) c (cntN people (V 16 e)) = V 17 e by omega), Bool.and_false]; rfl))
        · intro h_214
          refine jw_aload_n (pc := 217) dX5_doing_217 rfl ?_
          refine jw_iload (pc := 218) dX5_doing_218 rfl ?_
          refine jw_iload (pc := 220) dX5_doing_220 rfl ?_
          refine jx_cVE (mi1 := mi_X5_placeIn) (pc := 222) rfl dX5_doing_222 lk_X5_476 rfl fi_X5_placeIn rfl rfl rfl (by decide) (is_90 hS) (t_X5_placeIn h2 (by omega) hck) (by first | decide | omega) rfl rfl (by decide) ?_
          refine jw_aload_n (pc := 225) dX5_doing_225 rfl ?_
          refine jx_getRs (pc := 226) (jf_X5_380_4.r) rfl dX5_doing_226 rfl (is_90 hS) (by decide) (h2.1.r) ?_
          refine jx_getRs (pc := 229) jg_X5_352_12 rfl dX5_doing_229 rfl (wis hw) (by decide) (wr_16 hw) ?_
          refine jw_iload_n (pc := 232) dX5_doing_232 rfl ?_
          refine jx_ialds (pc := 233) dX5_doing_233 (wok_16 hw) (wnn_16 hw) rfl (by omega) (c2) ?_
          first | refine jx_icmp_ne (pc := 234) (tgt := 263) dX5_doing_234 (by decide) (by omega) (by omega) ?_ ?_ | refine jw_icmp_ne (pc := 234) (tgt := 263) dX5_doing_234 (by decide) ?_ ?_
          · intro h_234
            first | refine jx_iinc (pc := 263) dX5_doing_263 rfl rfl ?_ | refine jw_iinc (pc := 263) dX5_doing_263 rfl rfl rfl ?_
            try dsimp only [jput1, jkill, jclr, jis2_i, jis2_l, jis2_rs, jis2_rn, cond]
            refine jw_goto (pc := 266) (tgt := 186) dX5_doing_266 (by decide) ?_
            first
              | (have e7 := h_247
                 refine ih (c + 1, M_244) ⟨hkn, ⟨hf.tr q1, q2⟩, hno2 ?_⟩ (by dsimp only; omega)
                 unfold doC; rw [show stayC V (sgT σ 0 (-1)) people (sn (sgT σ 0 (-1)) 0 + i) c (V 20 e - 1) = false from h_247, Bool.and_false])
              | (refine ih (c + 1, M1) ⟨hkn, ⟨hf, hS⟩, hno2 ?_⟩ (by dsimp only; omega)
                 unfold doC
                 first
                   | (rw [h_214]; rfl)
                   | (rw [decide_eq_false (show ¬ dig 10 (cnt people) c (cntN people (V 16 e)) = V 17 e by omega), Bool.and_false]; rfl))
          · intro h_234
            refine jw_aload_n (pc := 237) dX5_doing_237 rfl ?_
            refine jw_iload (pc := 238) dX5_doing_238 rfl ?_
            refine jw_iload (pc := 240) dX5_doing_240 rfl ?_
            refine jw_iload (pc := 242) dX5_doing_242 rfl ?_
            refine jx_cVi (mi1 := mi_X5_stays) (pc := 244) rfl dX5_doing_244 lk_X5_516 rfl fi_X5_stays rfl rfl rfl (by decide) (is_90 hS) (t_X5_stays (m := V 20 e - 1) h2 (by omega) (canC_v hw9 h.2.1.1 ho h_214) (by omega) (by omega)) (by first | decide | omega) rfl rfl (by decide) ?_
            intro x_244 M_244 q_244
            obtain ⟨e9, q1, q2⟩ := q_244
            subst e9
            have h3 := h2.fr q1 q2 hE
            have hM3 := hM1.mv q1 hE q2
            have hS := q2
            first | refine jx_ifb_eq (pc := 247) (tgt := 263) dX5_doing_247 (by decide) ?_ ?_ | refine jx_if_eq (pc := 247) (tgt := 263) dX5_doing_247 (by decide) (by omega) ?_ ?_ | refine jw_if_eq (pc := 247) (tgt := 263) dX5_doing_247 (by decide) ?_ ?_
            · intro h_247
              first | refine jx_iinc (pc := 263) dX5_doing_263 rfl rfl ?_ | refine jw_iinc (pc := 263) dX5_doing_263 rfl rfl rfl ?_
              try dsimp only [jput1, jkill, jclr, jis2_i, jis2_l, jis2_rs, jis2_rn, cond]
              refine jw_goto (pc := 266) (tgt := 186) dX5_doing_266 (by decide) ?_
              first
                | (have e7 := h_247
                   refine ih (c + 1, M_244) ⟨hkn, ⟨hf.tr q1, q2⟩, hno2 ?_⟩ (by dsimp only; omega)
                   unfold doC; rw [show stayC V (sgT σ 0 (-1)) people (sn (sgT σ 0 (-1)) 0 + i) c (V 20 e - 1) = false from h_247, Bool.and_false])
                | (refine ih (c + 1, M1) ⟨hkn, ⟨hf, hS⟩, hno2 ?_⟩ (by dsimp only; omega)
                   unfold doC
                   first
                     | (rw [h_214]; rfl)
                     | (rw [decide_eq_false (show ¬ dig 10 (cnt people) c (cntN people (V 16 e)) = V 17 e by omega), Bool.and_false]; rfl))
            · intro h_247
              refine jw_aload_n (pc := 250) dX5_doing_250 rfl ?_
              refine jw_aload_n (pc := 251) dX5_doing_251 rfl ?_
              refine jx_getIs (pc := 252) (jf_X5_383_4.r) rfl dX5_doing_252 rfl (is_90 hS) (by decide) (h3.2.2.1) ?_
              refine jw_iload (pc := 255) dX5_doing_255 rfl ?_
              first | refine jx_iadd (pc := 257) dX5_doing_257 ?_ | refine jw_iadd (pc := 257) dX5_doing_257 ?_
              refine jw_iconst (pc := 258) dX5_doing_258 ic_0 ?_
              refine jx_cVi (mi1 := mi_X5_told) (pc := 259) rfl dX5_doing_259 lk_X5_66 rfl fi_X5_told rfl rfl rfl (by decide) (is_90 hS) (t_X5_told0 hM3) (by first | decide | omega) rfl rfl (by decide) ?_
              intro x_259 M_259 q_259
              refine jw_ireturn (pc := 262) dX5_doing_262 rfl (rfl) ?_
              obtain ⟨z1, z2, z3⟩ := q_259
              subst z1
              refine k1 _ (anyB_iff.mpr ⟨c, hkn, ?_⟩) z2 ((frmk (hf.tr q1) hE).tr z3)
              unfold doC; rw [h_214, decide_eq_true (show dig 10 (cnt people) c (cntN people (V 16 e)) = V 17 e by omega), show stayC V (sgT σ 0 (-1)) people (sn (sgT σ 0 (-1)) 0 + i) c (V 20 e - 1) = true from h_247]; rfl
  · have hk' : c = 10 ^ cnt people := by omega
    subst hk'
    refine jw_iload (pc := 186) dX5_doing_186 rfl ?_
    refine jw_aload_n (pc := 188) dX5_doing_188 rfl ?_
    refine jx_getIs (pc := 189) (jf_X5_473_4.r) rfl dX5_doing_189 rfl (is_90 hS) (by decide) (h2.2.2.2.2.2.1) ?_
    first | refine jx_icmp_ge (pc := 192) (tgt := 269) dX5_doing_192 (by decide) (by omega) (by omega) ?_ ?_ | refine jw_icmp_ge (pc := 192) (tgt := 269) dX5_doing_192 (by decide) ?_ ?_
    · intro h_192
      refine jW.sub ?_ (k2 M1 ?_ hf hS)
      · exact ⟨rfl, rfl, rfl, rfl, rfl, rfl, rfl, rfl, trivial⟩
      · cases z : anyB (10 ^ cnt people) (doC V (sgT σ 0 (-1)) people e i) with
        | false => rfl
        | true =>
          obtain ⟨j, j1, j2⟩ := anyB_iff.mp z
          rw [hno j j1] at j2; cases j2
    · intro h_192
      omega
theorem lp_md98 {M9 M M0 : Mm} {e : Nat} {x2 : Int32} {q : Int32 × Int32} (hM0 : jMm M0 σ) (hv9 : sv σ = some V) (h : jMk M0 w V (sgT σ 0 (-1)) people) (he : e < V 0 2) (hb : people.testBit (V 16 e) = true) (hf0 : jfm M M0) (hq : q = (doI V (sgT σ 0 (-1)) people e, 0)) :
    ∀ x : Nat × Mm, (x.1 ≤ 31 ∧ (jsm spE M0 x.2 ∧ jSh x.2) ∧ (x.1 ≤ 30 → jCk x.2 V (sgT σ 0 (-1)) people x.1 (10 ^ cnt people) (canC V (sgT σ 0 (-1)) people x.1)) ∧ ∀ j, j < x.1 → doAt V (sgT σ 0 (-1)) people e j = false) → jW G mi_X5_doing 9 M9 98 [some (jr (some 90)), some (.int (nI e)), some (.int x2), some (.int (nI (V 16 e))), some (.int (nI (cntN people (V 16 e)))), some (.int (nI x.1)), none, none, none] [] x.2 (jQm M σ q) := by
  have hc3 := h.2.1.2.1
  have h1000 := q10 hc3
  have hw9 := h.1.w
  have hne := wf_ne hw9
  have hst : sn σ 0 < 100 := h.2.1.2.2.2.2
  have hst2 : sn (sgT σ 0 (-1)) 0 = sn σ 0 := rfl
  obtain ⟨d1, d2, d3, d4, d5⟩ := wf_d hw9
  obtain ⟨g1, g2, g3, g4, g5, g6, g7⟩ := wf_e hw9 he
  have hany := fun i => doC_any (i := i) hw9 h.2.1.1 h.2.1.2.2.1 h.2.1.2.2.2.1 g1 hb
  refine jW.loop (σ := Nat × Mm) _ (fun x => 31 - x.1) _ (fun _ => []) (fun x => x.2) (fun x hI ih => ?_)
  obtain ⟨i, M1⟩ := x
  obtain ⟨hi, ⟨hf, hS⟩, hC, hno⟩ := hI
  dsimp only at hi hf hS hC hno ih ⊢
  have h2 := h.fr hf hS (fun a => spE_k)
  have hM1 := hM0.mv hf (fun a => spE_k) hS
  have hf1 : jfm M M1 := hf0.tr (frmk hf (fun a => spE_k))
  have hw := h2.1.s
  by_cases hkn : i < 31
  · have hC1 := hC (by omega)
    have hno2 : doAt V (sgT σ 0 (-1)) people e i = false → ∀ j, j < i + 1 → doAt V (sgT σ 0 (-1)) people e j = false := fun z j hj => by
      by_cases e : j = i
      · subst e; exact z
      · exact hno j (by omega)
    obtain ⟨c1, c2, c3, c4, c5⟩ := ma_e h2.1.V he
    have L269 : ∀ (b : Bool) M', doAt V (sgT σ 0 (-1)) people e i = false → jsm (fun a => a = 93) M1 M' → jSh M' → jW G mi_X5_doing 9 M9 269 [some (jr (some 90)), some (.int (nI e)), some (.int x2), some (.int (nI (V 16 e))), some (.int (nI (cntN people (V 16 e)))), some (.int (nI i)), some (.int (nI (i + V 20 e - 1))), some (.int (jb b)), none] [] M' (jQm M σ q) := by
      intro b M' z q1 q2
      have hS := q2
      have q1s := q1.wk (F := spE) (fun a z => by unfold spE; omega)
      have h3 := h2.fr q1 q2 (fun a z => by unfold mkE; omega)
      have hC3 := hC1.fr h2.1.1 q1 (by decide)
      refine jw_iload (pc := 269) dX5_doing_269 rfl ?_
      refine jw_bipush (pc := 271) dX5_doing_271 bp_30 ?_
      first | refine jx_icmp_ge (pc := 273) (tgt := 282) dX5_doing_273 (by decide) (by omega) (by omega) ?_ ?_ | refine jw_icmp_ge (pc := 273) (tgt := 282) dX5_doing_273 (by decide) ?_ ?_
      · intro h_273
        first | refine jx_iinc (pc := 282) dX5_doing_282 rfl rfl ?_ | refine jw_iinc (pc := 282) dX5_doing_282 rfl rfl rfl ?_
        try dsimp only [jput1, jkill, jclr, jis2_i, jis2_l, jis2_rs, jis2_rn, cond]
        refine jw_goto (pc := 285) (tgt := 98) dX5_doing_285 (by decide) ?_
        first
          | (refine jW.sub ?_ (ih (i + 1, M_279) ⟨by dsimp only; omega, ⟨hf.tr (q1s.tr z1), z2⟩, fun _ => z3, hno2 z⟩ (by dsimp only; omega))
             exact ⟨rfl, rfl, rfl, rfl, rfl, rfl, trivial⟩)
          | (refine jW.sub ?_ (ih (i + 1, M') ⟨by dsimp only; omega, ⟨hf.tr q1s, q2⟩, fun z => by dsimp only at z; omega, hno2 z⟩ (by dsimp only; omega))
             exact ⟨rfl, rfl, rfl, rfl, rfl, rfl, trivial⟩)
      · intro h_273
        refine jw_aload_n (pc := 276) dX5_doing_276 rfl ?_
        refine jw_iload (pc := 277) dX5_doing_277 rfl ?_
        refine jx_cVv (mi1 := mi_X5_spreads) (pc := 279) rfl dX5_doing_279 lk_X5_513 rfl fi_X5_spreads rfl rfl rfl (by decide) (is_90 hS) (t_X5_spreads h3 (by omega) hC3) (by first | decide | omega) rfl rfl (by decide) ?_
        intro M_279 q_279
        obtain ⟨z1, z2, z3⟩ := q_279
        have hS := z2
        first | refine jx_iinc (pc := 282) dX5_doing_282 rfl rfl ?_ | refine jw_iinc (pc := 282) dX5_doing_282 rfl rfl rfl ?_
        try dsimp only [jput1, jkill, jclr, jis2_i, jis2_l, jis2_rs, jis2_rn, cond]
        refine jw_goto (pc := 285) (tgt := 98) dX5_doing_285 (by decide) ?_
        first
          | (refine jW.sub ?_ (ih (i + 1, M_279) ⟨by dsimp only; omega, ⟨hf.tr (q1s.tr z1), z2⟩, fun _ => z3, hno2 z⟩ (by dsimp only; omega))
             exact ⟨rfl, rfl, rfl, rfl, rfl, rfl, trivial⟩)
          | (refine jW.sub ?_ (ih (i + 1, M') ⟨by dsimp only; omega, ⟨hf.tr q1s, q2⟩, fun z => by dsimp only at z; omega, hno2 z⟩ (by dsimp only; omega))
             exact ⟨rfl, rfl, rfl, rfl, rfl, rfl, trivial⟩)
    have L181 : jW G mi_X5_doing 9 M9 181 [some (jr (some 90)), some (.int (nI e)), some (.int x2), some (.int (nI (V 16 e))), some (.int (nI (cntN people (V 16 e)))), some (.int (nI i)), some (.int (nI (i + V 20 e - 1))), none, none] [.int (jb (doMay V (sgT σ 0 (-1)) e i))] M1 (jQm M σ q) := by
      cases hmay : doMay V (sgT σ 0 (-1)) e i with
      | true =>
        refine jw_istore (pc := 181) dX5_doing_181 (Nat.le_of_ble_eq_true rfl) rfl ?_
        try dsimp only [jput1, jput2, jkill, jclr, jis2_i, jis2_l, jis2_rs, jis2_rn, cond]
        refine jw_iconst (pc := 183) dX5_doing_183 ic_0 ?_
        refine jw_istore (pc := 184) dX5_doing_184 (Nat.le_of_ble_eq_true rfl) rfl ?_
        try dsimp only [jput1, jput2, jkill, jclr, jis2_i, jis2_l, jis2_rs, jis2_rn, cond]
        refine lp_md186 (people := people) h2 hM1 he hb (by omega) hC1 rfl (fun M' z1 z2 z3 => ?_) (fun M' z1 z2 z3 => ?_) (0, M1) ⟨Nat.zero_le _, ⟨jsm.rf, hS⟩, fun j hj => absurd hj (Nat.not_lt_zero _)⟩
        · have e9 : doN V (sgT σ 0 (-1)) people e = i := fst_hit hkn (by unfold doAt; rw [hmay, ← hany, z1]; rfl) hno
          refine ⟨_, rfl, ?_, ?_, hf1.tr z3⟩
          · rw [hq]; unfold doI; rw [e9, if_pos hkn, hst2]
            show nI (sn σ 0 + (i + V 20 e - 1)) = nI (sn σ 0 + i + V 20 e - 1)
            rw [show sn σ 0 + (i + V 20 e - 1) = sn σ 0 + i + V 20 e - 1 by omega]
          · rw [hq]; exact z2
        · exact L269 true M' (by unfold doAt; rw [hmay, ← hany, z1]; rfl) z2 z3
      | false =>
        refine jw_istore (pc := 181) dX5_doing_181 (Nat.le_of_ble_eq_true rfl) rfl ?_
        try dsimp only [jput1, jput2, jkill, jclr, jis2_i, jis2_l, jis2_rs, jis2_rn, cond]
        refine jw_iconst (pc := 183) dX5_doing_183 ic_0 ?_
        refine jw_istore (pc := 184) dX5_doing_184 (Nat.le_of_ble_eq_true rfl) rfl ?_
        try dsimp only [jput1, jput2, jkill, jclr, jis2_i, jis2_l, jis2_rs, jis2_rn, cond]
        skip
        refine jw_iload (pc := 186) dX5_doing_186 rfl ?_
        refine jw_aload_n (pc := 188) dX5_doing_188 rfl ?_
        refine jx_getIs (pc := 189) (jf_X5_473_4.r) rfl dX5_doing_189 rfl (is_90 hS) (by decide) (h2.2.2.2.2.2.1) ?_
        first | refine jx_icmp_ge (pc := 192) (tgt := 269) dX5_doing_192 (by decide) (by omega) (by omega) ?_ ?_ | refine jw_icmp_ge (pc := 192) (tgt := 269) dX5_doing_192 (by decide) ?_ ?_
        · intro h_192
          refine jW.sub ?_ (L269 false M1 (by unfold doAt; rw [hmay]; rfl) jsm.rf hS)
          exact ⟨rfl, rfl, rfl, rfl, rfl, rfl, rfl, rfl, trivial⟩
        · intro h_192
          refine jw_iload (pc := 195) dX5_doing_195 rfl ?_
          first | refine jx_ifb_eq (pc := 197) (tgt := 269) dX5_doing_197 (by decide) ?_ ?_ | refine jx_if_eq (pc := 197) (tgt := 269) dX5_doing_197 (by decide) (by omega) ?_ ?_ | refine jw_if_eq (pc := 197) (tgt := 269) dX5_doing_197 (by decide) ?_ ?_
          · intro h_197
            refine jW.sub ?_ (L269 false M1 (by unfold doAt; rw [hmay]; rfl) jsm.rf hS)
            exact ⟨rfl, rfl, rfl, rfl, rfl, rfl, rfl, rfl, trivial⟩
          · intro h_197
            exact absurd h_197 (by decide +kernel)
    refine jw_iload (pc := 98) dX5_doing_98 rfl ?_
    refine jw_bipush (pc := 100) dX5_doing_100 bp_30 ?_
    first | refine jx_icmp_gt (pc := 102) (tgt := 288) dX5_doing_102 (by decide) (by omega) (by omega) ?_ ?_ | refine jw_icmp_gt (pc := 102) (tgt := 288) dX5_doing_102 (by decide) ?_ ?_
    · intro h_102
      omega
    · intro h_102
      refine jw_iload (pc := 105) dX5_doing_105 rfl ?_
      refine jw_aload_n (pc := 107) dX5_doing_107 rfl ?_
      refine jx_getRs (pc := 108) (jf_X5_380_4.r) rfl dX5_doing_108 rfl (is_90 hS) (by decide) (h2.1.r) ?_
      refine jx_getRs (pc := 111) jg_X5_361_12 rfl dX5_doing_111 rfl (wis hw) (by decide) (wr_19 hw) ?_
      refine jw_iload_n (pc := 114) dX5_doing_114 rfl ?_
      refine jx_ialds (pc := 115) dX5_doing_115 (wok_19 hw) (wnn_19 hw) rfl (by omega) (c5) ?_
      first | refine jx_iadd (pc := 116) dX5_doing_116 ?_ | refine jw_iadd (pc := 116) dX5_doing_116 ?_
      refine jw_iconst (pc := 117) dX5_doing_117 ic_1 ?_
      refine jw_isub (pc := 118) dX5_doing_118 ?_
      rw [sub1 (by omega)]
      refine jw_istore (pc := 119) dX5_doing_119 (Nat.le_of_ble_eq_true rfl) rfl ?_
      try dsimp only [jput1, jput2, jkill, jclr, jis2_i, jis2_l, jis2_rs, jis2_rn, cond]
      refine jw_aload_n (pc := 121) dX5_doing_121 rfl ?_
      refine jx_getIs (pc := 122) (jf_X5_383_4.r) rfl dX5_doing_122 rfl (is_90 hS) (by decide) (h2.2.2.1) ?_
      refine jw_iload (pc := 125) dX5_doing_125 rfl ?_
      first | refine jx_iadd (pc := 127) dX5_doing_127 ?_ | refine jw_iadd (pc := 127) dX5_doing_127 ?_
      refine jw_aload_n (pc := 128) dX5_doing_128 rfl ?_
      refine jx_getRs (pc := 129) (jf_X5_380_4.r) rfl dX5_doing_129 rfl (is_90 hS) (by decide) (h2.1.r) ?_
      refine jx_getRs (pc := 132) jg_X5_355_12 rfl dX5_doing_132 rfl (wis hw) (by decide) (wr_17 hw) ?_
      refine jw_iload_n (pc := 135) dX5_doing_135 rfl ?_
      refine jx_ialds (pc := 136) dX5_doing_136 (wok_17 hw) (wnn_17 hw) rfl (by omega) (c3) ?_
      first | refine jx_icmp_lt (pc := 137) (tgt := 180) dX5_doing_137 (by decide) (by omega) (by omega) ?_ ?_ | refine jw_icmp_lt (pc := 137) (tgt := 180) dX5_doing_137 (by decide) ?_ ?_
      · intro h_137
        refine jw_iconst (pc := 180) dX5_doing_180 ic_0 ?_
        refine jw_ff ?_ L181
        unfold doMay
        rw [Bool.and_eq_false_iff, Bool.and_eq_false_iff, decide_eq_false_iff_not, decide_eq_false_iff_not, decide_eq_false_iff_not]
        omega
      · intro h_137
        refine jw_aload_n (pc := 140) dX5_doing_140 rfl ?_
        refine jx_getIs (pc := 141) (jf_X5_383_4.r) rfl dX5_doing_141 rfl (is_90 hS) (by decide) (h2.2.2.1) ?_
        refine jw_iload (pc := 144) dX5_doing_144 rfl ?_
        first | refine jx_iadd (pc := 146) dX5_doing_146 ?_ | refine jw_iadd (pc := 146) dX5_doing_146 ?_
        refine jw_aload_n (pc := 147) dX5_doing_147 rfl ?_
        refine jx_getRs (pc := 148) (jf_X5_380_4.r) rfl dX5_doing_148 rfl (is_90 hS) (by decide) (h2.1.r) ?_
        refine jx_getRs (pc := 151) jg_X5_358_12 rfl dX5_doing_151 rfl (wis hw) (by decide) (wr_18 hw) ?_
        refine jw_iload_n (pc := 154) dX5_doing_154 rfl ?_
        refine jx_ialds (pc := 155) dX5_doing_155 (wok_18 hw) (wnn_18 hw) rfl (by omega) (c4) ?_
        first | refine jx_icmp_ge (pc := 156) (tgt := 180) dX5_doing_156 (by decide) (by omega) (by omega) ?_ ?_ | refine jw_icmp_ge (pc := 156) (tgt := 180) dX5_doing_156 (by decide) ?_ ?_
        · intro h_156
          refine jw_iconst (pc := 180) dX5_doing_180 ic_0 ?_
          refine jw_ff ?_ L181
          unfold doMay
          rw [Bool.and_eq_false_iff, Bool.and_eq_false_iff, decide_eq_false_iff_not, decide_eq_false_iff_not, decide_eq_false_iff_not]
          omega
        · intro h_156
          refine jw_aload_n (pc := 159) dX5_doing_159 rfl ?_
          refine jx_getIs (pc := 160) (jf_X5_383_4.r) rfl dX5_doing_160 rfl (is_90 hS) (by decide) (h2.2.2.1) ?_
          refine jw_iload (pc := 163) dX5_doing_163 rfl ?_
          first | refine jx_iadd (pc := 165) dX5_doing_165 ?_ | refine jw_iadd (pc := 165) dX5_doing_165 ?_
          refine jw_aload_n (pc := 166) dX5_doing_166 rfl ?_
          refine jx_getRs (pc := 167) (jf_X5_380_4.r) rfl dX5_doing_167 rfl (is_90 hS) (by decide) (h2.1.r) ?_
          refine jx_getIs (pc := 170) (jf_X5_273_12.r) rfl dX5_doing_170 rfl (wis hw) (by decide) (mi_steps h2.1.V) ?_
          first | refine jx_icmp_ge (pc := 173) (tgt := 180) dX5_doing_173 (by decide) (by omega) (by omega) ?_ ?_ | refine jw_icmp_ge (pc := 173) (tgt := 180) dX5_doing_173 (by decide) ?_ ?_
          · intro h_173
            refine jw_iconst (pc := 180) dX5_doing_180 ic_0 ?_
            refine jw_ff ?_ L181
            unfold doMay
            rw [Bool.and_eq_false_iff, Bool.and_eq_false_iff, decide_eq_false_iff_not, decide_eq_false_iff_not, decide_eq_false_iff_not]
            omega
          · intro h_173
            refine jw_iconst (pc := 176) dX5_doing_176 ic_1 ?_
            refine jw_goto (pc := 177) (tgt := 181) dX5_doing_177 (by decide) ?_
            refine jw_tt ?_ L181
            unfold doMay; rw [decide_eq_true (by omega), decide_eq_true (by omega), decide_eq_true (by omega)]; rfl
  · have hk' : i = 31 := by omega
    subst hk'
    refine jw_iload (pc := 98) dX5_doing_98 rfl ?_
    refine jw_bipush (pc := 100) dX5_doing_100 bp_30 ?_
    first | refine jx_icmp_gt (pc := 102) (tgt := 288) dX5_doing_102 (by decide) (by omega) (by omega) ?_ ?_ | refine jw_icmp_gt (pc := 102) (tgt := 288) dX5_doing_102 (by decide) ?_ ?_
    · intro h_102
      refine jw_aload_n (pc := 288) dX5_doing_288 rfl ?_
      refine jw_bipush (pc := 289) dX5_doing_289 bp_m2 ?_
      refine jw_iconst (pc := 291) dX5_doing_291 ic_0 ?_
      refine jx_cVi (mi1 := mi_X5_told) (pc := 292) rfl dX5_doing_292 lk_X5_66 rfl fi_X5_told rfl rfl rfl (by decide) (is_90 hS) (t_X5_told0 hM1) (by first | decide | omega) rfl rfl (by decide) ?_
      intro x_292 M_292 q_292
      refine jw_ireturn (pc := 295) dX5_doing_295 rfl (rfl) ?_
      have e9 : doN V (sgT σ 0 (-1)) people e = 31 := fst_none hno
      refine qm ?_ hf1 q_292
      rw [hq]; unfold doI; rw [e9, if_neg (Nat.lt_irrefl _)]
    · intro h_102
      omega
theorem lp_md74 {M9 M M0 : Mm} {e : Nat} {q : Int32 × Int32} (hM0 : jMm M0 σ) (hv9 : sv σ = some V) (h : jMk M0 w V (sgT σ 0 (-1)) people) (he : e < V 0 2) (hb : people.testBit (V 16 e) = true) (hf0 : jfm M M0) (hq : q = (doI V (sgT σ 0 (-1)) people e, 0)) :
    ∀ k : Nat, k ≤ cntN people (V 16 e) → jW G mi_X5_doing 9 M9 74 [some (jr (some 90)), some (.int (nI e)), some (.int (nI people)), some (.int (nI (V 16 e))), some (.int (nI k)), none, none, none, none] [] M0 (jQm M σ q) := by
  have hS := hM0.1
  have hw9 := h.1.w
  have hnq := wf_nq hw9
  have hp5 := mv_n hw9 h.2.1.1
  have g1 := (wf_e hw9 he).1
  have hck := cntN_bit hp5 hnq h.2.1.1 g1 hb
  have hc3 := h.2.1.2.1
  have hnth : mvP people (cntN people (V 16 e)) = V 16 e := nth_of people hp5 _ (by omega) hb
  refine jW.loop _ (fun k => cntN people (V 16 e) - k) _ (fun _ => []) (fun _ => M0) (fun k hk ih => ?_)
  by_cases hkn : k < cntN people (V 16 e)
  · obtain ⟨m1, m2, m3⟩ := mv_ok hp5 (show k < cnt people by omega)
    refine jw_aload_n (pc := 74) dX5_doing_74 rfl ?_
    refine jx_getRs (pc := 75) (jf_X5_30_4.r) rfl dX5_doing_75 rfl (is_90 hS) (by decide) (sr_90_75 hS) ?_
    refine jw_iload (pc := 78) dX5_doing_78 rfl ?_
    refine jx_ialds (pc := 80) dX5_doing_80 (ok_96 hS) (nn_96 hS) rfl (by omega) (h.2.2.2.2.2.2 k (by omega)) ?_
    refine jw_iload_n (pc := 81) dX5_doing_81 rfl ?_
    first | refine jx_icmp_eq (pc := 82) (tgt := 91) dX5_doing_82 (by decide) (by omega) (by omega) ?_ ?_ | refine jw_icmp_eq (pc := 82) (tgt := 91) dX5_doing_82 (by decide) ?_ ?_
    · intro h_82
      rw [h_82] at m3; omega
    · intro h_82
      first | refine jx_iinc (pc := 85) dX5_doing_85 rfl rfl ?_ | refine jw_iinc (pc := 85) dX5_doing_85 rfl rfl rfl ?_
      try dsimp only [jput1, jkill, jclr, jis2_i, jis2_l, jis2_rs, jis2_rn, cond]
      refine jw_goto (pc := 88) (tgt := 74) dX5_doing_88 (by decide) ?_
      exact ih (k + 1) hkn (by omega)
  · have hk' : k = cntN people (V 16 e) := by omega
    subst hk'
    refine jw_aload_n (pc := 74) dX5_doing_74 rfl ?_
    refine jx_getRs (pc := 75) (jf_X5_30_4.r) rfl dX5_doing_75 rfl (is_90 hS) (by decide) (sr_90_75 hS) ?_
    refine jw_iload (pc := 78) dX5_doing_78 rfl ?_
    refine jx_ialds (pc := 80) dX5_doing_80 (ok_96 hS) (nn_96 hS) rfl (by omega) (h.2.2.2.2.2.2 _ hck) ?_
    rw [hnth]
    refine jw_iload_n (pc := 81) dX5_doing_81 rfl ?_
    first | refine jx_icmp_eq (pc := 82) (tgt := 91) dX5_doing_82 (by decide) (by omega) (by omega) ?_ ?_ | refine jw_icmp_eq (pc := 82) (tgt := 91) dX5_doing_82 (by decide) ?_ ?_
    · intro h_82
      refine jw_aload_n (pc := 91) dX5_doing_91 rfl ?_
      refine jx_cVv (mi1 := mi_X5_sets) (pc := 92) rfl dX5_doing_92 lk_X5_506 rfl fi_X5_sets rfl rfl rfl (by decide) (is_90 hS) (t_X5_sets h) (by first | decide | omega) rfl rfl (by decide) ?_
      intro M_92 q_92
      obtain ⟨q1, q2, q3⟩ := q_92
      have hS := q2
      refine jw_iconst (pc := 95) dX5_doing_95 ic_0 ?_
      refine jw_istore (pc := 96) dX5_doing_96 (Nat.le_of_ble_eq_true rfl) rfl ?_
      try dsimp only [jput1, jput2, jkill, jclr, jis2_i, jis2_l, jis2_rs, jis2_rn, cond]
      refine lp_md98 (hM0.mv q1 (fun a z => by unfold mkE; omega) q2) hv9 (h.fr q1 q2 (fun a z => by unfold mkE; omega)) he hb (hf0.tr (q1.wk (fun a z => by subst z; decide))) hq (0, M_92) ⟨Nat.zero_le _, ⟨jsm.rf, q2⟩, fun _ => q3, fun j hj => absurd hj (Nat.not_lt_zero _)⟩
    · intro h_82
      exact absurd rfl h_82
theorem t_X5_doing {e p : Int32} (h : jMm M σ) : jT G mi_X5_doing 9 [jr (some 90), .int e, .int p] M (jQm M σ (q_doing σ e p)) := by
  have hS := h.1
  refine jT.of (by decide) rfl (Nat.le_of_ble_eq_true rfl) ?_
  cases hv9 : sv σ with
  | none =>
    have e0 : q_doing σ e p = (-1, 1) := by unfold q_doing; rw [hv9]; rfl
    refine jw_aload_n (pc := 0) dX5_doing_0 rfl ?_
    refine jw_iconst (pc := 1) dX5_doing_1 ic_0 ?_
    refine jx_putI (pc := 2) jf_X5_56_4 rfl dX5_doing_2 rfl rfl (is_90 hS) (by decide) ?_
    have hM := mthr (x := nI 0) h
    have hf : jfm M (js_I M 90 49 (nI 0)) := jsm.I (by decide)
    generalize js_I M 90 49 (nI 0) = M0 at hM hf ⊢
    clear hS
    have hS := hM.1
    refine jw_aload_n (pc := 5) dX5_doing_5 rfl ?_
    refine jx_getRs (pc := 6) (jf_X5_380_4.r) rfl dX5_doing_6 rfl (is_90 hS) (by decide) (hM.no hv9) ?_
    refine jw_ifnull (pc := 9) (tgt := 27) dX5_doing_9 (by decide) (fun h => ?_) (fun ax h => by cases h)
    clear h
    refine jw_aload_n (pc := 27) dX5_doing_27 rfl ?_
    refine jw_iconst (pc := 28) dX5_doing_28 ic_1 ?_
    refine jx_cVi (mi1 := mi_X5_refused) (pc := 29) rfl dX5_doing_29 lk_X5_62 rfl fi_X5_refused rfl rfl rfl (by decide) (is_90 hS) (t_X5_refused hM) (by first | decide | omega) rfl rfl (by decide) ?_
    intro x_29 M_29 q_29
    refine jw_ireturn (pc := 32) dX5_doing_32 rfl (rfl) ?_
    exact qm e0 hf q_29
  | some V =>
    have hw9 := (h.2.1.2 V hv9).1
    have hnq := wf_nq hw9
    have hne := wf_ne hw9
    have hnp := wf_np hw9
    have hpw : 2 ^ V 0 1 ≤ 32 := Nat.pow_le_pow_right (n := 2) (by decide) hnq
    refine jw_aload_n (pc := 0) dX5_doing_0 rfl ?_
    refine jw_iconst (pc := 1) dX5_doing_1 ic_0 ?_
    refine jx_putI (pc := 2) jf_X5_56_4 rfl dX5_doing_2 rfl rfl (is_90 hS) (by decide) ?_
    have hM := mthr (x := nI 0) h
    have hf : jfm M (js_I M 90 49 (nI 0)) := jsm.I (by decide)
    generalize js_I M 90 49 (nI 0) = M0 at hM hf ⊢
    clear hS
    have hS := hM.1
    obtain ⟨w, hs, hN⟩ := hM.so hv9
    have hw := hs.s
    refine jw_aload_n (pc := 5) dX5_doing_5 rfl ?_
    refine jx_getRs (pc := 6) (jf_X5_380_4.r) rfl dX5_doing_6 rfl (is_90 hS) (by decide) (hs.r) ?_
    refine jw_ifnull (pc := 9) (tgt := 27) dX5_doing_9 (by decide) (fun h => by cases h) (fun ax h => ?_)
    clear h
    refine jw_iload_n (pc := 12) dX5_doing_12 rfl ?_
    refine jw_if_lt (pc := 13) (tgt := 27) dX5_doing_13 (by decide) ?_ ?_
    · intro h_13
      refine jw_aload_n (pc := 27) dX5_doing_27 rfl ?_
      refine jw_iconst (pc := 28) dX5_doing_28 ic_1 ?_
      refine jx_cVi (mi1 := mi_X5_refused) (pc := 29) rfl dX5_doing_29 lk_X5_62 rfl fi_X5_refused rfl rfl rfl (by decide) (is_90 hS) (t_X5_refused hM) (by first | decide | omega) rfl rfl (by decide) ?_
      intro x_29 M_29 q_29
      refine jw_ireturn (pc := 32) dX5_doing_32 rfl (rfl) ?_
      refine qm ?_ hf q_29
      unfold q_doing; rw [hv9]
      first
        | (rw [show ixV (some V) 2 e = false from ix_neg h_13]; rfl)
        | (rw [show ixV (some V) 2 e = false from ix_ge (by omega) (Int32.not_lt.mp h_24)]; rfl)
    · intro h_13
      refine jw_iload_n (pc := 16) dX5_doing_16 rfl ?_
      refine jw_aload_n (pc := 17) dX5_doing_17 rfl ?_
      refine jx_getRs (pc := 18) (jf_X5_380_4.r) rfl dX5_doing_18 rfl (is_90 hS) (by decide) (hs.r) ?_
      refine jx_getIs (pc := 21) (jf_X5_344_12.r) rfl dX5_doing_21 rfl (wis hw) (by decide) (mi_ne hs.V) ?_
      refine jw_icmp_lt (pc := 24) (tgt := 33) dX5_doing_24 (by decide) ?_ ?_
      · intro h_24
        obtain ⟨ke, hke, rfl⟩ := isIx_of (show isIx (V 0 2) e = true from ix_in (by omega) h_13 (fun c => absurd h_24 (Int32.not_lt.mpr c)))
        obtain ⟨c1, c2, c3, c4, c5⟩ := ma_e hs.V hke
        obtain ⟨g1, g2, g3, g4, g5, g6, g7⟩ := wf_e hw9 hke
        have hix : ixV (some V) 2 (nI ke) = true := ix_in (by omega) h_13 (fun c => absurd h_24 (Int32.not_lt.mpr c))
        refine jw_aload_n (pc := 33) dX5_doing_33 rfl ?_
        refine jx_getRs (pc := 34) (jf_X5_380_4.r) rfl dX5_doing_34 rfl (is_90 hS) (by decide) (hs.r) ?_
        refine jx_getRs (pc := 37) jg_X5_349_12 rfl dX5_doing_37 rfl (wis hw) (by decide) (wr_15 hw) ?_
        refine jw_iload_n (pc := 40) dX5_doing_40 rfl ?_
        refine jx_ialds (pc := 41) dX5_doing_41 (wok_15 hw) (wnn_15 hw) rfl (by omega) (c1) ?_
        refine jw_istore_n (pc := 42) dX5_doing_42 (Nat.le_of_ble_eq_true rfl) rfl ?_
        try dsimp only [jput1, jput2, jkill, jclr, jis2_i, jis2_l, jis2_rs, jis2_rn, cond]
        refine jw_aload_n (pc := 43) dX5_doing_43 rfl ?_
        refine jw_iload_n (pc := 44) dX5_doing_44 rfl ?_
        refine jw_iconst (pc := 45) dX5_doing_45 ic_3 ?_
        refine jx_cVE (mi1 := mi_X5_isMovers) (pc := 46) rfl dX5_doing_46 lk_X5_497 rfl fi_X5_isMovers rfl rfl rfl (by decide) (is_90 hS) (t_X5_isMovers hM (by decide)) (by first | decide | omega) rfl rfl (by decide) ?_
        first | refine jx_ifb_eq (pc := 49) (tgt := 60) dX5_doing_49 (by decide) ?_ ?_ | refine jx_if_eq (pc := 49) (tgt := 60) dX5_doing_49 (by decide) (by omega) ?_ ?_ | refine jw_if_eq (pc := 49) (tgt := 60) dX5_doing_49 (by decide) ?_ ?_
        · intro h_49
          refine jw_aload_n (pc := 60) dX5_doing_60 rfl ?_
          refine jw_iconst (pc := 61) dX5_doing_61 ic_2 ?_
          refine jx_cVi (mi1 := mi_X5_refused) (pc := 62) rfl dX5_doing_62 lk_X5_62 rfl fi_X5_refused rfl rfl rfl (by decide) (is_90 hS) (t_X5_refused hM) (by first | decide | omega) rfl rfl (by decide) ?_
          intro x_62 M_62 q_62
          refine jw_ireturn (pc := 65) dX5_doing_65 rfl (rfl) ?_
          refine qm ?_ hf q_62
          unfold q_doing
          rw [hv9, if_pos hix]
          first
            | (have h5 : ¬ pplW (sv σ) p 3 = 0 := of_decide_eq_false h_49
               rw [hv9] at h5
               rw [if_neg (fun c => h5 c.1)]; rfl)
            | (rw [if_neg (fun c => by
                 have c2 := c.2
                 rw [vv_s hv9, iN_n (show ke < 2 ^ 31 by omega), hiN, h_57] at c2; exact absurd c2 (by decide))]; rfl)
        · intro h_49
          have h5 : pplW (sv σ) p 3 = 0 := of_decide_eq_true h_49
          obtain ⟨V2, kp, eV, hkp, hk1, rfl, hc3, hiN⟩ := pplW_0 h5
          have eW : V2 = V := Option.some.inj (eV.symm.trans hv9)
          subst eW
          refine jw_iload_n (pc := 52) dX5_doing_52 rfl ?_
          refine jw_iload_n (pc := 53) dX5_doing_53 rfl ?_
          refine jx_cSE (mi1 := mi_X5_has) (pc := 54) rfl dX5_doing_54 lk_X5_398 rfl fi_X5_has (t_X5_has (by omega) (by omega)) (by first | decide | omega) rfl rfl (by decide) ?_
          first | refine jx_ifb_ne (pc := 57) (tgt := 66) dX5_doing_57 (by decide) ?_ ?_ | refine jx_if_ne (pc := 57) (tgt := 66) dX5_doing_57 (by decide) (by omega) ?_ ?_ | refine jw_if_ne (pc := 57) (tgt := 66) dX5_doing_57 (by decide) ?_ ?_
          · intro h_57
            refine jw_aload_n (pc := 66) dX5_doing_66 rfl ?_
            refine jw_iload_n (pc := 67) dX5_doing_67 rfl ?_
            refine jx_cVv (mi1 := mi_X5_takesMovers) (pc := 68) rfl dX5_doing_68 lk_X5_500 rfl fi_X5_takesMovers rfl rfl rfl (by decide) (is_90 hS) (t_X5_takesMovers hM hv9 hkp hc3) (by first | decide | omega) rfl rfl (by decide) ?_
            intro M_68 q_68
            obtain ⟨hM2, hf2, w2, hk⟩ := q_68
            have hS := hM2.1
            refine jw_iconst (pc := 71) dX5_doing_71 ic_0 ?_
            refine jw_istore (pc := 72) dX5_doing_72 (Nat.le_of_ble_eq_true rfl) rfl ?_
            try dsimp only [jput1, jput2, jkill, jclr, jis2_i, jis2_l, jis2_rs, jis2_rn, cond]
            exact lp_md74 hM2 hv9 hk hke h_57 (hf.tr hf2) (by
              unfold q_doing
              rw [hv9, if_pos hix, if_pos ⟨by rw [hv9] at h5; exact h5, by rw [vv_s hv9, iN_n (show ke < 2 ^ 31 by omega), hiN]; exact h_57⟩, vv_s hv9, iN_n (show ke < 2 ^ 31 by omega), hiN]) 0 (Nat.zero_le _)
          · intro h_57
            refine jw_aload_n (pc := 60) dX5_doing_60 rfl ?_
            refine jw_iconst (pc := 61) dX5_doing_61 ic_2 ?_
            refine jx_cVi (mi1 := mi_X5_refused) (pc := 62) rfl dX5_doing_62 lk_X5_62 rfl fi_X5_refused rfl rfl rfl (by decide) (is_90 hS) (t_X5_refused hM) (by first | decide | omega) rfl rfl (by decide) ?_
            intro x_62 M_62 q_62
            refine jw_ireturn (pc := 65) dX5_doing_65 rfl (rfl) ?_
            refine qm ?_ hf q_62
            unfold q_doing
            rw [hv9, if_pos hix]
            first
              | (have h5 : ¬ pplW (sv σ) p 3 = 0 := of_decide_eq_false h_49
                 rw [hv9] at h5
                 rw [if_neg (fun c => h5 c.1)]; rfl)
              | (rw [if_neg (fun c => by
                   have c2 := c.2
                   rw [vv_s hv9, iN_n (show ke < 2 ^ 31 by omega), hiN, h_57] at c2; exact absurd c2 (by decide))]; rfl)
      · intro h_24
        refine jw_aload_n (pc := 27) dX5_doing_27 rfl ?_
        refine jw_iconst (pc := 28) dX5_doing_28 ic_1 ?_
        refine jx_cVi (mi1 := mi_X5_refused) (pc := 29) rfl dX5_doing_29 lk_X5_62 rfl fi_X5_refused rfl rfl rfl (by decide) (is_90 hS) (t_X5_refused hM) (by first | decide | omega) rfl rfl (by decide) ?_
        intro x_29 M_29 q_29
        refine jw_ireturn (pc := 32) dX5_doing_32 rfl (rfl) ?_
        refine qm ?_ hf q_29
        unfold q_doing; rw [hv9]
        first
          | (rw [show ixV (some V) 2 e = false from ix_neg h_13]; rfl)
          | (rw [show ixV (some V) 2 e = false from ix_ge (by omega) (Int32.not_lt.mp h_24)]; rfl)
end JMD
