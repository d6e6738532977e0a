/-! ===== x reads: pairs ===== -/
def prB (V : Vt) (a b k : Nat) : Bool := (decide (V 7 k = a) && decide (V 8 k = b)) || (decide (V 7 k = b) && decide (V 8 k = a))
section JXP
variable {G : Gh} {M : Mm} {σ : Sg} {n v p zb sb' : Nat} {V : Vt}
theorem lp_pair143 {M9 : Mm} {a b p0 : Nat} (hG : jGs G) (h : xRd M σ n v V p zb sb') (ha : a < V 0 1) (hb : b < V 0 1) (hs : V 0 6 < 3) (g : jsm (xE v) M9 M) (hR : lPair (chI σ n) n V p0 = (if (decide (b = a) || anyB (V 0 6) (prB V a b)) = true then .error (3, tkA (chI σ n) n p) else .ok (vPair V a b, tkE (chI σ n) n p))) : jW G mi_X2_pair 10 M9 143 [some (jr (some 66)), some (.int (nI a)), some (.int (nI b)), some (.int (jb (decide (b = a) || anyB (V 0 6) (prB V a b)))), some (.int (nI (V 0 6)))] [] M (xL M9 σ n v zb sb' (lPair (chI σ n) n V p0)) := by
  have hS := h.S
  have hW := h.2.2.2.1
  have hv := h.2.1.1
  have h104 := hv.2.1
  have hn := wf_nr hW
  cases hab : (decide (b = a) || anyB (V 0 6) (prB V a b)) with
  | true =>
    rw [hab] at hR
    refine jw_iload_n (pc := 143) dX2_pair_143 rfl ?_
    first | refine jx_ifb_eq (pc := 144) (tgt := 153) dX2_pair_144 (by decide) ?_ ?_ | refine jx_if_eq (pc := 144) (tgt := 153) dX2_pair_144 (by decide) (by omega) ?_ ?_ | refine jw_if_eq (pc := 144) (tgt := 153) dX2_pair_144 (by decide) ?_ ?_
    · intro h_144
      first | cases h_144 | exact absurd h_144 (by decide)
    · intro h_144
      refine jw_aload_n (pc := 147) dX2_pair_147 rfl ?_
      refine jw_iconst (pc := 148) dX2_pair_148 ic_3 ?_
      refine jx_cVE (mi1 := mi_X2_fail) (pc := 149) rfl dX2_pair_149 lk_X2_85 rfl fi_X2_fail rfl rfl rfl (by decide) (is_66 hS) (t_X2_fail h) (by first | decide | omega) rfl rfl (by decide) ?_
      refine jw_athrow (pc := 152) dX2_pair_152 rfl ?_
      refine jx_out67 rfl hS ?_
      exact Or.inr ⟨rfl, _, by rw [hR, if_pos rfl], h.fl.j g⟩
  | false =>
    rw [hab] at hR
    refine jw_iload_n (pc := 143) dX2_pair_143 rfl ?_
    first | refine jx_ifb_eq (pc := 144) (tgt := 153) dX2_pair_144 (by decide) ?_ ?_ | refine jx_if_eq (pc := 144) (tgt := 153) dX2_pair_144 (by decide) (by omega) ?_ ?_ | refine jw_if_eq (pc := 144) (tgt := 153) dX2_pair_144 (by decide) ?_ ?_
    · intro h_144
      refine jw_aload_n (pc := 153) dX2_pair_153 rfl ?_
      refine jx_cVv (mi1 := mi_X2_next) (pc := 154) rfl dX2_pair_154 lk_X2_79 rfl fi_X2_next rfl rfl rfl (by decide) (is_66 hS) (h.next hG) (by first | decide | omega) rfl rfl (by decide) ?_
      intro M_154 q_154
      obtain ⟨h4, e12⟩ := q_154
      clear hS hv
      have hS := h4.S
      have hv := h4.2.1.1
      have c4 := xi_nr h4.2.1
      refine jw_aload_n (pc := 157) dX2_pair_157 rfl ?_
      refine jx_getRs (pc := 158) (jf_X2_120_1.r) rfl dX2_pair_158 rfl (is_66 hS) (by decide) (h4.1.2.2.2.2.2.1) ?_
      refine jx_getRs (pc := 161) jg_X2_290_5 rfl dX2_pair_161 rfl (vis hv) (by decide) (vr_7 hv) ?_
      refine jw_aload_n (pc := 164) dX2_pair_164 rfl ?_
      refine jx_getRs (pc := 165) (jf_X2_120_1.r) rfl dX2_pair_165 rfl (is_66 hS) (by decide) (h4.1.2.2.2.2.2.1) ?_
      refine jx_getIs (pc := 168) (jf_X2_282_5.r) rfl dX2_pair_168 rfl (vis hv) (by decide) (c4) ?_
      refine jw_iload_n (pc := 171) dX2_pair_171 rfl ?_
      refine jx_iast (pc := 172) dX2_pair_172 (by omega) (vok_7 hv) (vnn_7 hv) rfl (by omega) ?_
      refine jw_aload_n (pc := 173) dX2_pair_173 rfl ?_
      refine jx_getRs (pc := 174) (jf_X2_120_1.r) rfl dX2_pair_174 rfl (is_66 hS) (by decide) (h4.1.2.2.2.2.2.1) ?_
      refine jx_getRs (pc := 177) jg_X2_293_5 rfl dX2_pair_177 rfl (vis hv) (by decide) (vr_8 hv) ?_
      refine jw_aload_n (pc := 180) dX2_pair_180 rfl ?_
      refine jx_getRs (pc := 181) (jf_X2_120_1.r) rfl dX2_pair_181 rfl (is_66 hS) (by decide) (h4.1.2.2.2.2.2.1) ?_
      refine jx_getIs (pc := 184) (jf_X2_282_5.r) rfl dX2_pair_184 rfl (vis hv) (by decide) (c4) ?_
      refine jw_iload_n (pc := 187) dX2_pair_187 rfl ?_
      refine jx_iast (pc := 188) dX2_pair_188 (by omega) (vok_8 hv) (vnn_8 hv) rfl (by omega) ?_
      refine jw_aload_n (pc := 189) dX2_pair_189 rfl ?_
      refine jx_getRs (pc := 190) (jf_X2_120_1.r) rfl dX2_pair_190 rfl (is_66 hS) (by decide) (h4.1.2.2.2.2.2.1) ?_
      refine jw_dup (pc := 193) dX2_pair_193 (jis2_r _) ?_
      refine jx_getIs (pc := 194) (jf_X2_282_5.r) rfl dX2_pair_194 rfl (vis hv) (by decide) (c4) ?_
      refine jw_iconst (pc := 197) dX2_pair_197 ic_1 ?_
      first | refine jx_iadd (pc := 198) dX2_pair_198 ?_ | refine jw_iadd (pc := 198) dX2_pair_198 ?_
      refine jx_putI (pc := 199) jf_X2_282_5 rfl dX2_pair_199 rfl rfl (vis hv) (by decide) ?_
      refine jw_return (pc := 202) dX2_pair_202 rfl ?_
      refine Or.inl ⟨_, rfl, rfl, (vPair V a b, tkE (chI σ n) n p), by rw [hR]; rfl, ?_, ?_⟩
      · refine (h4.two (E := fun a => a = v ∨ (v + 4 ≤ a ∧ a ≤ v + 10)) (Or.inr (Or.inl ⟨rfl, rfl⟩)) (wf_pair hW hs ha hb) (((jsm.A (by omega)).tr (jsm.A (by omega))).tr (jsm.I (by omega))) (fun a q => q) hv (fun k => ?_) (fun r k q1 q2 => ?_)).j
        · rw [jI_I]; by_cases e : k = 103
          · rw [if_pos ⟨e, rfl⟩, if_pos e]
          · rw [if_neg (fun q => e q.1), if_neg e]; rfl
        · rw [jA_I, jA_A, jA_A]
          by_cases e5 : r = 8 ∧ k = V 0 6
          · rw [if_pos (by omega), if_neg (by omega), if_pos (by omega)]
          · rw [if_neg (by omega)]
            by_cases e4 : r = 7 ∧ k = V 0 6
            · rw [if_pos (by omega), if_pos (by omega)]
            · rw [if_neg (by omega), if_neg (by omega), if_neg (by omega)]
      · exact g.tr (e12.1.tr (((jsm.A (Or.inr (by omega))).tr (jsm.A (Or.inr (by omega)))).tr (jsm.I (Or.inr (by omega)))))
    · intro h_144
      first | cases h_144 | exact absurd h_144 (by decide)
theorem lp_pair59 {M9 : Mm} {a b p0 : Nat} (hG : jGs G) (h : xRd M σ n v V p zb sb') (ha : a < V 0 1) (hb : b < V 0 1) (hs : V 0 6 < 3) (g : jsm (xE v) M9 M) (hR : lPair (chI σ n) n V p0 = (if (decide (b = a) || anyB (V 0 6) (prB V a b)) = true then .error (3, tkA (chI σ n) n p) else .ok (vPair V a b, tkE (chI σ n) n p))) : jW G mi_X2_pair 10 M9 59 [some (jr (some 66)), some (.int (nI a)), some (.int (nI b)), some (.int (jb (decide (b = a) || anyB 0 (prB V a b)))), some (.int (nI 0))] [] M (xL M9 σ n v zb sb' (lPair (chI σ n) n V p0)) := by
  have hW := h.2.2.2.1
  have hn0 := wf_nq hW
  have J : ∀ k : Nat, k ≤ V 0 6 → jW G mi_X2_pair 10 M9 59 [some (jr (some 66)), some (.int (nI a)), some (.int (nI b)), some (.int (jb (decide (b = a) || anyB k (prB V a b)))), some (.int (nI k))] [] M (xL M9 σ n v zb sb' (lPair (chI σ n) n V p0)) := by
    refine jW.loop _ (fun k => V 0 6 - k) _ (fun _ => []) (fun _ => M) (fun k hk ih => ?_)
    have hS := h.S
    have hv := h.2.1.1
    by_cases hkn : k < V 0 6
    · obtain ⟨w1, w2⟩ := h.2.1.2.2.1.2.2.1 k hkn
      obtain ⟨u1, u2⟩ := wf_r hW hkn
      have J136 : jW G mi_X2_pair 10 M9 136 [some (jr (some 66)), some (.int (nI a)), some (.int (nI b)), some (.int (jb (decide (b = a) || anyB k (prB V a b)))), some (.int (nI k))] [.int (jb (decide (b = a) || anyB (k + 1) (prB V a b)))] M (xL M9 σ n v zb sb' (lPair (chI σ n) n V p0)) := by
        refine jw_istore_n (pc := 136) dX2_pair_136 (Nat.le_of_ble_eq_true rfl) rfl ?_
        try dsimp only [jput1, jput2, jkill, jclr, jis2_i, jis2_l, jis2_rs, jis2_rn, cond]
        first | refine jx_iinc (pc := 137) dX2_pair_137 rfl rfl ?_ | refine jw_iinc (pc := 137) dX2_pair_137 rfl rfl rfl ?_
        try dsimp only [jput1, jkill, jclr, jis2_i, jis2_l, jis2_rs, jis2_rn, cond]
        refine jw_goto (pc := 140) (tgt := 59) dX2_pair_140 (by decide) ?_
        exact ih (k + 1) hkn (by omega)
      refine jw_iload (pc := 59) dX2_pair_59 rfl ?_
      refine jw_aload_n (pc := 61) dX2_pair_61 rfl ?_
      refine jx_getRs (pc := 62) (jf_X2_120_1.r) rfl dX2_pair_62 rfl (is_66 hS) (by decide) (h.1.2.2.2.2.2.1) ?_
      refine jx_getIs (pc := 65) (jf_X2_282_5.r) rfl dX2_pair_65 rfl (vis hv) (by decide) (xi_nr h.2.1) ?_
      first | refine jx_icmp_ge (pc := 68) (tgt := 143) dX2_pair_68 (by decide) (by omega) (by omega) ?_ ?_ | refine jw_icmp_ge (pc := 68) (tgt := 143) dX2_pair_68 (by decide) ?_ ?_
      · intro h_68
        omega
      · intro h_68
        refine jw_iload_n (pc := 71) dX2_pair_71 rfl ?_
        first | refine jx_ifb_ne (pc := 72) (tgt := 131) dX2_pair_72 (by decide) ?_ ?_ | refine jx_if_ne (pc := 72) (tgt := 131) dX2_pair_72 (by decide) (by omega) ?_ ?_ | refine jw_if_ne (pc := 72) (tgt := 131) dX2_pair_72 (by decide) ?_ ?_
        · intro h_72
          refine jw_iconst (pc := 131) dX2_pair_131 ic_1 ?_
          refine jw_goto (pc := 132) (tgt := 136) dX2_pair_132 (by decide) ?_
          refine jw_tt ?_ J136
          first
            | (simp_all [anyB, prB]; done)
            | (rw [anyB, ← Bool.or_assoc, h_72]; rfl)
        · intro h_72
          refine jw_aload_n (pc := 75) dX2_pair_75 rfl ?_
          refine jx_getRs (pc := 76) (jf_X2_120_1.r) rfl dX2_pair_76 rfl (is_66 hS) (by decide) (h.1.2.2.2.2.2.1) ?_
          refine jx_getRs (pc := 79) jg_X2_290_5 rfl dX2_pair_79 rfl (vis hv) (by decide) (vr_7 hv) ?_
          refine jw_iload (pc := 82) dX2_pair_82 rfl ?_
          refine jx_iald (pc := 84) dX2_pair_84 (vok_7 hv) (vnn_7 hv) rfl (by omega) ?_
          rw [w1]
          refine jw_iload_n (pc := 85) dX2_pair_85 rfl ?_
          first | refine jx_icmp_ne (pc := 86) (tgt := 103) dX2_pair_86 (by decide) (by omega) (by omega) ?_ ?_ | refine jw_icmp_ne (pc := 86) (tgt := 103) dX2_pair_86 (by decide) ?_ ?_
          · intro h_86
            refine jw_aload_n (pc := 103) dX2_pair_103 rfl ?_
            refine jx_getRs (pc := 104) (jf_X2_120_1.r) rfl dX2_pair_104 rfl (is_66 hS) (by decide) (h.1.2.2.2.2.2.1) ?_
            refine jx_getRs (pc := 107) jg_X2_290_5 rfl dX2_pair_107 rfl (vis hv) (by decide) (vr_7 hv) ?_
            refine jw_iload (pc := 110) dX2_pair_110 rfl ?_
            refine jx_iald (pc := 112) dX2_pair_112 (vok_7 hv) (vnn_7 hv) rfl (by omega) ?_
            rw [w1]
            refine jw_iload_n (pc := 113) dX2_pair_113 rfl ?_
            first | refine jx_icmp_ne (pc := 114) (tgt := 135) dX2_pair_114 (by decide) (by omega) (by omega) ?_ ?_ | refine jw_icmp_ne (pc := 114) (tgt := 135) dX2_pair_114 (by decide) ?_ ?_
            · intro h_114
              refine jw_iconst (pc := 135) dX2_pair_135 ic_0 ?_
              refine jw_ff ?_ J136; simp_all [anyB, prB]
            · intro h_114
              refine jw_aload_n (pc := 117) dX2_pair_117 rfl ?_
              refine jx_getRs (pc := 118) (jf_X2_120_1.r) rfl dX2_pair_118 rfl (is_66 hS) (by decide) (h.1.2.2.2.2.2.1) ?_
              refine jx_getRs (pc := 121) jg_X2_293_5 rfl dX2_pair_121 rfl (vis hv) (by decide) (vr_8 hv) ?_
              refine jw_iload (pc := 124) dX2_pair_124 rfl ?_
              refine jx_iald (pc := 126) dX2_pair_126 (vok_8 hv) (vnn_8 hv) rfl (by omega) ?_
              rw [w2]
              refine jw_iload_n (pc := 127) dX2_pair_127 rfl ?_
              first | refine jx_icmp_ne (pc := 128) (tgt := 135) dX2_pair_128 (by decide) (by omega) (by omega) ?_ ?_ | refine jw_icmp_ne (pc := 128) (tgt := 135) dX2_pair_128 (by decide) ?_ ?_
              · intro h_128
                refine jw_iconst (pc := 135) dX2_pair_135 ic_0 ?_
                refine jw_ff ?_ J136; simp_all [anyB, prB]
              · intro h_128
                refine jw_iconst (pc := 131) dX2_pair_131 ic_1 ?_
                refine jw_goto (pc := 132) (tgt := 136) dX2_pair_132 (by decide) ?_
                refine jw_tt ?_ J136
                first
                  | (simp_all [anyB, prB]; done)
                  | (rw [anyB, ← Bool.or_assoc, h_72]; rfl)
          · intro h_86
            refine jw_aload_n (pc := 89) dX2_pair_89 rfl ?_
            refine jx_getRs (pc := 90) (jf_X2_120_1.r) rfl dX2_pair_90 rfl (is_66 hS) (by decide) (h.1.2.2.2.2.2.1) ?_
            refine jx_getRs (pc := 93) jg_X2_293_5 rfl dX2_pair_93 rfl (vis hv) (by decide) (vr_8 hv) ?_
            refine jw_iload (pc := 96) dX2_pair_96 rfl ?_
            refine jx_iald (pc := 98) dX2_pair_98 (vok_8 hv) (vnn_8 hv) rfl (by omega) ?_
            rw [w2]
            refine jw_iload_n (pc := 99) dX2_pair_99 rfl ?_
            first | refine jx_icmp_eq (pc := 100) (tgt := 131) dX2_pair_100 (by decide) (by omega) (by omega) ?_ ?_ | refine jw_icmp_eq (pc := 100) (tgt := 131) dX2_pair_100 (by decide) ?_ ?_
            · intro h_100
              refine jw_iconst (pc := 131) dX2_pair_131 ic_1 ?_
              refine jw_goto (pc := 132) (tgt := 136) dX2_pair_132 (by decide) ?_
              refine jw_tt ?_ J136
              first
                | (simp_all [anyB, prB]; done)
                | (rw [anyB, ← Bool.or_assoc, h_72]; rfl)
            · intro h_100
              refine jw_aload_n (pc := 103) dX2_pair_103 rfl ?_
              refine jx_getRs (pc := 104) (jf_X2_120_1.r) rfl dX2_pair_104 rfl (is_66 hS) (by decide) (h.1.2.2.2.2.2.1) ?_
              refine jx_getRs (pc := 107) jg_X2_290_5 rfl dX2_pair_107 rfl (vis hv) (by decide) (vr_7 hv) ?_
              refine jw_iload (pc := 110) dX2_pair_110 rfl ?_
              refine jx_iald (pc := 112) dX2_pair_112 (vok_7 hv) (vnn_7 hv) rfl (by omega) ?_
              rw [w1]
              refine jw_iload_n (pc := 113) dX2_pair_113 rfl ?_
              first | refine jx_icmp_ne (pc := 114) (tgt := 135) dX2_pair_114 (by decide) (by omega) (by omega) ?_ ?_ | refine jw_icmp_ne (pc := 114) (tgt := 135) dX2_pair_114 (by decide) ?_ ?_
              · intro h_114
                refine jw_iconst (pc := 135) dX2_pair_135 ic_0 ?_
                refine jw_ff ?_ J136; simp_all [anyB, prB]
              · intro h_114
                refine jw_aload_n (pc := 117) dX2_pair_117 rfl ?_
                refine jx_getRs (pc := 118) (jf_X2_120_1.r) rfl dX2_pair_118 rfl (is_66 hS) (by decide) (h.1.2.2.2.2.2.1) ?_
                refine jx_getRs (pc := 121) jg_X2_293_5 rfl dX2_pair_121 rfl (vis hv) (by decide) (vr_8 hv) ?_
                refine jw_iload (pc := 124) dX2_pair_124 rfl ?_
                refine jx_iald (pc := 126) dX2_pair_126 (vok_8 hv) (vnn_8 hv) rfl (by omega) ?_
                rw [w2]
                refine jw_iload_n (pc := 127) dX2_pair_127 rfl ?_
                first | refine jx_icmp_ne (pc := 128) (tgt := 135) dX2_pair_128 (by decide) (by omega) (by omega) ?_ ?_ | refine jw_icmp_ne (pc := 128) (tgt := 135) dX2_pair_128 (by decide) ?_ ?_
                · intro h_128
                  refine jw_iconst (pc := 135) dX2_pair_135 ic_0 ?_
                  refine jw_ff ?_ J136; simp_all [anyB, prB]
                · intro h_128
                  refine jw_iconst (pc := 131) dX2_pair_131 ic_1 ?_
                  refine jw_goto (pc := 132) (tgt := 136) dX2_pair_132 (by decide) ?_
                  refine jw_tt ?_ J136
                  first
                    | (simp_all [anyB, prB]; done)
                    | (rw [anyB, ← Bool.or_assoc, h_72]; rfl)
    · have hk' : k = V 0 6 := by omega
      subst hk'
      refine jw_iload (pc := 59) dX2_pair_59 rfl ?_
      refine jw_aload_n (pc := 61) dX2_pair_61 rfl ?_
      refine jx_getRs (pc := 62) (jf_X2_120_1.r) rfl dX2_pair_62 rfl (is_66 hS) (by decide) (h.1.2.2.2.2.2.1) ?_
      refine jx_getIs (pc := 65) (jf_X2_282_5.r) rfl dX2_pair_65 rfl (vis hv) (by decide) (xi_nr h.2.1) ?_
      first | refine jx_icmp_ge (pc := 68) (tgt := 143) dX2_pair_68 (by decide) (by omega) (by omega) ?_ ?_ | refine jw_icmp_ge (pc := 68) (tgt := 143) dX2_pair_68 (by decide) ?_ ?_
      · intro h_68
        exact lp_pair143 hG h ha hb hs g hR
      · intro h_68
        omega
  exact J 0 (Nat.zero_le _)
theorem t_X2_pair (hG : jGs G) (h : xRd M σ n v V p zb sb') : jT G mi_X2_pair 10 [jr (some 66)] M (xL M σ n v zb sb' (lPair (chI σ n) n V p)) := by
  have hS := h.S
  have hv := h.2.1.1
  have hW := h.2.2.2.1
  have h104 := hv.2.1
  have hst : jm_I M v 103 = nI (V 0 6) := xi_nr h.2.1
  have hn := wf_nr hW
  have hn0 := wf_nq hW
  refine jT.of (by decide) rfl (Nat.le_of_ble_eq_true rfl) ?_
  by_cases hs : V 0 6 < 3
  · have eb : pBegin (chI σ n) n (decide (V 0 6 < 3)) 5 p = .ok (tkE (chI σ n) n p) := by rw [decide_eq_true hs]; rfl
    refine jw_aload_n (pc := 0) dX2_pair_0 rfl ?_
    refine jw_aload_n (pc := 1) dX2_pair_1 rfl ?_
    refine jx_getRs (pc := 2) (jf_X2_120_1.r) rfl dX2_pair_2 rfl (is_66 hS) (by decide) (h.1.2.2.2.2.2.1) ?_
    refine jx_getIs (pc := 5) (jf_X2_282_5.r) rfl dX2_pair_5 rfl (vis hv) (by decide) (hst) ?_
    refine jw_iconst (pc := 8) dX2_pair_8 ic_3 ?_
    first | refine jx_icmp_ge (pc := 9) (tgt := 16) dX2_pair_9 (by decide) (by omega) (by omega) ?_ ?_ | refine jw_icmp_ge (pc := 9) (tgt := 16) dX2_pair_9 (by decide) ?_ ?_
    · intro h_9
      omega
    · intro h_9
      refine jw_iconst (pc := 12) dX2_pair_12 ic_1 ?_
      refine jw_goto (pc := 13) (tgt := 17) dX2_pair_13 (by decide) ?_
      refine jw_iconst (pc := 17) dX2_pair_17 ic_5 ?_
      refine jx_cVt (mi1 := mi_X2_begins) (pc := 18) rfl dX2_pair_18 lk_X2_181 rfl fi_X2_begins rfl rfl rfl (by decide) (is_66 hS) (t_X2_begins (b := true) (k := 5) hG h) (by first | decide | omega) rfl rfl (by decide) ?_ ?_
      rotate_left
      · intro M_18 q_18
        obtain ⟨f, e1, e2⟩ := q_18
        cases e1
      intro v_18 M_18 q_18
      obtain ⟨e0, p1, e1, e2, e3⟩ := q_18
      cases e0; cases e1
      clear hS hv
      have hS := e2.S
      have hv := e2.2.1.1
      have g1 := e3.1
      dsimp only [Option.toList, List.nil_append, List.cons_append]
      refine jw_aload_n (pc := 21) dX2_pair_21 rfl ?_
      refine jx_cVt (mi1 := mi_X2_personHere) (pc := 22) rfl dX2_pair_22 lk_X2_285 rfl fi_X2_personHere rfl rfl rfl (by decide) (is_66 hS) (t_X2_personHere hG e2) (by first | decide | omega) rfl rfl (by decide) ?_ ?_
      rotate_left
      · intro M_22 q_22
        obtain ⟨f, e4, e5⟩ := q_22
        refine jx_out67 rfl e5.2.2.2.1 ?_
        exact Or.inr ⟨rfl, f, by unfold lPair pTwo pKnownN; simp only [eb, e4, Except.bind], e5.j g1⟩
      intro v_22 M_22 q_22
      obtain ⟨a, q1, f1, ha, e5, cq, kk1, e6, e7⟩ := q_22
      clear hS hv
      have hS := e6.S
      have hv := e6.2.1.1
      have g2 := g1.tr e7.1
      cases e5
      obtain ⟨q9, y1, y2, y3, y4, -⟩ := e6.2.1.2.2.2.2.1 _ ha
      rw [cq] at y1; cases y1
      dsimp only [Option.toList, List.nil_append, List.cons_append]
      refine jx_getIs (pc := 25) jg_X2_289_7 rfl dX2_pair_25 rfl (y2) (by decide) (y4) ?_
      refine jw_istore_n (pc := 28) dX2_pair_28 (Nat.le_of_ble_eq_true rfl) rfl ?_
      try dsimp only [jput1, jput2, jkill, jclr, jis2_i, jis2_l, jis2_rs, jis2_rn, cond]
      refine jw_aload_n (pc := 29) dX2_pair_29 rfl ?_
      refine jx_cVv (mi1 := mi_X2_next) (pc := 30) rfl dX2_pair_30 lk_X2_79 rfl fi_X2_next rfl rfl rfl (by decide) (is_66 hS) (e6.next hG) (by first | decide | omega) rfl rfl (by decide) ?_
      intro M_30 q_30
      obtain ⟨h3, e9⟩ := q_30
      clear hS hv
      have hS := h3.S
      have hv := h3.2.1.1
      have g3 := g2.tr e9.1
      refine jw_aload_n (pc := 33) dX2_pair_33 rfl ?_
      refine jx_cVt (mi1 := mi_X2_comma) (pc := 34) rfl dX2_pair_34 lk_X2_217 rfl fi_X2_comma rfl rfl rfl (by decide) (is_66 hS) (t_X2_comma hG h3) (by first | decide | omega) rfl rfl (by decide) ?_ ?_
      rotate_left
      · intro M_34 q_34
        obtain ⟨f, e4, e5⟩ := q_34
        refine jx_out67 rfl e5.2.2.2.1 ?_
        exact Or.inr ⟨rfl, f, by unfold lPair pTwo pKnownN; simp only [eb, f1, e4, Except.bind], e5.j g3⟩
      intro v_34 M_34 q_34
      obtain ⟨e0, p2, f2, e8, e9⟩ := q_34
      clear hS hv
      have hS := e8.S
      have hv := e8.2.1.1
      have g4 := g3.tr e9.1
      cases e0
      dsimp only [Option.toList, List.nil_append, List.cons_append]
      refine jw_aload_n (pc := 37) dX2_pair_37 rfl ?_
      refine jx_cVt (mi1 := mi_X2_personHere) (pc := 38) rfl dX2_pair_38 lk_X2_285 rfl fi_X2_personHere rfl rfl rfl (by decide) (is_66 hS) (t_X2_personHere hG e8) (by first | decide | omega) rfl rfl (by decide) ?_ ?_
      rotate_left
      · intro M_38 q_38
        obtain ⟨f, e4, e5⟩ := q_38
        refine jx_out67 rfl e5.2.2.2.1 ?_
        exact Or.inr ⟨rfl, f, by unfold lPair pTwo pKnownN; simp only [eb, f1, f2, e4, Except.bind], e5.j g4⟩
      intro v_38 M_38 q_38
      obtain ⟨b, q2, f3, hb, e5, cq2, kk2, e10, e11⟩ := q_38
      clear hS hv
      have hS := e10.S
      have hv := e10.2.1.1
      have g5 := g4.tr e11.1
      cases e5
      obtain ⟨q9, z1, z2, z3, z4, -⟩ := e10.2.1.2.2.2.2.1 _ hb
      rw [cq2] at z1; cases z1
      dsimp only [Option.toList, List.nil_append, List.cons_append]
      refine jx_getIs (pc := 41) jg_X2_289_7 rfl dX2_pair_41 rfl (z2) (by decide) (z4) ?_
      refine jw_istore_n (pc := 44) dX2_pair_44 (Nat.le_of_ble_eq_true rfl) rfl ?_
      try dsimp only [jput1, jput2, jkill, jclr, jis2_i, jis2_l, jis2_rs, jis2_rn, cond]
      have hR : lPair (chI σ n) n V p = (if (decide (b = a) || anyB (V 0 6) (prB V a b)) = true then .error (3, tkA (chI σ n) n p2) else .ok (vPair V a b, tkE (chI σ n) n p2)) := by
        unfold lPair pTwo pKnownN; simp only [eb, f1, f2, f3, Except.bind]
        cases hc : (decide (b = a) || anyB (V 0 6) (prB V a b)) with
        | true => rw [if_pos (show (decide (b = a) || anyB (V 0 6) (fun k => (decide (V 7 k = a) && decide (V 8 k = b)) || (decide (V 7 k = b) && decide (V 8 k = a)))) = true from hc), if_pos rfl]
        | false => rw [if_neg (show ¬ (decide (b = a) || anyB (V 0 6) (fun k => (decide (V 7 k = a) && decide (V 8 k = b)) || (decide (V 7 k = b) && decide (V 8 k = a)))) = true from (by rw [show (decide (b = a) || anyB (V 0 6) (fun k => (decide (V 7 k = a) && decide (V 8 k = b)) || (decide (V 7 k = b) && decide (V 8 k = a)))) = _ from hc]; decide)), if_neg (by decide)]
      have J55 := lp_pair59 hG e10 ha hb hs g5 hR
      refine jw_iload_n (pc := 45) dX2_pair_45 rfl ?_
      refine jw_iload_n (pc := 46) dX2_pair_46 rfl ?_
      first | refine jx_icmp_ne (pc := 47) (tgt := 54) dX2_pair_47 (by decide) (by omega) (by omega) ?_ ?_ | refine jw_icmp_ne (pc := 47) (tgt := 54) dX2_pair_47 (by decide) ?_ ?_
      · intro h_47
        refine jw_iconst (pc := 54) dX2_pair_54 ic_0 ?_
        refine jw_istore_n (pc := 55) dX2_pair_55 (Nat.le_of_ble_eq_true rfl) rfl ?_
        try dsimp only [jput1, jput2, jkill, jclr, jis2_i, jis2_l, jis2_rs, jis2_rn, cond]
        refine jw_iconst (pc := 56) dX2_pair_56 ic_0 ?_
        refine jw_istore (pc := 57) dX2_pair_57 (Nat.le_of_ble_eq_true rfl) rfl ?_
        try dsimp only [jput1, jput2, jkill, jclr, jis2_i, jis2_l, jis2_rs, jis2_rn, cond]
        first
        | (refine jW.eq ?_ rfl rfl J55; simp [jput1, jent, anyB]; omega)
        | (have hab : decide (b = a) = true := decide_eq_true (by omega); rw [hab] at J55; exact J55)
        | (have hab : decide (b = a) = false := decide_eq_false (by omega); rw [hab] at J55; exact J55)
      · intro h_47
        refine jw_iconst (pc := 50) dX2_pair_50 ic_1 ?_
        refine jw_goto (pc := 51) (tgt := 55) dX2_pair_51 (by decide) ?_
        refine jw_istore_n (pc := 55) dX2_pair_55 (Nat.le_of_ble_eq_true rfl) rfl ?_
        try dsimp only [jput1, jput2, jkill, jclr, jis2_i, jis2_l, jis2_rs, jis2_rn, cond]
        refine jw_iconst (pc := 56) dX2_pair_56 ic_0 ?_
        refine jw_istore (pc := 57) dX2_pair_57 (Nat.le_of_ble_eq_true rfl) rfl ?_
        try dsimp only [jput1, jput2, jkill, jclr, jis2_i, jis2_l, jis2_rs, jis2_rn, cond]
        first
        | (refine jW.eq ?_ rfl rfl J55; simp [jput1, jent, anyB]; omega)
        | (have hab : decide (b = a) = true := decide_eq_true (by omega); rw [hab] at J55; exact J55)
        | (have hab : decide (b = a) = false := decide_eq_false (by omega); rw [hab] at J55; exact J55)
  · have eb : pBegin (chI σ n) n (decide (V 0 6 < 3)) 5 p = .error (5, tkA (chI σ n) n p) := by rw [decide_eq_false hs]; rfl
    refine jw_aload_n (pc := 0) dX2_pair_0 rfl ?_
    refine jw_aload_n (pc := 1) dX2_pair_1 rfl ?_
    refine jx_getRs (pc := 2) (jf_X2_120_1.r) rfl dX2_pair_2 rfl (is_66 hS) (by decide) (h.1.2.2.2.2.2.1) ?_
    refine jx_getIs (pc := 5) (jf_X2_282_5.r) rfl dX2_pair_5 rfl (vis hv) (by decide) (hst) ?_
    refine jw_iconst (pc := 8) dX2_pair_8 ic_3 ?_
    first | refine jx_icmp_ge (pc := 9) (tgt := 16) dX2_pair_9 (by decide) (by omega) (by omega) ?_ ?_ | refine jw_icmp_ge (pc := 9) (tgt := 16) dX2_pair_9 (by decide) ?_ ?_
    · intro h_9
      refine jw_iconst (pc := 16) dX2_pair_16 ic_0 ?_
      refine jw_iconst (pc := 17) dX2_pair_17 ic_5 ?_
      refine jx_cVt (mi1 := mi_X2_begins) (pc := 18) rfl dX2_pair_18 lk_X2_181 rfl fi_X2_begins rfl rfl rfl (by decide) (is_66 hS) (t_X2_begins (b := false) (k := 5) hG h) (by first | decide | omega) rfl rfl (by decide) ?_ ?_
      rotate_left
      · intro M_18 q_18
        obtain ⟨f, e1, e2⟩ := q_18
        cases e1
        refine jx_out67 rfl e2.2.2.2.1 ?_
        exact Or.inr ⟨rfl, _, by unfold lPair; rw [eb]; rfl, e2.j jsm.rf⟩
      intro v_18 M_18 q_18
      obtain ⟨e0, p1, e1, e2, e3⟩ := q_18
      cases e1
    · intro h_9
      omega
end JXP
