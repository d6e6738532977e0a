/-! ===== posts, by the reference ===== -/
theorem jMs.As {M : Mm} {w a op fg : Nat} {V : Vt} {g : Nat → Int32} (h : jMs M w V op fg) (ha : a < 104) : jMs (js_As M a g) w V op fg := ⟨h.1, h.2.1, h.2.2.1.sm (E := fun b => b = a) (jsm.As rfl) (fun b hb q => by omega), h.2.2.2.1, h.2.2.2.2⟩
def viewF (M : Mm) (S : Nat → Nat) (k : Nat) : Nat → Int32 := fun i => if i < k then nI (S i) else jm_A M 95 i
theorem hold_eq {V : Vt} (hw : jWf V) {r op fg set places : Nat} (hset : set < 2 ^ V 0 0) : holdB V (seesS V r op fg) set places = (decide (dif set (seenK (seesS V r op fg) set (V 0 0)) = 0) && decide (dif places (heldK (seesS V r op fg) set (V 0 0)) = 0)) := by
  unfold holdB
  rw [holdQ_all (wf_np hw) hset (fun a _ => sees_lt hw _ _ _ a) (fun a b ha hb => seesS_sym ha hb)]
section JMPO
variable {G : Gh} {M : Mm} {σ : Sg}
theorem lp_mp1 {M9 : Mm} {w t set : Nat} {places b : Int32} {V : Vt} {op fg : Nat} {S : Nat → Nat} {P : Rs → Mm → Prop} (hs : jMs M w V op fg) (hset : set < 1024) (hS9 : ∀ a, a < V 0 0 → jm_A M 95 a = nI (S a) ∧ S a < 1024)
    (fin : jW G mi_X5_postsFor 5 M9 143 [some (jr (some 90)), some (.int places), some (.int (nI t)), some (.int b), some (.int (nI set)), some (.int (nI (heldK S set (V 0 0)))), some (.int (nI (seenK S set (V 0 0)))), none] [] M P) :
    ∀ k : Nat, k ≤ V 0 0 → jW G mi_X5_postsFor 5 M9 81 [some (jr (some 90)), some (.int places), some (.int (nI t)), some (.int b), some (.int (nI set)), some (.int (nI (heldK S set k))), some (.int (nI (seenK S set k))), some (.int (nI k))] [] M P := by
  have hS := hs.1
  have hw := hs.s
  have hn := wf_np hs.w
  refine jW.loop _ (fun k => V 0 0 - k) _ (fun _ => []) (fun _ => M) (fun k hk ih => ?_)
  by_cases hkn : k < V 0 0
  · obtain ⟨e9, l9⟩ := hS9 k hkn
    have hh : set.testBit k = true → heldK S set (k + 1) = heldK S set k ||| S k := fun h => by rw [heldK_s, h]; rfl
    have hg : set.testBit k = true → seenK S set (k + 1) = seenK S set k ||| dif (S k) (2 ^ k) := fun h => by rw [seenK_s, h]; rfl
    refine jw_iload (pc := 81) dX5_postsFor_81 rfl ?_
    refine jw_aload_n (pc := 83) dX5_postsFor_83 rfl ?_
    refine jx_getRs (pc := 84) (jf_X5_380_4.r) rfl dX5_postsFor_84 rfl (is_90 hS) (by decide) (hs.r) ?_
    refine jx_getIs (pc := 87) (jf_X5_218_12.r) rfl dX5_postsFor_87 rfl (wis hw) (by decide) (mi_np hs.V) ?_
    first | refine jx_icmp_ge (pc := 90) (tgt := 143) dX5_postsFor_90 (by decide) (by omega) (by omega) ?_ ?_ | refine jw_icmp_ge (pc := 90) (tgt := 143) dX5_postsFor_90 (by decide) ?_ ?_
    · intro h_90
      omega
    · intro h_90
      refine jw_iload (pc := 93) dX5_postsFor_93 rfl ?_
      refine jw_iload (pc := 95) dX5_postsFor_95 rfl ?_
      refine jx_cSE (mi1 := mi_X5_has) (pc := 97) rfl dX5_postsFor_97 lk_X5_398 rfl fi_X5_has (t_X5_has (by omega) (by omega)) (by first | decide | omega) rfl rfl (by decide) ?_
      first | refine jx_ifb_ne (pc := 100) (tgt := 106) dX5_postsFor_100 (by decide) ?_ ?_ | refine jx_if_ne (pc := 100) (tgt := 106) dX5_postsFor_100 (by decide) (by omega) ?_ ?_ | refine jw_if_ne (pc := 100) (tgt := 106) dX5_postsFor_100 (by decide) ?_ ?_
      · intro h_100
        refine jw_iload (pc := 106) dX5_postsFor_106 rfl ?_
        refine jw_aload_n (pc := 108) dX5_postsFor_108 rfl ?_
        refine jx_getRs (pc := 109) (jf_X5_27_4.r) rfl dX5_postsFor_109 rfl (is_90 hS) (by decide) (sr_90_74 hS) ?_
        refine jw_iload (pc := 112) dX5_postsFor_112 rfl ?_
        refine jx_ialds (pc := 114) dX5_postsFor_114 (ok_95 hS) (nn_95 hS) rfl (by omega) (e9) ?_
        refine jw_ior (pc := 115) dX5_postsFor_115 ?_
        rw [nI_or', ← hh h_100]
        refine jw_istore (pc := 116) dX5_postsFor_116 (Nat.le_of_ble_eq_true rfl) rfl ?_
        try dsimp only [jput1, jput2, jkill, jclr, jis2_i, jis2_l, jis2_rs, jis2_rn, cond]
        refine jw_iload (pc := 118) dX5_postsFor_118 rfl ?_
        refine jw_aload_n (pc := 120) dX5_postsFor_120 rfl ?_
        refine jx_getRs (pc := 121) (jf_X5_27_4.r) rfl dX5_postsFor_121 rfl (is_90 hS) (by decide) (sr_90_74 hS) ?_
        refine jw_iload (pc := 124) dX5_postsFor_124 rfl ?_
        refine jx_ialds (pc := 126) dX5_postsFor_126 (ok_95 hS) (nn_95 hS) rfl (by omega) (e9) ?_
        refine jw_iconst (pc := 127) dX5_postsFor_127 ic_1 ?_
        refine jw_iload (pc := 128) dX5_postsFor_128 rfl ?_
        refine jw_ishl (pc := 130) dX5_postsFor_130 ?_
        rw [shl1 (by omega)]
        refine jw_iconst (pc := 131) dX5_postsFor_131 ic_m1 ?_
        refine jw_ixor (pc := 132) dX5_postsFor_132 ?_
        refine jw_iand (pc := 133) dX5_postsFor_133 ?_
        rw [j_dif l9]
        refine jw_ior (pc := 134) dX5_postsFor_134 ?_
        rw [nI_or', ← hg h_100]
        refine jw_istore (pc := 135) dX5_postsFor_135 (Nat.le_of_ble_eq_true rfl) rfl ?_
        try dsimp only [jput1, jput2, jkill, jclr, jis2_i, jis2_l, jis2_rs, jis2_rn, cond]
        first | refine jx_iinc (pc := 137) dX5_postsFor_137 rfl rfl ?_ | refine jw_iinc (pc := 137) dX5_postsFor_137 rfl rfl rfl ?_
        try dsimp only [jput1, jkill, jclr, jis2_i, jis2_l, jis2_rs, jis2_rn, cond]
        refine jw_goto (pc := 140) (tgt := 81) dX5_postsFor_140 (by decide) ?_
        refine jW.eq ?_ rfl rfl (ih (k + 1) hkn (by omega))
        first
          | rfl
          | (rw [heldK_s, seenK_s, h_100]; rfl)
      · intro h_100
        refine jw_goto (pc := 103) (tgt := 137) dX5_postsFor_103 (by decide) ?_
        first | refine jx_iinc (pc := 137) dX5_postsFor_137 rfl rfl ?_ | refine jw_iinc (pc := 137) dX5_postsFor_137 rfl rfl rfl ?_
        try dsimp only [jput1, jkill, jclr, jis2_i, jis2_l, jis2_rs, jis2_rn, cond]
        refine jw_goto (pc := 140) (tgt := 81) dX5_postsFor_140 (by decide) ?_
        refine jW.eq ?_ rfl rfl (ih (k + 1) hkn (by omega))
        first
          | rfl
          | (rw [heldK_s, seenK_s, h_100]; rfl)
  · have hk' : k = V 0 0 := by omega
    subst hk'
    refine jw_iload (pc := 81) dX5_postsFor_81 rfl ?_
    refine jw_aload_n (pc := 83) dX5_postsFor_83 rfl ?_
    refine jx_getRs (pc := 84) (jf_X5_380_4.r) rfl dX5_postsFor_84 rfl (is_90 hS) (by decide) (hs.r) ?_
    refine jx_getIs (pc := 87) (jf_X5_218_12.r) rfl dX5_postsFor_87 rfl (wis hw) (by decide) (mi_np hs.V) ?_
    first | refine jx_icmp_ge (pc := 90) (tgt := 143) dX5_postsFor_90 (by decide) (by omega) (by omega) ?_ ?_ | refine jw_icmp_ge (pc := 90) (tgt := 143) dX5_postsFor_90 (by decide) ?_ ?_
    · intro h_90
      refine jW.sub ?_ fin
      exact ⟨rfl, rfl, rfl, rfl, rfl, rfl, rfl, trivial⟩
    · intro h_90
      omega
theorem lp_mp2 {M9 : Mm} {w t places : Nat} {V : Vt} {op fg r : Nat} {P : Rs → Mm → Prop} (hs : jMs M w V op fg) (hpl : places < 1024) (hS9 : ∀ a, a < V 0 0 → jm_A M 95 a = nI (seesS V r op fg a) ∧ seesS V r op fg a < 1024)
    (fin : P (.inl (some (.int (optI (postO V (seesS V r op fg) places))))) M) :
    ∀ k : Nat, k ≤ 2 ^ V 0 0 → jW G mi_X5_postsFor 5 M9 37 [some (jr (some 90)), some (.int (nI places)), some (.int (nI t)), some (.int (optI (bestM k (postF V (seesS V r op fg) places)))), some (.int (nI k)), none, none, none] [] M P := by
  have hS := hs.1
  have hw := hs.s
  have hn := wf_np hs.w
  have hpw : 2 ^ V 0 0 ≤ 1024 := p10 hn
  have hc := cnt_le
  refine jW.loop _ (fun k => 2 ^ V 0 0 - k) _ (fun _ => []) (fun _ => M) (fun k hk ih => ?_)
  by_cases hkn : k < 2 ^ V 0 0
  · have hc2 := hc k
    have hl1 : dif places (heldK (seesS V r op fg) k (V 0 0)) < 1024 := dif_lt hpl
    have hl2 : dif k (seenK (seesS V r op fg) k (V 0 0)) < 1024 := dif_lt (by omega)
    have he := hold_eq hs.w (r := r) (op := op) (fg := fg) (places := places) hkn
    have L : ∀ o : Option Nat, bestM k (postF V (seesS V r op fg) places) = o → postF V (seesS V r op fg) places k o = holdB V (seesS V r op fg) k places → jW G mi_X5_postsFor 5 M9 143 [some (jr (some 90)), some (.int (nI places)), some (.int (nI t)), some (.int (optI o)), some (.int (nI k)), some (.int (nI (heldK (seesS V r op fg) k (V 0 0)))), some (.int (nI (seenK (seesS V r op fg) k (V 0 0)))), none] [] M P := by
      intro o ho hm
      have ih2 := ih (k + 1) hkn (by omega)
      rw [bestM_s, ho] at ih2
      refine jw_iload_n (pc := 143) dX5_postsFor_143 rfl ?_
      refine jw_iload (pc := 144) dX5_postsFor_144 rfl ?_
      refine jw_iconst (pc := 146) dX5_postsFor_146 ic_m1 ?_
      refine jw_ixor (pc := 147) dX5_postsFor_147 ?_
      refine jw_iand (pc := 148) dX5_postsFor_148 ?_
      rw [j_dif hpl]
      refine jx_if_ne (pc := 149) (tgt := 165) dX5_postsFor_149 (by decide) (by omega) ?_ ?_
      · intro h_149
        first | refine jx_iinc (pc := 165) dX5_postsFor_165 rfl rfl ?_ | refine jw_iinc (pc := 165) dX5_postsFor_165 rfl rfl rfl ?_
        try dsimp only [jput1, jkill, jclr, jis2_i, jis2_l, jis2_rs, jis2_rn, cond]
        refine jw_goto (pc := 168) (tgt := 37) dX5_postsFor_168 (by decide) ?_
        refine jW.sub ?_ ih2
        first
          | (rw [show postF V (seesS V r op fg) places k o = true by (rw [hm, he, decide_eq_true h_149, decide_eq_true h_159]; rfl)]; exact ⟨rfl, rfl, rfl, rfl, rfl, trivial⟩)
          | (rw [show postF V (seesS V r op fg) places k o = false by (rw [hm, he, decide_eq_false h_149, Bool.and_false])]; exact ⟨rfl, rfl, rfl, rfl, rfl, trivial⟩)
          | (rw [show postF V (seesS V r op fg) places k o = false by (rw [hm, he, decide_eq_false h_159, Bool.false_and])]; exact ⟨rfl, rfl, rfl, rfl, rfl, trivial⟩)
      · intro h_149
        refine jw_iload (pc := 152) dX5_postsFor_152 rfl ?_
        refine jw_iload (pc := 154) dX5_postsFor_154 rfl ?_
        refine jw_iconst (pc := 156) dX5_postsFor_156 ic_m1 ?_
        refine jw_ixor (pc := 157) dX5_postsFor_157 ?_
        refine jw_iand (pc := 158) dX5_postsFor_158 ?_
        rw [j_dif (by omega)]
        refine jx_if_ne (pc := 159) (tgt := 165) dX5_postsFor_159 (by decide) (by omega) ?_ ?_
        · intro h_159
          first | refine jx_iinc (pc := 165) dX5_postsFor_165 rfl rfl ?_ | refine jw_iinc (pc := 165) dX5_postsFor_165 rfl rfl rfl ?_
          try dsimp only [jput1, jkill, jclr, jis2_i, jis2_l, jis2_rs, jis2_rn, cond]
          refine jw_goto (pc := 168) (tgt := 37) dX5_postsFor_168 (by decide) ?_
          refine jW.sub ?_ ih2
          first
            | (rw [show postF V (seesS V r op fg) places k o = true by (rw [hm, he, decide_eq_true h_149, decide_eq_true h_159]; rfl)]; exact ⟨rfl, rfl, rfl, rfl, rfl, trivial⟩)
            | (rw [show postF V (seesS V r op fg) places k o = false by (rw [hm, he, decide_eq_false h_149, Bool.and_false])]; exact ⟨rfl, rfl, rfl, rfl, rfl, trivial⟩)
            | (rw [show postF V (seesS V r op fg) places k o = false by (rw [hm, he, decide_eq_false h_159, Bool.false_and])]; exact ⟨rfl, rfl, rfl, rfl, rfl, trivial⟩)
        · intro h_159
          refine jw_iload (pc := 162) dX5_postsFor_162 rfl ?_
          refine jw_istore_n (pc := 164) dX5_postsFor_164 (Nat.le_of_ble_eq_true rfl) rfl ?_
          try dsimp only [jput1, jput2, jkill, jclr, jis2_i, jis2_l, jis2_rs, jis2_rn, cond]
          first | refine jx_iinc (pc := 165) dX5_postsFor_165 rfl rfl ?_ | refine jw_iinc (pc := 165) dX5_postsFor_165 rfl rfl rfl ?_
          try dsimp only [jput1, jkill, jclr, jis2_i, jis2_l, jis2_rs, jis2_rn, cond]
          refine jw_goto (pc := 168) (tgt := 37) dX5_postsFor_168 (by decide) ?_
          refine jW.sub ?_ ih2
          first
            | (rw [show postF V (seesS V r op fg) places k o = true by (rw [hm, he, decide_eq_true h_149, decide_eq_true h_159]; rfl)]; exact ⟨rfl, rfl, rfl, rfl, rfl, trivial⟩)
            | (rw [show postF V (seesS V r op fg) places k o = false by (rw [hm, he, decide_eq_false h_149, Bool.and_false])]; exact ⟨rfl, rfl, rfl, rfl, rfl, trivial⟩)
            | (rw [show postF V (seesS V r op fg) places k o = false by (rw [hm, he, decide_eq_false h_159, Bool.false_and])]; exact ⟨rfl, rfl, rfl, rfl, rfl, trivial⟩)
    cases hb : bestM k (postF V (seesS V r op fg) places) with
    | none =>
      refine jw_iload (pc := 37) dX5_postsFor_37 rfl ?_
      refine jw_iconst (pc := 39) dX5_postsFor_39 ic_1 ?_
      refine jw_aload_n (pc := 40) dX5_postsFor_40 rfl ?_
      refine jx_getRs (pc := 41) (jf_X5_380_4.r) rfl dX5_postsFor_41 rfl (is_90 hS) (by decide) (hs.r) ?_
      refine jx_getIs (pc := 44) (jf_X5_218_12.r) rfl dX5_postsFor_44 rfl (wis hw) (by decide) (mi_np hs.V) ?_
      refine jw_ishl (pc := 47) dX5_postsFor_47 ?_
      rw [shl1 (by omega)]
      first | refine jx_icmp_ge (pc := 48) (tgt := 171) dX5_postsFor_48 (by decide) (by omega) (by omega) ?_ ?_ | refine jw_icmp_ge (pc := 48) (tgt := 171) dX5_postsFor_48 (by decide) ?_ ?_
      · intro h_48
        omega
      · intro h_48
        refine jw_iload_n (pc := 51) dX5_postsFor_51 rfl ?_
        refine jw_bipush (pc := 52) dX5_postsFor_52 bp_m2 ?_
        refine jw_icmp_eq (pc := 54) (tgt := 72) dX5_postsFor_54 (by decide) ?_ ?_
        · intro h_54
          refine jw_iconst (pc := 72) dX5_postsFor_72 ic_0 ?_
          refine jw_istore (pc := 73) dX5_postsFor_73 (Nat.le_of_ble_eq_true rfl) rfl ?_
          try dsimp only [jput1, jput2, jkill, jclr, jis2_i, jis2_l, jis2_rs, jis2_rn, cond]
          refine jw_iconst (pc := 75) dX5_postsFor_75 ic_0 ?_
          refine jw_istore (pc := 76) dX5_postsFor_76 (Nat.le_of_ble_eq_true rfl) rfl ?_
          try dsimp only [jput1, jput2, jkill, jclr, jis2_i, jis2_l, jis2_rs, jis2_rn, cond]
          refine jw_iconst (pc := 78) dX5_postsFor_78 ic_0 ?_
          refine jw_istore (pc := 79) dX5_postsFor_79 (Nat.le_of_ble_eq_true rfl) rfl ?_
          try dsimp only [jput1, jput2, jkill, jclr, jis2_i, jis2_l, jis2_rs, jis2_rn, cond]
          exact lp_mp1 hs (by omega) hS9 (L none hb (Bool.true_and _)) 0 (Nat.zero_le _)
        · intro h_54
          exact absurd rfl h_54
    | some b =>
      have hb9 : b < 1024 := by have := bestM_lt hb; omega
      have hc1 := hc b
      refine jw_iload (pc := 37) dX5_postsFor_37 rfl ?_
      refine jw_iconst (pc := 39) dX5_postsFor_39 ic_1 ?_
      refine jw_aload_n (pc := 40) dX5_postsFor_40 rfl ?_
      refine jx_getRs (pc := 41) (jf_X5_380_4.r) rfl dX5_postsFor_41 rfl (is_90 hS) (by decide) (hs.r) ?_
      refine jx_getIs (pc := 44) (jf_X5_218_12.r) rfl dX5_postsFor_44 rfl (wis hw) (by decide) (mi_np hs.V) ?_
      refine jw_ishl (pc := 47) dX5_postsFor_47 ?_
      rw [shl1 (by omega)]
      first | refine jx_icmp_ge (pc := 48) (tgt := 171) dX5_postsFor_48 (by decide) (by omega) (by omega) ?_ ?_ | refine jw_icmp_ge (pc := 48) (tgt := 171) dX5_postsFor_48 (by decide) ?_ ?_
      · intro h_48
        omega
      · intro h_48
        refine jw_iload_n (pc := 51) dX5_postsFor_51 rfl ?_
        refine jw_bipush (pc := 52) dX5_postsFor_52 bp_m2 ?_
        refine jw_icmp_eq (pc := 54) (tgt := 72) dX5_postsFor_54 (by decide) ?_ ?_
        · intro h_54
          exact absurd h_54 (nI_m2 (by omega))
        · intro h_54
          refine jw_iload (pc := 57) dX5_postsFor_57 rfl ?_
          refine jx_cSE (mi1 := mi_X5_bits) (pc := 59) rfl dX5_postsFor_59 lk_X5_461 rfl fi_X5_bits (t_X5_bits (by omega)) (by first | decide | omega) rfl rfl (by decide) ?_
          refine jw_iload_n (pc := 62) dX5_postsFor_62 rfl ?_
          refine jx_cSE (mi1 := mi_X5_bits) (pc := 63) rfl dX5_postsFor_63 lk_X5_461 rfl fi_X5_bits (t_X5_bits (by omega)) (by first | decide | omega) rfl rfl (by simp only [List.map_cons, List.map_nil, List.sum_cons, List.sum_nil, Value.category]; decide) ?_
          first | refine jx_icmp_lt (pc := 66) (tgt := 72) dX5_postsFor_66 (by decide) (by omega) (by omega) ?_ ?_ | refine jw_icmp_lt (pc := 66) (tgt := 72) dX5_postsFor_66 (by decide) ?_ ?_
          · intro h_66
            refine jw_iconst (pc := 72) dX5_postsFor_72 ic_0 ?_
            refine jw_istore (pc := 73) dX5_postsFor_73 (Nat.le_of_ble_eq_true rfl) rfl ?_
            try dsimp only [jput1, jput2, jkill, jclr, jis2_i, jis2_l, jis2_rs, jis2_rn, cond]
            refine jw_iconst (pc := 75) dX5_postsFor_75 ic_0 ?_
            refine jw_istore (pc := 76) dX5_postsFor_76 (Nat.le_of_ble_eq_true rfl) rfl ?_
            try dsimp only [jput1, jput2, jkill, jclr, jis2_i, jis2_l, jis2_rs, jis2_rn, cond]
            refine jw_iconst (pc := 78) dX5_postsFor_78 ic_0 ?_
            refine jw_istore (pc := 79) dX5_postsFor_79 (Nat.le_of_ble_eq_true rfl) rfl ?_
            try dsimp only [jput1, jput2, jkill, jclr, jis2_i, jis2_l, jis2_rs, jis2_rn, cond]
            exact lp_mp1 hs (by omega) hS9 (L (some b) hb (by show (decide (cnt k < cnt b) && _) = _; rw [decide_eq_true (by omega)]; exact Bool.true_and _)) 0 (Nat.zero_le _)
          · intro h_66
            refine jw_goto (pc := 69) (tgt := 165) dX5_postsFor_69 (by decide) ?_
            first | refine jx_iinc (pc := 165) dX5_postsFor_165 rfl rfl ?_ | refine jw_iinc (pc := 165) dX5_postsFor_165 rfl rfl rfl ?_
            try dsimp only [jput1, jkill, jclr, jis2_i, jis2_l, jis2_rs, jis2_rn, cond]
            refine jw_goto (pc := 168) (tgt := 37) dX5_postsFor_168 (by decide) ?_
            refine jW.eq ?_ rfl rfl (ih (k + 1) hkn (by omega))
            rw [bestM_s, hb, show postF V (seesS V r op fg) places k (some b) = false by (unfold postF; simp; omega)]; rfl
  · have hk' : k = 2 ^ V 0 0 := by omega
    subst hk'
    refine jw_iload (pc := 37) dX5_postsFor_37 rfl ?_
    refine jw_iconst (pc := 39) dX5_postsFor_39 ic_1 ?_
    refine jw_aload_n (pc := 40) dX5_postsFor_40 rfl ?_
    refine jx_getRs (pc := 41) (jf_X5_380_4.r) rfl dX5_postsFor_41 rfl (is_90 hS) (by decide) (hs.r) ?_
    refine jx_getIs (pc := 44) (jf_X5_218_12.r) rfl dX5_postsFor_44 rfl (wis hw) (by decide) (mi_np hs.V) ?_
    refine jw_ishl (pc := 47) dX5_postsFor_47 ?_
    rw [shl1 (by omega)]
    first | refine jx_icmp_ge (pc := 48) (tgt := 171) dX5_postsFor_48 (by decide) (by omega) (by omega) ?_ ?_ | refine jw_icmp_ge (pc := 48) (tgt := 171) dX5_postsFor_48 (by decide) ?_ ?_
    · intro h_48
      refine jw_iload_n (pc := 171) dX5_postsFor_171 rfl ?_
      refine jw_ireturn (pc := 172) dX5_postsFor_172 rfl (rfl) ?_
      exact fin
    · intro h_48
      omega
theorem t_X5_postsFor {w t places : Nat} {V : Vt} {op fg : Nat} (hs : jMs M w V op fg) (ho : op < 2 ^ 31) (hf : fg < 2 ^ 31) (hpl : places < 1024) (ht : t < 2 ^ 30) : jE G mi_X5_postsFor 5 [jr (some 90), .int (nI places), .int (nI t)] M (some (.int (optI (postO V (seesS V (rangeV V t) op fg) places)))) (js_As M 95 (viewF M (seesS V (rangeV V t) op fg) (V 0 0))) := by
  have hS := hs.1
  have hn := wf_np hs.w
  refine jE.of (by decide) rfl (Nat.le_of_ble_eq_true rfl) ?_
  have J : ∀ k : Nat, k ≤ V 0 0 → jW G mi_X5_postsFor 5 M 2 [some (jr (some 90)), some (.int (nI places)), some (.int (nI t)), some (.int (nI k)), none, none, none, none] [] (js_As M 95 (viewF M (seesS V (rangeV V t) op fg) k)) (fun r M' => r = .inl (some (.int (optI (postO V (seesS V (rangeV V t) op fg) places)))) ∧ M' = js_As M 95 (viewF M (seesS V (rangeV V t) op fg) (V 0 0))) := by
    refine jW.loop _ (fun k => V 0 0 - k) _ (fun _ => []) (fun k => js_As M 95 (viewF M (seesS V (rangeV V t) op fg) k)) (fun k hk ih => ?_)
    have hs1 := hs.As (a := 95) (g := viewF M (seesS V (rangeV V t) op fg) k) (by decide)
    have hw := hs1.s
    by_cases hkn : k < V 0 0
    ·
      refine jw_iload_n (pc := 2) dX5_postsFor_2 rfl ?_
      refine jw_aload_n (pc := 3) dX5_postsFor_3 rfl ?_
      refine jx_getRs (pc := 4) (jf_X5_380_4.r) rfl dX5_postsFor_4 rfl (is_90 hS) (by decide) (hs1.r) ?_
      refine jx_getIs (pc := 7) (jf_X5_218_12.r) rfl dX5_postsFor_7 rfl (wis hw) (by decide) (mi_np hs1.V) ?_
      first | refine jx_icmp_ge (pc := 10) (tgt := 31) dX5_postsFor_10 (by decide) (by omega) (by omega) ?_ ?_ | refine jw_icmp_ge (pc := 10) (tgt := 31) dX5_postsFor_10 (by decide) ?_ ?_
      · intro h_10
        omega
      · intro h_10
        refine jw_aload_n (pc := 13) dX5_postsFor_13 rfl ?_
        refine jx_getRs (pc := 14) (jf_X5_27_4.r) rfl dX5_postsFor_14 rfl (is_90 hS) (by decide) (sr_90_74 hS) ?_
        refine jw_iload_n (pc := 17) dX5_postsFor_17 rfl ?_
        refine jw_aload_n (pc := 18) dX5_postsFor_18 rfl ?_
        refine jw_iload_n (pc := 19) dX5_postsFor_19 rfl ?_
        refine jw_iload_n (pc := 20) dX5_postsFor_20 rfl ?_
        refine jx_cVE (mi1 := mi_X5_seenFrom) (pc := 21) rfl dX5_postsFor_21 lk_X5_417 rfl fi_X5_seenFrom rfl rfl rfl (by decide) (is_90 hS) (t_X5_seenFrom hs1 ho hf ht hkn) (by first | decide | omega) rfl rfl (by simp only [List.map_cons, List.map_nil, List.sum_cons, List.sum_nil, cat_i, cat_l, jr_cat]; decide) ?_
        refine jx_iast (pc := 24) dX5_postsFor_24 (by decide) (ok_95 hS) (nn_95 hS) rfl (by omega) ?_
        first | refine jx_iinc (pc := 25) dX5_postsFor_25 rfl rfl ?_ | refine jw_iinc (pc := 25) dX5_postsFor_25 rfl rfl rfl ?_
        try dsimp only [jput1, jkill, jclr, jis2_i, jis2_l, jis2_rs, jis2_rn, cond]
        refine jw_goto (pc := 28) (tgt := 2) dX5_postsFor_28 (by decide) ?_
        refine jW.eq rfl rfl ?_ (ih (k + 1) hkn (by omega))
        rw [jAs_A]
        refine jAs_cg (fun i => ?_)
        unfold viewF
        by_cases e : i = k
        · rw [if_pos e, if_pos (by omega), e]
        · rw [if_neg e]
          by_cases e2 : i < k
          · rw [if_pos e2, if_pos (by omega)]
          · rw [if_neg e2, if_neg (by omega)]
    · have hk' : k = V 0 0 := by omega
      subst hk'
      refine jw_iload_n (pc := 2) dX5_postsFor_2 rfl ?_
      refine jw_aload_n (pc := 3) dX5_postsFor_3 rfl ?_
      refine jx_getRs (pc := 4) (jf_X5_380_4.r) rfl dX5_postsFor_4 rfl (is_90 hS) (by decide) (hs1.r) ?_
      refine jx_getIs (pc := 7) (jf_X5_218_12.r) rfl dX5_postsFor_7 rfl (wis hw) (by decide) (mi_np hs1.V) ?_
      first | refine jx_icmp_ge (pc := 10) (tgt := 31) dX5_postsFor_10 (by decide) (by omega) (by omega) ?_ ?_ | refine jw_icmp_ge (pc := 10) (tgt := 31) dX5_postsFor_10 (by decide) ?_ ?_
      · intro h_10
        refine jw_bipush (pc := 31) dX5_postsFor_31 bp_m2 ?_
        refine jw_istore_n (pc := 33) dX5_postsFor_33 (Nat.le_of_ble_eq_true rfl) rfl ?_
        try dsimp only [jput1, jput2, jkill, jclr, jis2_i, jis2_l, jis2_rs, jis2_rn, cond]
        refine jw_iconst (pc := 34) dX5_postsFor_34 ic_0 ?_
        refine jw_istore (pc := 35) dX5_postsFor_35 (Nat.le_of_ble_eq_true rfl) rfl ?_
        try dsimp only [jput1, jput2, jkill, jclr, jis2_i, jis2_l, jis2_rs, jis2_rn, cond]
        exact lp_mp2 hs1 hpl (fun a ha => ⟨by rw [jA_rd]; unfold viewF; rw [if_pos ha], sees_lt hs.w _ _ _ _⟩) ⟨rfl, rfl⟩ 0 (Nat.zero_le _)
      · intro h_10
        omega
  refine jw_iconst (pc := 0) dX5_postsFor_0 ic_0 ?_
  refine jw_istore_n (pc := 1) dX5_postsFor_1 (Nat.le_of_ble_eq_true rfl) rfl ?_
  try dsimp only [jput1, jput2, jkill, jclr, jis2_i, jis2_l, jis2_rs, jis2_rn, cond]
  refine jW.eq rfl rfl ?_ (J 0 (Nat.zero_le _))
  exact jAs_0 (fun i => rfl)
theorem t_X5_refusesPosts {p t : Int32} {o : Option Vt} (h : jMm M σ) (ho : sv σ = o) : jE G mi_X5_refusesPosts 3 [jr (some 90), .int p, .int t] M (some (.int (postW o p t))) M := by
  have hS := h.1
  refine jE.of (by decide) rfl (Nat.le_of_ble_eq_true rfl) ?_
  cases o with
  | none =>
    refine jw_aload_n (pc := 0) dX5_refusesPosts_0 rfl ?_
    refine jx_getRs (pc := 1) (jf_X5_380_4.r) rfl dX5_refusesPosts_1 rfl (is_90 hS) (by decide) (h.no ho) ?_
    refine jw_ifnonnull (pc := 4) (tgt := 11) dX5_refusesPosts_4 (by decide) (fun ax h => by cases h) (fun h => ?_)
    clear h
    refine jw_iconst (pc := 7) dX5_refusesPosts_7 ic_1 ?_
    refine jw_goto (pc := 8) (tgt := 40) dX5_refusesPosts_8 (by decide) ?_
    refine jw_ireturn (pc := 40) dX5_refusesPosts_40 rfl (rfl) ?_
    exact ⟨rfl, rfl⟩
  | some V =>
    obtain ⟨w, hs, hN⟩ := h.so ho
    have hw := hs.s
    have hn := wf_np hs.w
    have hpw : 2 ^ V 0 0 ≤ 1024 := p10 hn
    refine jw_aload_n (pc := 0) dX5_refusesPosts_0 rfl ?_
    refine jx_getRs (pc := 1) (jf_X5_380_4.r) rfl dX5_refusesPosts_1 rfl (is_90 hS) (by decide) (hs.r) ?_
    refine jw_ifnonnull (pc := 4) (tgt := 11) dX5_refusesPosts_4 (by decide) (fun ax h => ?_) (fun h => by cases h)
    clear h
    refine jw_iload_n (pc := 11) dX5_refusesPosts_11 rfl ?_
    refine jw_if_lt (pc := 12) (tgt := 35) dX5_refusesPosts_12 (by decide) ?_ ?_
    · intro h_12
      refine jw_iconst (pc := 35) dX5_refusesPosts_35 ic_2 ?_
      refine jw_goto (pc := 36) (tgt := 40) dX5_refusesPosts_36 (by decide) ?_
      refine jw_ireturn (pc := 40) dX5_refusesPosts_40 rfl (rfl) ?_
      refine ⟨?_, rfl⟩
      rw [postW_s]
      first
        | (rw [ix_neg h_12]; rfl)
        | (rw [ix_ge (by omega) h_25]; rfl)
        | (rw [h_32, Bool.and_false]; rfl)
        | (rw [ix_in (by omega) h_12 h_25, h_32]; rfl)
    · intro h_12
      refine jw_iload_n (pc := 15) dX5_refusesPosts_15 rfl ?_
      refine jw_iconst (pc := 16) dX5_refusesPosts_16 ic_1 ?_
      refine jw_aload_n (pc := 17) dX5_refusesPosts_17 rfl ?_
      refine jx_getRs (pc := 18) (jf_X5_380_4.r) rfl dX5_refusesPosts_18 rfl (is_90 hS) (by decide) (hs.r) ?_
      refine jx_getIs (pc := 21) (jf_X5_218_12.r) rfl dX5_refusesPosts_21 rfl (wis hw) (by decide) (mi_np hs.V) ?_
      refine jw_ishl (pc := 24) dX5_refusesPosts_24 ?_
      rw [shl1 (by omega)]
      refine jw_icmp_ge (pc := 25) (tgt := 35) dX5_refusesPosts_25 (by decide) ?_ ?_
      · intro h_25
        refine jw_iconst (pc := 35) dX5_refusesPosts_35 ic_2 ?_
        refine jw_goto (pc := 36) (tgt := 40) dX5_refusesPosts_36 (by decide) ?_
        refine jw_ireturn (pc := 40) dX5_refusesPosts_40 rfl (rfl) ?_
        refine ⟨?_, rfl⟩
        rw [postW_s]
        first
          | (rw [ix_neg h_12]; rfl)
          | (rw [ix_ge (by omega) h_25]; rfl)
          | (rw [h_32, Bool.and_false]; rfl)
          | (rw [ix_in (by omega) h_12 h_25, h_32]; rfl)
      · intro h_25
        refine jw_iload_n (pc := 28) dX5_refusesPosts_28 rfl ?_
        refine jx_cSE (mi1 := mi_X5_isStep) (pc := 29) rfl dX5_refusesPosts_29 lk_X5_411 rfl fi_X5_isStep (t_X5_isStep) (by first | decide | omega) rfl rfl (by decide) ?_
        first | refine jx_ifb_ne (pc := 32) (tgt := 39) dX5_refusesPosts_32 (by decide) ?_ ?_ | refine jx_if_ne (pc := 32) (tgt := 39) dX5_refusesPosts_32 (by decide) (by omega) ?_ ?_ | refine jw_if_ne (pc := 32) (tgt := 39) dX5_refusesPosts_32 (by decide) ?_ ?_
        · intro h_32
          refine jw_iconst (pc := 39) dX5_refusesPosts_39 ic_0 ?_
          refine jw_ireturn (pc := 40) dX5_refusesPosts_40 rfl (rfl) ?_
          refine ⟨?_, rfl⟩
          rw [postW_s]
          first
            | (rw [ix_neg h_12]; rfl)
            | (rw [ix_ge (by omega) h_25]; rfl)
            | (rw [h_32, Bool.and_false]; rfl)
            | (rw [ix_in (by omega) h_12 h_25, h_32]; rfl)
        · intro h_32
          refine jw_iconst (pc := 35) dX5_refusesPosts_35 ic_2 ?_
          refine jw_goto (pc := 36) (tgt := 40) dX5_refusesPosts_36 (by decide) ?_
          refine jw_ireturn (pc := 40) dX5_refusesPosts_40 rfl (rfl) ?_
          refine ⟨?_, rfl⟩
          rw [postW_s]
          first
            | (rw [ix_neg h_12]; rfl)
            | (rw [ix_ge (by omega) h_25]; rfl)
            | (rw [h_32, Bool.and_false]; rfl)
            | (rw [ix_in (by omega) h_12 h_25, h_32]; rfl)
theorem lp_mq28 {M9 M0 M1 : Mm} {x1 x2 x3 : Option Value} {o : Option Nat} {q : Int32 × Int32} (hM : jMm M1 σ) (hf : jfm M0 M1) (ho : ∀ b, o = some b → b < 1024) (hq : q = (aloneI o, 0)) : jW G mi_X5_posts 9 M9 28 [some (jr (some 90)), x1, x2, x3, none] [.int (optI o)] M1 (jQm M0 σ q) := by
  have hc := cnt_le
  have hS := hM.1
  cases o with
  | none =>
    refine jw_istore (pc := 28) dX5_posts_28 (Nat.le_of_ble_eq_true rfl) rfl ?_
    try dsimp only [jput1, jput2, jkill, jclr, jis2_i, jis2_l, jis2_rs, jis2_rn, cond]
    refine jw_aload_n (pc := 30) dX5_posts_30 rfl ?_
    refine jw_iload (pc := 31) dX5_posts_31 rfl ?_
    refine jw_bipush (pc := 33) dX5_posts_33 bp_m2 ?_
    refine jw_icmp_ne (pc := 35) (tgt := 43) dX5_posts_35 (by decide) ?_ ?_
    · intro h_35
      exact absurd rfl h_35
    · intro h_35
      refine jw_bipush (pc := 38) dX5_posts_38 bp_m2 ?_
      refine jw_goto (pc := 40) (tgt := 48) dX5_posts_40 (by decide) ?_
      refine jw_iconst (pc := 48) dX5_posts_48 ic_0 ?_
      refine jx_cVi (mi1 := mi_X5_told) (pc := 49) rfl dX5_posts_49 lk_X5_66 rfl fi_X5_told rfl rfl rfl (by decide) (is_90 hS) (t_X5_told0 hM) (by first | decide | omega) rfl rfl (by decide) ?_
      intro x_49 M_49 q_49
      refine jw_ireturn (pc := 52) dX5_posts_52 rfl (rfl) ?_
      exact qm hq hf q_49
  | some b =>
    have hb := ho b rfl
    refine jw_istore (pc := 28) dX5_posts_28 (Nat.le_of_ble_eq_true rfl) rfl ?_
    try dsimp only [jput1, jput2, jkill, jclr, jis2_i, jis2_l, jis2_rs, jis2_rn, cond]
    refine jw_aload_n (pc := 30) dX5_posts_30 rfl ?_
    refine jw_iload (pc := 31) dX5_posts_31 rfl ?_
    refine jw_bipush (pc := 33) dX5_posts_33 bp_m2 ?_
    refine jw_icmp_ne (pc := 35) (tgt := 43) dX5_posts_35 (by decide) ?_ ?_
    · intro h_35
      refine jw_iload (pc := 43) dX5_posts_43 rfl ?_
      refine jx_cSE (mi1 := mi_X5_bits) (pc := 45) rfl dX5_posts_45 lk_X5_461 rfl fi_X5_bits (t_X5_bits hb) (by first | decide | omega) rfl rfl (by simp only [List.map_cons, List.map_nil, List.sum_cons, List.sum_nil, cat_i, cat_l, jr_cat]; decide) ?_
      refine jw_iconst (pc := 48) dX5_posts_48 ic_0 ?_
      refine jx_cVi (mi1 := mi_X5_told) (pc := 49) rfl dX5_posts_49 lk_X5_66 rfl fi_X5_told rfl rfl rfl (by decide) (is_90 hS) (t_X5_told0 hM) (by first | decide | omega) rfl rfl (by decide) ?_
      intro x_49 M_49 q_49
      refine jw_ireturn (pc := 52) dX5_posts_52 rfl (rfl) ?_
      exact qm hq hf q_49
    · intro h_35
      exact absurd h_35 (nI_m2 (by omega))
theorem t_X5_posts {p t : Int32} (h : jMm M σ) : jT G mi_X5_posts 9 [jr (some 90), .int p, .int t] M (jQm M σ (q_posts σ p t)) := by
  have hS := h.1
  refine jT.of (by decide) rfl (Nat.le_of_ble_eq_true rfl) ?_
  refine jw_aload_n (pc := 0) dX5_posts_0 rfl ?_
  refine jw_iconst (pc := 1) dX5_posts_1 ic_0 ?_
  refine jx_putI (pc := 2) jf_X5_56_4 rfl dX5_posts_2 rfl rfl (is_90 hS) (by decide) ?_
  have hM := mthr (x := nI 0) h
  have hf : jfm M (js_I M 90 49 (nI 0)) := jsm.I (by decide)
  generalize js_I M 90 49 (nI 0) = M0 at hM hf ⊢
  clear hS
  have hS := hM.1
  refine jw_aload_n (pc := 5) dX5_posts_5 rfl ?_
  refine jw_iload_n (pc := 6) dX5_posts_6 rfl ?_
  refine jw_iload_n (pc := 7) dX5_posts_7 rfl ?_
  refine jx_cVE (mi1 := mi_X5_refusesPosts) (pc := 8) rfl dX5_posts_8 lk_X5_464 rfl fi_X5_refusesPosts rfl rfl rfl (by decide) (is_90 hS) (t_X5_refusesPosts (o := sv σ) hM rfl) (by first | decide | omega) rfl rfl (by decide) ?_
  refine jw_istore_n (pc := 11) dX5_posts_11 (Nat.le_of_ble_eq_true rfl) rfl ?_
  try dsimp only [jput1, jput2, jkill, jclr, jis2_i, jis2_l, jis2_rs, jis2_rn, cond]
  refine jw_iload_n (pc := 12) dX5_posts_12 rfl ?_
  refine jw_if_le (pc := 13) (tgt := 22) dX5_posts_13 (by decide) ?_ ?_
  · intro h_13
    have h_13 := wc_le (postW_c _ _ _) h_13
    obtain ⟨V, kp, kt, hv9, hkp, rfl, hkt, rfl⟩ := postW_0 h_13
    obtain ⟨w, hs, hN⟩ := hM.so hv9
    have hw := hs.s
    have hpw : 2 ^ V 0 0 ≤ 1024 := p10 (wf_np hs.w)
    refine jw_aload_n (pc := 22) dX5_posts_22 rfl ?_
    refine jw_iload_n (pc := 23) dX5_posts_23 rfl ?_
    refine jw_iload_n (pc := 24) dX5_posts_24 rfl ?_
    refine jx_cVE (mi1 := mi_X5_postsFor) (pc := 25) rfl dX5_posts_25 lk_X5_467 rfl fi_X5_postsFor rfl rfl rfl (by decide) (is_90 hS) (t_X5_postsFor hs (by decide) (by decide) (by omega) (by omega)) (by first | decide | omega) rfl rfl (by decide) ?_
    exact lp_mq28 (mscr hM (jsm.As (by unfold msa; omega)) hS) (hf.tr (jsm.As (by decide))) (fun b hb => postO_lt hs.w hb) (by unfold q_posts; rw [if_pos h_13, vv_s hv9, iN_n (by omega), iN_n (by omega)])
  · intro h_13
    refine jw_aload_n (pc := 16) dX5_posts_16 rfl ?_
    refine jw_iload_n (pc := 17) dX5_posts_17 rfl ?_
    refine jx_cVi (mi1 := mi_X5_refused) (pc := 18) rfl dX5_posts_18 lk_X5_62 rfl fi_X5_refused rfl rfl rfl (by decide) (is_90 hS) (t_X5_refused hM) (by first | decide | omega) rfl rfl (by decide) ?_
    intro x_18 M_18 q_18
    refine jw_ireturn (pc := 21) dX5_posts_21 rfl (rfl) ?_
    refine qm ?_ hf q_18
    unfold q_posts
    rw [if_neg (fun e => h_13 (by rw [e]; decide +kernel))]
theorem t_X5_postsAt {p t : Int32} (h : jMm M σ) : jT G mi_X5_postsAt 9 [jr (some 90), .int p, .int t] M (jQm M σ (q_postsAt σ p t)) := by
  have hS := h.1
  refine jT.of (by decide) rfl (Nat.le_of_ble_eq_true rfl) ?_
  refine jw_aload_n (pc := 0) dX5_postsAt_0 rfl ?_
  refine jw_iconst (pc := 1) dX5_postsAt_1 ic_0 ?_
  refine jx_putI (pc := 2) jf_X5_56_4 rfl dX5_postsAt_2 rfl rfl (is_90 hS) (by decide) ?_
  have hM := mthr (x := nI 0) h
  have hf : jfm M (js_I M 90 49 (nI 0)) := jsm.I (by decide)
  generalize js_I M 90 49 (nI 0) = M0 at hM hf ⊢
  clear hS
  have hS := hM.1
  refine jw_aload_n (pc := 5) dX5_postsAt_5 rfl ?_
  refine jw_iload_n (pc := 6) dX5_postsAt_6 rfl ?_
  refine jw_iload_n (pc := 7) dX5_postsAt_7 rfl ?_
  refine jx_cVE (mi1 := mi_X5_refusesPosts) (pc := 8) rfl dX5_postsAt_8 lk_X5_464 rfl fi_X5_refusesPosts rfl rfl rfl (by decide) (is_90 hS) (t_X5_refusesPosts (o := sv σ) hM rfl) (by first | decide | omega) rfl rfl (by decide) ?_
  refine jw_istore_n (pc := 11) dX5_postsAt_11 (Nat.le_of_ble_eq_true rfl) rfl ?_
  try dsimp only [jput1, jput2, jkill, jclr, jis2_i, jis2_l, jis2_rs, jis2_rn, cond]
  refine jw_iload_n (pc := 12) dX5_postsAt_12 rfl ?_
  refine jw_if_le (pc := 13) (tgt := 24) dX5_postsAt_13 (by decide) ?_ ?_
  · intro h_13
    have h_13 := wc_le (postW_c _ _ _) h_13
    obtain ⟨V, kp, kt, hv9, hkp, rfl, hkt, rfl⟩ := postW_0 h_13
    obtain ⟨w, hs, hN⟩ := hM.so hv9
    have hw := hs.s
    have hpw : 2 ^ V 0 0 ≤ 1024 := p10 (wf_np hs.w)
    refine jw_aload_n (pc := 24) dX5_postsAt_24 rfl ?_
    refine jw_aload_n (pc := 25) dX5_postsAt_25 rfl ?_
    refine jw_iload_n (pc := 26) dX5_postsAt_26 rfl ?_
    refine jw_iload_n (pc := 27) dX5_postsAt_27 rfl ?_
    refine jx_cVE (mi1 := mi_X5_postsFor) (pc := 28) rfl dX5_postsAt_28 lk_X5_467 rfl fi_X5_postsFor rfl rfl rfl (by decide) (is_90 hS) (t_X5_postsFor hs (by decide) (by decide) (by omega) (by omega)) (by first | decide | omega) rfl rfl (by simp only [List.map_cons, List.map_nil, List.sum_cons, List.sum_nil, cat_i, cat_l, jr_cat]; decide) ?_
    refine jw_iconst (pc := 31) dX5_postsAt_31 ic_0 ?_
    refine jx_cVi (mi1 := mi_X5_told) (pc := 32) rfl dX5_postsAt_32 lk_X5_66 rfl fi_X5_told rfl rfl rfl (by decide) (is_90 hS) (t_X5_told0 (mscr hM (jsm.As (by unfold msa; omega)) hS)) (by first | decide | omega) rfl rfl (by decide) ?_
    intro x_32 M_32 q_32
    refine jw_ireturn (pc := 35) dX5_postsAt_35 rfl (rfl) ?_
    first
      | (refine qm ?_ hf q_18; unfold q_postsAt; rw [if_neg (fun e => h_13 (by rw [e]; decide +kernel))]; done)
      | (refine qm ?_ (hf.tr (jsm.As (by decide))) q_32; unfold q_postsAt; rw [if_pos h_13, vv_s hv9, iN_n (by omega), iN_n (by omega)])
  · intro h_13
    refine jw_aload_n (pc := 16) dX5_postsAt_16 rfl ?_
    refine jw_iload_n (pc := 17) dX5_postsAt_17 rfl ?_
    refine jx_cVi (mi1 := mi_X5_refused) (pc := 18) rfl dX5_postsAt_18 lk_X5_62 rfl fi_X5_refused rfl rfl rfl (by decide) (is_90 hS) (t_X5_refused hM) (by first | decide | omega) rfl rfl (by decide) ?_
    intro x_18 M_18 q_18
    refine jw_goto (pc := 21) (tgt := 35) dX5_postsAt_21 (by decide) ?_
    refine jw_ireturn (pc := 35) dX5_postsAt_35 rfl (rfl) ?_
    first
      | (refine qm ?_ hf q_18; unfold q_postsAt; rw [if_neg (fun e => h_13 (by rw [e]; decide +kernel))]; done)
      | (refine qm ?_ (hf.tr (jsm.As (by decide))) q_32; unfold q_postsAt; rw [if_pos h_13, vv_s hv9, iN_n (by omega), iN_n (by omega)])
end JMPO
