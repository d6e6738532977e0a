/-! ===== x: reach ===== -/
def lawR (V : Vt) (σ : Sg) (people i s : Nat) : Bool := decide (i = 0) || lawS V σ people (sn σ 0 + i) s
def initR (V : Vt) (σ : Sg) (people i s : Nat) : Bool := decide (i = 0) && decide (s = nowS V σ people)
def rinB (V : Vt) (σ : Sg) (people i s i' b : Nat) : Bool := if i' ≤ i then rch V σ people i' b else if i' = i + 1 then (lawR V σ people (i + 1) b && anyB s (fun a => rch V σ people i a && linkS V people a b)) else false
theorem anyB_s (n : Nat) (P : Nat → Bool) : anyB (n + 1) P = (anyB n P || P n) := rfl
theorem lawR_s (V : Vt) (σ : Sg) (people i b : Nat) : lawR V σ people (i + 1) b = lawS V σ people (sn σ 0 + (i + 1)) b := by unfold lawR; rw [decide_eq_false (Nat.succ_ne_zero i), Bool.false_or]
theorem rin_init (V : Vt) (σ : Sg) (people i' b : Nat) : initR V σ people i' b = rinB V σ people 0 0 i' b := by
  unfold rinB initR
  by_cases e : i' ≤ 0
  · rw [if_pos e, show i' = 0 by omega, decide_eq_true rfl, Bool.true_and]; rfl
  · rw [if_neg e, decide_eq_false (by omega), Bool.false_and]
    split
    · rw [show anyB 0 (fun a => rch V σ people 0 a && linkS V people a b) = false from rfl, Bool.and_false]
    · rfl
theorem rin_next (V : Vt) (σ : Sg) (people i i' b : Nat) : rinB V σ people i (V 0 0 ^ cnt people) i' b = rinB V σ people (i + 1) 0 i' b := by
  unfold rinB
  by_cases e : i' ≤ i
  · rw [if_pos e, if_pos (by omega)]
  · rw [if_neg e]
    by_cases e2 : i' = i + 1
    · rw [if_pos e2, if_pos (by omega), e2, rch_s, lawR_s]
    · rw [if_neg e2, if_neg (by omega)]
      split
      · rw [show anyB 0 (fun a => rch V σ people (i + 1) a && linkS V people a b) = false from rfl, Bool.and_false]
      · rfl
theorem cnd_link {V : Vt} {people s b : Nat} (hb : b < V 0 0 ^ cnt people) : cndB V people (dig (V 0 0) (cnt people) s) 0 0 b = linkS V people s b := by
  rw [Bool.eq_iff_iff, cnd_iff, Nat.sub_zero, Nat.div_eq_of_lt hb]
  unfold linkS
  rw [allB_iff]
  exact ⟨fun h k hk => h.2 k (Nat.zero_le _) hk, fun h => ⟨rfl, fun k _ hk => h k hk⟩⟩
theorem rin_t {V : Vt} {σ : Sg} {people i s i' b : Nat} (hb : b < V 0 0 ^ cnt people) (hr : rch V σ people i s = true) : goR V people (dig (V 0 0) (cnt people) s) 0 0 i (rinB V σ people i s) (lawR V σ people) i' b = rinB V σ people i (s + 1) i' b := by
  unfold goR
  rw [cnd_link hb]
  unfold rinB
  by_cases e : i' ≤ i
  · rw [if_pos e, if_pos e, decide_eq_false (by omega), Bool.false_and, Bool.false_and, Bool.or_false]
  · rw [if_neg e, if_neg e]
    by_cases e2 : i' = i + 1
    · rw [if_pos e2, if_pos e2, decide_eq_true e2, Bool.true_and, e2, anyB_s, hr, Bool.true_and, Bool.and_comm (linkS V people s b), ← Bool.and_or_distrib_left]
    · rw [if_neg e2, if_neg e2, decide_eq_false e2, Bool.false_and, Bool.false_and]; rfl
theorem rin_f {V : Vt} {σ : Sg} {people i s i' b : Nat} (hr : rch V σ people i s = false) : rinB V σ people i s i' b = rinB V σ people i (s + 1) i' b := by
  unfold rinB
  rw [anyB_s, hr, Bool.false_and, Bool.or_false]
theorem rin_at (V : Vt) (σ : Sg) (people i s b : Nat) : rinB V σ people i s i b = rch V σ people i b := by unfold rinB; rw [if_pos (Nat.le_refl _)]
def jPh (M : Mm) (V : Vt) (σ : Sg) (people i s : Nat) : Prop := ∀ i' s', s' < V 0 0 ^ cnt people → (i' < i ∨ (i' = i ∧ s' < s)) → jm_A M 84 (1000 * i' + s') = jb (lawR V σ people i' s') ∧ jm_A M 85 (1000 * i' + s') = jb (initR V σ people i' s')
def mvs (a : Nat) : Prop := a = 79 ∨ a = 82 ∨ a = 84 ∨ a = 85
def sprE (a : Nat) : Prop := a = 82 ∨ a = 85
theorem spr_s {a : Nat} (h : sprE a) : mvs a := by unfold sprE at h; unfold mvs; omega
theorem mvs_E {a : Nat} (h : mvs a) : mvE a := by unfold mvs at h; unfold mvE; omega
theorem ph_step {M1 M2 : Mm} {V : Vt} {σ : Sg} {people i s : Nat} (h : jPh M1 V σ people i s) (e84 : ∀ k, jm_A M2 84 k = jm_A M1 84 k) (e85 : ∀ k, jm_A M2 85 k = jm_A M1 85 k) (hN : V 0 0 ^ cnt people ≤ 1000) (hs : s < V 0 0 ^ cnt people) : jPh (js_A (js_A M2 84 (1000 * i + s) (jb (lawR V σ people i s))) 85 (1000 * i + s) (jb (initR V σ people i s))) V σ people i (s + 1) := by
  intro i' s' hs' hc
  by_cases e : i' = i ∧ s' = s
  · obtain ⟨e1, e2⟩ := e
    subst e1; subst e2
    exact ⟨(jA_oth2 (by decide)).trans jA_same, jA_same⟩
  · obtain ⟨q1, q2⟩ := h i' s' hs' (by omega)
    refine ⟨(jA_oth2 (by decide)).trans ((jA_oth (by omega)).trans ((e84 _).trans q1)), (jA_oth (by omega)).trans ((jA_oth2 (by decide)).trans ((e85 _).trans q2))⟩
section JXR2
variable {G : Gh} {M : Mm} {σ : Sg}
theorem t_X1_spread {people s i : Nat} {V : Vt} {R L : Nat → Nat → Bool} (hv9 : sv σ = some V) (hi : i ≤ 29) (hs1 : s < V 0 0 ^ cnt people) (h : jXx M σ) (hm : jMv M V people) (hL : jRw M 84 (V 0 0 ^ cnt people) L) (hR : jRw M 85 (V 0 0 ^ cnt people) R) : jT G mi_X1_spread 7 [jr (some 64), .int (nI s), .int (nI i)] M (jPv (fun M' => jsm sprE M M' ∧ jSh M' ∧ jRw M' 85 (V 0 0 ^ cnt people) (goR V people (dig (V 0 0) (cnt people) s) 0 0 i R L))) := by
  have hS := h.1
  have hw9 := (h.2.1.2 V hv9).1
  have h0 : 0 < V 0 0 := (h.2.1.1.2 V hv9).1
  have h1000 := pw3 (wf_np hw9) hm.1.2
  have hc3 := hm.1.2
  obtain ⟨v, hs, hN⟩ := h.so hv9
  have hg : jsm (fun a => a = 82) M (js_As M 82 (plcG M 82 (V 0 0) (cnt people) s (cnt people))) := jsm.As rfl
  have hE : ∀ a, a = 82 → mvE a := fun a q => by unfold mvE; omega
  have hGo : jGo (js_As M 82 (plcG M 82 (V 0 0) (cnt people) s (cnt people))) σ V people (dig (V 0 0) (cnt people) s) L := ⟨h.mv hg hE hS, hm.fr hS hg hE, fun j hj => ⟨plcG_r hj, dig_lt h0⟩, hL.fr (by decide) hS hg (by decide)⟩
  have hR2 : jRw (js_As M 82 (plcG M 82 (V 0 0) (cnt people) s (cnt people))) 85 (V 0 0 ^ cnt people) R := hR.fr (by decide) hS hg (by decide)
  refine jT.of (by decide) rfl (Nat.le_of_ble_eq_true rfl) ?_
  refine jw_aload_n (pc := 0) dX1_spread_0 rfl ?_
  refine jw_iload_n (pc := 1) dX1_spread_1 rfl ?_
  refine jw_aload_n (pc := 2) dX1_spread_2 rfl ?_
  refine jx_getRs (pc := 3) (jf_X1_52_0.r) rfl dX1_spread_3 rfl (is_64 hS) (by decide) (sr_64_17 hS) ?_
  refine jx_cVEv (mi1 := mi_X1_places) (pc := 6) rfl dX1_spread_6 lk_X1_297 rfl fi_X1_places rfl rfl rfl (by decide) (is_64 hS) (t_X1_places hs hm.2.1 hc3 h0 (by omega) (by decide) (ok_82 hS) (nn_82 hS)) (by first | decide | omega) rfl rfl (by decide) ?_
  refine jw_aload_n (pc := 9) dX1_spread_9 rfl ?_
  refine jw_iconst (pc := 10) dX1_spread_10 ic_0 ?_
  refine jw_iconst (pc := 11) dX1_spread_11 ic_0 ?_
  refine jw_iload_n (pc := 12) dX1_spread_12 rfl ?_
  refine jx_cVv (mi1 := mi_X1_goesOn) (pc := 13) rfl dX1_spread_13 lk_X1_315 rfl fi_X1_goesOn rfl rfl rfl (by decide) (is_64 hS) (t_X1_goesOn hv9 hi (cnt people) 0 0 _ R (Nat.zero_add _) (by show 0 < 1; decide) hGo hR2) (by first | decide | omega) rfl rfl (by decide) ?_
  intro M_13 q_13
  refine jw_return (pc := 16) dX1_spread_16 rfl ?_
  obtain ⟨q1, q2, q3⟩ := q_13
  exact ⟨rfl, (hg.wk (fun a q => by unfold sprE; omega)).tr (q1.wk (fun a q => by unfold sprE; omega)), q2, q3⟩
theorem lp_r87 {M9 M3 : Mm} {people i s s0 : Nat} {V : Vt} {P : Rs → Mm → Prop} (hS : jSh M3) (hi : i ≤ 30) (hs1 : s < 1000) {b : Bool} (ih : jW G mi_X1_reach 8 M9 15 [some (jr (some 64)), some (.int (nI s0)), some (.int (nI i)), some (.int (nI (s + 1)))] [] (js_A M3 85 (1000 * i + s) (jb b)) P) : jW G mi_X1_reach 8 M9 87 [some (jr (some 64)), some (.int (nI s0)), some (.int (nI i)), some (.int (nI s))] [.int (jb b), .int (nI (1000 * i + s)), jr (some 85)] M3 P := by
  refine jx_zast (pc := 87) dX1_reach_87 (by decide) (ok_85 hS) (nn_85 hS) rfl (by omega) (jnar_b _) ?_
  first | refine jx_iinc (pc := 88) dX1_reach_88 rfl rfl ?_ | refine jw_iinc (pc := 88) dX1_reach_88 rfl rfl rfl ?_
  try dsimp only [jput1, jkill, jclr, jis2_i, jis2_l, jis2_rs, jis2_rn, cond]
  refine jw_goto (pc := 91) (tgt := 15) dX1_reach_91 (by decide) ?_
  exact ih
theorem lp_r61 {M9 M2 : Mm} {people i s : Nat} {V : Vt} {P : Rs → Mm → Prop} (hS : jSh M2) (hi : i ≤ 30) (hs1 : s < 1000) (hs2 : nowS V σ people < 1000) {b : Bool} (ih : jW G mi_X1_reach 8 M9 15 [some (jr (some 64)), some (.int (nI (nowS V σ people))), some (.int (nI i)), some (.int (nI (s + 1)))] [] (js_A (js_A M2 84 (1000 * i + s) (jb b)) 85 (1000 * i + s) (jb (initR V σ people i s))) P) : jW G mi_X1_reach 8 M9 61 [some (jr (some 64)), some (.int (nI (nowS V σ people))), some (.int (nI i)), some (.int (nI s))] [.int (jb b), .int (nI (1000 * i + s)), jr (some 84)] M2 P := by
  refine jx_zast (pc := 61) dX1_reach_61 (by decide) (ok_84 hS) (nn_84 hS) rfl (by omega) (jnar_b _) ?_
  have hS3 : jSh (js_A M2 84 (1000 * i + s) (jb b)) := hS
  have L := lp_r87 (G := G) (people := people) (V := V) hS3 hi hs1 ih
  refine jw_aload_n (pc := 62) dX1_reach_62 rfl ?_
  refine jx_getRs (pc := 63) (jf_X1_62_0.r) rfl dX1_reach_63 rfl (is_64 hS) (by decide) (sr_64_22 hS) ?_
  refine jw_sipush (pc := 66) dX1_reach_66 sp_1000 ?_
  refine jw_iload_n (pc := 69) dX1_reach_69 rfl ?_
  first | refine jx_imul (pc := 70) dX1_reach_70 ?_ | refine jw_imul (pc := 70) dX1_reach_70 ?_
  refine jw_iload_n (pc := 71) dX1_reach_71 rfl ?_
  first | refine jx_iadd (pc := 72) dX1_reach_72 ?_ | refine jw_iadd (pc := 72) dX1_reach_72 ?_
  refine jw_iload_n (pc := 73) dX1_reach_73 rfl ?_
  refine jx_if_ne (pc := 74) (tgt := 86) dX1_reach_74 (by decide) (by omega) ?_ ?_
  · intro h_74
    refine jw_iconst (pc := 86) dX1_reach_86 ic_0 ?_
    refine jw_ff ?_ L
    unfold initR
    first | rw [decide_eq_false h_74, Bool.false_and] | rw [decide_eq_false h_79, Bool.and_false]
  · intro h_74
    refine jw_iload_n (pc := 77) dX1_reach_77 rfl ?_
    refine jw_iload_n (pc := 78) dX1_reach_78 rfl ?_
    first | refine jx_icmp_ne (pc := 79) (tgt := 86) dX1_reach_79 (by decide) (by omega) (by omega) ?_ ?_ | refine jw_icmp_ne (pc := 79) (tgt := 86) dX1_reach_79 (by decide) ?_ ?_
    · intro h_79
      refine jw_iconst (pc := 86) dX1_reach_86 ic_0 ?_
      refine jw_ff ?_ L
      unfold initR
      first | rw [decide_eq_false h_74, Bool.false_and] | rw [decide_eq_false h_79, Bool.and_false]
    · intro h_79
      refine jw_iconst (pc := 82) dX1_reach_82 ic_1 ?_
      refine jw_goto (pc := 83) (tgt := 87) dX1_reach_83 (by decide) ?_
      refine jw_tt ?_ L
      unfold initR; rw [decide_eq_true h_74, decide_eq_true h_79]; rfl
theorem t_X1_reach {people : Nat} {V : Vt} (h : jXx M σ) (hv9 : sv σ = some V) (hm : jMv M V people) : jT G mi_X1_reach 8 [jr (some 64)] M (jPv (fun M' => jXx M' σ ∧ jfx M M' ∧ jMv M' V people ∧ jRw M' 85 (V 0 0 ^ cnt people) (rch V σ people) ∧ jRw M' 84 (V 0 0 ^ cnt people) (lawR V σ people))) := by
  have hS := h.1
  have hw9 := (h.2.1.2 V hv9).1
  have h0 : 0 < V 0 0 := (h.2.1.1.2 V hv9).1
  have hnp := wf_np hw9
  have hst := (h.2.1.2 V hv9).2.2.2.1
  have hc3 := hm.1.2
  have h1000 := pw3 hnp hc3
  have hp5 := mv_n hw9 hm.1.1
  have ho := (h.2.1.2 V hv9).2.1
  have hns : nowS V σ people < V 0 0 ^ cnt people := codeN_lt (fun k hk => ho _ (bit_lt hm.1.1 (mv_ok hp5 hk).2.1))
  refine jT.of (by decide) rfl (Nat.le_of_ble_eq_true rfl) ?_
  -- the second pass
  have K2 : ∀ i : Nat, i ≤ 29 → (∀ M', jsm mvs M M' → jXx M' σ → jMv M' V people → jRw M' 84 (V 0 0 ^ cnt people) (lawR V σ people) → jRw M' 85 (V 0 0 ^ cnt people) (rinB V σ people (i + 1) 0) → jW G mi_X1_reach 8 M 102 [some (jr (some 64)), none, some (.int (nI (i + 1))), none] [] M' (jPv (fun M' => jXx M' σ ∧ jfx M M' ∧ jMv M' V people ∧ jRw M' 85 (V 0 0 ^ cnt people) (rch V σ people) ∧ jRw M' 84 (V 0 0 ^ cnt people) (lawR V σ people)))) →
      ∀ x : Nat × Mm, (x.1 ≤ V 0 0 ^ cnt people ∧ jsm mvs M x.2 ∧ jXx x.2 σ ∧ jMv x.2 V people ∧ jRw x.2 84 (V 0 0 ^ cnt people) (lawR V σ people) ∧ jRw x.2 85 (V 0 0 ^ cnt people) (rinB V σ people i x.1)) → jW G mi_X1_reach 8 M 110 [some (jr (some 64)), none, some (.int (nI i)), some (.int (nI x.1))] [] x.2 (jPv (fun M' => jXx M' σ ∧ jfx M M' ∧ jMv M' V people ∧ jRw M' 85 (V 0 0 ^ cnt people) (rch V σ people) ∧ jRw M' 84 (V 0 0 ^ cnt people) (lawR V σ people))) := by
    intro i hi fin
    refine jW.loop (σ := Nat × Mm) _ (fun x => V 0 0 ^ cnt people - x.1) _ (fun _ => []) (fun x => x.2) (fun x hI ih => ?_)
    obtain ⟨s, M1⟩ := x
    obtain ⟨hs1, hf, hX, hm1, hL1, hR1⟩ := hI
    dsimp only at hs1 hf hX hm1 hL1 hR1 ih ⊢
    have hS := hX.1
    by_cases hkn : s < V 0 0 ^ cnt people
    · have hrd := hR1 i s (by omega) hkn
      rw [rin_at] at hrd
      refine jw_iload_n (pc := 110) dX1_reach_110 rfl ?_
      refine jw_aload_n (pc := 111) dX1_reach_111 rfl ?_
      refine jx_getIs (pc := 112) (jf_X1_290_0.r) rfl dX1_reach_112 rfl (is_64 hS) (by decide) (hm1.2.2.1) ?_
      first | refine jx_icmp_ge (pc := 115) (tgt := 148) dX1_reach_115 (by decide) (by omega) (by omega) ?_ ?_ | refine jw_icmp_ge (pc := 115) (tgt := 148) dX1_reach_115 (by decide) ?_ ?_
      · intro h_115
        omega
      · intro h_115
        refine jw_aload_n (pc := 118) dX1_reach_118 rfl ?_
        refine jx_getRs (pc := 119) (jf_X1_62_0.r) rfl dX1_reach_119 rfl (is_64 hS) (by decide) (sr_64_22 hS) ?_
        refine jw_sipush (pc := 122) dX1_reach_122 sp_1000 ?_
        refine jw_iload_n (pc := 125) dX1_reach_125 rfl ?_
        first | refine jx_imul (pc := 126) dX1_reach_126 ?_ | refine jw_imul (pc := 126) dX1_reach_126 ?_
        refine jw_iload_n (pc := 127) dX1_reach_127 rfl ?_
        first | refine jx_iadd (pc := 128) dX1_reach_128 ?_ | refine jw_iadd (pc := 128) dX1_reach_128 ?_
        refine jx_zalds (pc := 129) dX1_reach_129 (ok_85 hS) (nn_85 hS) rfl (by omega) (hrd) ?_
        first | refine jx_ifb_ne (pc := 130) (tgt := 136) dX1_reach_130 (by decide) ?_ ?_ | refine jx_if_ne (pc := 130) (tgt := 136) dX1_reach_130 (by decide) (by omega) ?_ ?_ | refine jw_if_ne (pc := 130) (tgt := 136) dX1_reach_130 (by decide) ?_ ?_
        · intro h_130
          refine jw_aload_n (pc := 136) dX1_reach_136 rfl ?_
          refine jw_iload_n (pc := 137) dX1_reach_137 rfl ?_
          refine jw_iload_n (pc := 138) dX1_reach_138 rfl ?_
          refine jx_cVv (mi1 := mi_X1_spread) (pc := 139) rfl dX1_reach_139 lk_X1_311 rfl fi_X1_spread rfl rfl rfl (by decide) (is_64 hS) (t_X1_spread hv9 hi hkn hX hm1 hL1 hR1) (by first | decide | omega) rfl rfl (by decide) ?_
          intro M_139 q_139
          first | refine jx_iinc (pc := 142) dX1_reach_142 rfl rfl ?_ | refine jw_iinc (pc := 142) dX1_reach_142 rfl rfl rfl ?_
          try dsimp only [jput1, jkill, jclr, jis2_i, jis2_l, jis2_rs, jis2_rn, cond]
          refine jw_goto (pc := 145) (tgt := 110) dX1_reach_145 (by decide) ?_
          first
            | (obtain ⟨q1, q2, q3⟩ := q_139
               have hX2 := hX.mv q1 (fun a z => mvs_E (spr_s z)) q2
               refine ih (s + 1, M_139) ⟨hkn, hf.tr (q1.wk (fun a => spr_s)), hX2, hm1.fr hS q1 (fun a z => mvs_E (spr_s z)), hL1.fr (by decide) hS q1 (by unfold sprE; omega), fun i' b hi' hb' => ?_⟩ (by dsimp only; omega)
               dsimp only
               rw [q3 i' b hi' hb', rin_t hb' h_130])
            | (refine ih (s + 1, M1) ⟨hkn, hf, hX, hm1, hL1, fun i' b hi' hb' => ?_⟩ (by dsimp only; omega)
               dsimp only
               rw [hR1 i' b hi' hb', rin_f h_130])
        · intro h_130
          refine jw_goto (pc := 133) (tgt := 142) dX1_reach_133 (by decide) ?_
          first | refine jx_iinc (pc := 142) dX1_reach_142 rfl rfl ?_ | refine jw_iinc (pc := 142) dX1_reach_142 rfl rfl rfl ?_
          try dsimp only [jput1, jkill, jclr, jis2_i, jis2_l, jis2_rs, jis2_rn, cond]
          refine jw_goto (pc := 145) (tgt := 110) dX1_reach_145 (by decide) ?_
          first
            | (obtain ⟨q1, q2, q3⟩ := q_139
               have hX2 := hX.mv q1 (fun a z => mvs_E (spr_s z)) q2
               refine ih (s + 1, M_139) ⟨hkn, hf.tr (q1.wk (fun a => spr_s)), hX2, hm1.fr hS q1 (fun a z => mvs_E (spr_s z)), hL1.fr (by decide) hS q1 (by unfold sprE; omega), fun i' b hi' hb' => ?_⟩ (by dsimp only; omega)
               dsimp only
               rw [q3 i' b hi' hb', rin_t hb' h_130])
            | (refine ih (s + 1, M1) ⟨hkn, hf, hX, hm1, hL1, fun i' b hi' hb' => ?_⟩ (by dsimp only; omega)
               dsimp only
               rw [hR1 i' b hi' hb', rin_f h_130])
    · have hk' : s = V 0 0 ^ cnt people := by omega
      subst hk'
      refine jw_iload_n (pc := 110) dX1_reach_110 rfl ?_
      refine jw_aload_n (pc := 111) dX1_reach_111 rfl ?_
      refine jx_getIs (pc := 112) (jf_X1_290_0.r) rfl dX1_reach_112 rfl (is_64 hS) (by decide) (hm1.2.2.1) ?_
      first | refine jx_icmp_ge (pc := 115) (tgt := 148) dX1_reach_115 (by decide) (by omega) (by omega) ?_ ?_ | refine jw_icmp_ge (pc := 115) (tgt := 148) dX1_reach_115 (by decide) ?_ ?_
      · intro h_115
        first | refine jx_iinc (pc := 148) dX1_reach_148 rfl rfl ?_ | refine jw_iinc (pc := 148) dX1_reach_148 rfl rfl rfl ?_
        try dsimp only [jput1, jkill, jclr, jis2_i, jis2_l, jis2_rs, jis2_rn, cond]
        refine jw_goto (pc := 151) (tgt := 102) dX1_reach_151 (by decide) ?_
        refine jW.sub ?_ (fin M1 hf hX hm1 hL1 (fun i' b hi' hb' => by rw [hR1 i' b hi' hb', rin_next]))
        exact ⟨rfl, rfl, trivial⟩
      · intro h_115
        omega
  have K3 : ∀ x : Nat × Mm, (x.1 ≤ 30 ∧ jsm mvs M x.2 ∧ jXx x.2 σ ∧ jMv x.2 V people ∧ jRw x.2 84 (V 0 0 ^ cnt people) (lawR V σ people) ∧ jRw x.2 85 (V 0 0 ^ cnt people) (rinB V σ people x.1 0)) → jW G mi_X1_reach 8 M 102 [some (jr (some 64)), none, some (.int (nI x.1)), none] [] x.2 (jPv (fun M' => jXx M' σ ∧ jfx M M' ∧ jMv M' V people ∧ jRw M' 85 (V 0 0 ^ cnt people) (rch V σ people) ∧ jRw M' 84 (V 0 0 ^ cnt people) (lawR V σ people))) := by
    refine jW.loop (σ := Nat × Mm) _ (fun x => 30 - x.1) _ (fun _ => []) (fun x => x.2) (fun x hI ih => ?_)
    obtain ⟨i, M1⟩ := x
    obtain ⟨hi, hf, hX, hm1, hL1, hR1⟩ := hI
    dsimp only at hi hf hX hm1 hL1 hR1 ih ⊢
    have hS := hX.1
    by_cases hkn : i < 30
    ·
      refine jw_iload_n (pc := 102) dX1_reach_102 rfl ?_
      refine jw_bipush (pc := 103) dX1_reach_103 bp_30 ?_
      first | refine jx_icmp_ge (pc := 105) (tgt := 154) dX1_reach_105 (by decide) (by omega) (by omega) ?_ ?_ | refine jw_icmp_ge (pc := 105) (tgt := 154) dX1_reach_105 (by decide) ?_ ?_
      · intro h_105
        omega
      · intro h_105
        refine jw_iconst (pc := 108) dX1_reach_108 ic_0 ?_
        refine jw_istore_n (pc := 109) dX1_reach_109 (Nat.le_of_ble_eq_true rfl) rfl ?_
        try dsimp only [jput1, jput2, jkill, jclr, jis2_i, jis2_l, jis2_rs, jis2_rn, cond]
        exact K2 i (by omega) (fun M' q1 q2 q3 q4 q5 => ih (i + 1, M') ⟨hkn, q1, q2, q3, q4, q5⟩ (by dsimp only; omega)) (0, M1) ⟨Nat.zero_le _, hf, hX, hm1, hL1, hR1⟩
    · have hk' : i = 30 := by omega
      subst hk'
      refine jw_iload_n (pc := 102) dX1_reach_102 rfl ?_
      refine jw_bipush (pc := 103) dX1_reach_103 bp_30 ?_
      first | refine jx_icmp_ge (pc := 105) (tgt := 154) dX1_reach_105 (by decide) (by omega) (by omega) ?_ ?_ | refine jw_icmp_ge (pc := 105) (tgt := 154) dX1_reach_105 (by decide) ?_ ?_
      · intro h_105
        refine jw_return (pc := 154) dX1_reach_154 rfl ?_
        refine ⟨rfl, hX, frmv hf (fun a => mvs_E), hm1, fun i' b hi' hb' => ?_, hL1⟩
        rw [hR1 i' b hi' hb']
        unfold rinB; rw [if_pos hi']
      · intro h_105
        omega
  have K1 : ∀ i : Nat, i ≤ 30 → (∀ M', jsm mvs M M' → jXx M' σ → jMv M' V people → jPh M' V σ people (i + 1) 0 → jW G mi_X1_reach 8 M 7 [some (jr (some 64)), some (.int (nI (nowS V σ people))), some (.int (nI (i + 1))), none] [] M' (jPv (fun M' => jXx M' σ ∧ jfx M M' ∧ jMv M' V people ∧ jRw M' 85 (V 0 0 ^ cnt people) (rch V σ people) ∧ jRw M' 84 (V 0 0 ^ cnt people) (lawR V σ people)))) →
      ∀ x : Nat × Mm, (x.1 ≤ V 0 0 ^ cnt people ∧ jsm mvs M x.2 ∧ jXx x.2 σ ∧ jMv x.2 V people ∧ jPh x.2 V σ people i x.1) → jW G mi_X1_reach 8 M 15 [some (jr (some 64)), some (.int (nI (nowS V σ people))), some (.int (nI i)), some (.int (nI x.1))] [] x.2 (jPv (fun M' => jXx M' σ ∧ jfx M M' ∧ jMv M' V people ∧ jRw M' 85 (V 0 0 ^ cnt people) (rch V σ people) ∧ jRw M' 84 (V 0 0 ^ cnt people) (lawR V σ people))) := by
    intro i hi fin
    refine jW.loop (σ := Nat × Mm) _ (fun x => V 0 0 ^ cnt people - x.1) _ (fun _ => []) (fun x => x.2) (fun x hI ih => ?_)
    obtain ⟨s, M1⟩ := x
    obtain ⟨hs1, hf, hX, hm1, hp1⟩ := hI
    dsimp only at hs1 hf hX hm1 hp1 ih ⊢
    have hS := hX.1
    obtain ⟨v, hs, hN⟩ := hX.so hv9
    have hv := hs.s
    by_cases hkn : s < V 0 0 ^ cnt people
    · have step : ∀ M2, jsm (fun a => a = 79) M1 M2 → jSh M2 → jW G mi_X1_reach 8 M 61 [some (jr (some 64)), some (.int (nI (nowS V σ people))), some (.int (nI i)), some (.int (nI s))] [.int (jb (lawR V σ people i s)), .int (nI (1000 * i + s)), jr (some 84)] M2 (jPv (fun M' => jXx M' σ ∧ jfx M M' ∧ jMv M' V people ∧ jRw M' 85 (V 0 0 ^ cnt people) (rch V σ people) ∧ jRw M' 84 (V 0 0 ^ cnt people) (lawR V σ people))) := by
        intro M2 g2 hS2
        have hz := hS.2.2.2
        have g3 : jsm mvs M1 (js_A (js_A M2 84 (1000 * i + s) (jb (lawR V σ people i s))) 85 (1000 * i + s) (jb (initR V σ people i s))) := ((g2.wk (fun a q => by unfold mvs; omega)).tr (jsm.A (by unfold mvs; omega))).tr (jsm.A (by unfold mvs; omega))
        have hS3 : jSh (js_A (js_A M2 84 (1000 * i + s) (jb (lawR V σ people i s))) 85 (1000 * i + s) (jb (initR V σ people i s))) := hS2
        refine lp_r61 hS2 hi (by omega) (by omega) (ih (s + 1, _) ⟨hkn, hf.tr g3, hX.mv g3 (fun a => mvs_E) hS3, hm1.fr hS g3 (fun a => mvs_E), ?_⟩ (by dsimp only; omega))
        exact ph_step hp1 (fun k => (g2.2.2 84 (by omega) (by decide)).2.2.2.2.2.1 k) (fun k => (g2.2.2 85 (by omega) (by decide)).2.2.2.2.2.1 k) h1000 hkn
      have hg79 : jsm (fun a => a = 79) M1 (js_As M1 79 (allG M1 V σ people s (cnt people))) := jsm.As rfl
      have hs2 : jXs (js_As M1 79 (allG M1 V σ people s (cnt people))) v V := hs.fr hg79 hS (fun a q z => by omega) rfl (by decide) (by decide) (by decide) (by decide)
      refine jw_iload_n (pc := 15) dX1_reach_15 rfl ?_
      refine jw_aload_n (pc := 16) dX1_reach_16 rfl ?_
      refine jx_getIs (pc := 17) (jf_X1_290_0.r) rfl dX1_reach_17 rfl (is_64 hS) (by decide) (hm1.2.2.1) ?_
      first | refine jx_icmp_ge (pc := 20) (tgt := 94) dX1_reach_20 (by decide) (by omega) (by omega) ?_ ?_ | refine jw_icmp_ge (pc := 20) (tgt := 94) dX1_reach_20 (by decide) ?_ ?_
      · intro h_20
        omega
      · intro h_20
        refine jw_aload_n (pc := 23) dX1_reach_23 rfl ?_
        refine jx_getRs (pc := 24) (jf_X1_58_0.r) rfl dX1_reach_24 rfl (is_64 hS) (by decide) (sr_64_21 hS) ?_
        refine jw_sipush (pc := 27) dX1_reach_27 sp_1000 ?_
        refine jw_iload_n (pc := 30) dX1_reach_30 rfl ?_
        first | refine jx_imul (pc := 31) dX1_reach_31 ?_ | refine jw_imul (pc := 31) dX1_reach_31 ?_
        refine jw_iload_n (pc := 32) dX1_reach_32 rfl ?_
        first | refine jx_iadd (pc := 33) dX1_reach_33 ?_ | refine jw_iadd (pc := 33) dX1_reach_33 ?_
        refine jw_iload_n (pc := 34) dX1_reach_34 rfl ?_
        refine jx_if_eq (pc := 35) (tgt := 56) dX1_reach_35 (by decide) (by omega) ?_ ?_
        · intro h_35
          refine jw_iconst (pc := 56) dX1_reach_56 ic_1 ?_
          refine jw_goto (pc := 57) (tgt := 61) dX1_reach_57 (by decide) ?_
          first
            | (refine jw_tt (b := lawR V σ people i s) ?_ (step M1 jsm.rf hS)
               unfold lawR; rw [decide_eq_true h_35]; rfl)
            | (refine jw_tt (b := lawR V σ people i s) ?_ (step _ hg79 hS)
               unfold lawR lawS; rw [h_53, Bool.or_true])
        · intro h_35
          refine jw_aload_n (pc := 38) dX1_reach_38 rfl ?_
          refine jw_aload_n (pc := 39) dX1_reach_39 rfl ?_
          refine jw_iload_n (pc := 40) dX1_reach_40 rfl ?_
          refine jx_cVE (mi1 := mi_X1_allIn) (pc := 41) rfl dX1_reach_41 lk_X1_307 rfl fi_X1_allIn rfl rfl rfl (by decide) (is_64 hS) (t_X1_allIn hX hv9 hm1 h0 (by omega)) (by first | decide | omega) rfl rfl (by simp only [List.map_cons, List.map_nil, List.sum_cons, List.sum_nil, cat_i, cat_l, jr_cat]; decide) ?_
          refine jw_aload_n (pc := 44) dX1_reach_44 rfl ?_
          refine jx_getIs (pc := 45) (jf_X1_131_0.r) rfl dX1_reach_45 rfl (is_64 hS) (by decide) (hN.1) ?_
          refine jw_iload_n (pc := 48) dX1_reach_48 rfl ?_
          first | refine jx_iadd (pc := 49) dX1_reach_49 ?_ | refine jw_iadd (pc := 49) dX1_reach_49 ?_
          refine jx_cVE (mi1 := mi_X1_isLawfulAt) (pc := 50) rfl dX1_reach_50 lk_X1_221 rfl fi_X1_isLawfulAt rfl rfl rfl (by decide) (is_64 hS) (t_X1_isLawfulAt (t := sn σ 0 + i) (pl := plS V σ people s) hs2 ⟨ok_79 hS, nn_79 hS, fun q hq => ⟨allG_r hq, plS_lt h0 ho hq⟩⟩ (by omega)) (by first | decide | omega) rfl rfl (by simp only [List.map_cons, List.map_nil, List.sum_cons, List.sum_nil, cat_i, cat_l, jr_cat]; decide) ?_
          first | refine jx_ifb_eq (pc := 53) (tgt := 60) dX1_reach_53 (by decide) ?_ ?_ | refine jx_if_eq (pc := 53) (tgt := 60) dX1_reach_53 (by decide) (by omega) ?_ ?_ | refine jw_if_eq (pc := 53) (tgt := 60) dX1_reach_53 (by decide) ?_ ?_
          · intro h_53
            refine jw_iconst (pc := 60) dX1_reach_60 ic_0 ?_
            refine jw_ff (b := lawR V σ people i s) ?_ (step _ hg79 hS)
            unfold lawR lawS; rw [h_53, decide_eq_false h_35]; rfl
          · intro h_53
            refine jw_iconst (pc := 56) dX1_reach_56 ic_1 ?_
            refine jw_goto (pc := 57) (tgt := 61) dX1_reach_57 (by decide) ?_
            first
              | (refine jw_tt (b := lawR V σ people i s) ?_ (step M1 jsm.rf hS)
                 unfold lawR; rw [decide_eq_true h_35]; rfl)
              | (refine jw_tt (b := lawR V σ people i s) ?_ (step _ hg79 hS)
                 unfold lawR lawS; rw [h_53, Bool.or_true])
    · have hk' : s = V 0 0 ^ cnt people := by omega
      subst hk'
      refine jw_iload_n (pc := 15) dX1_reach_15 rfl ?_
      refine jw_aload_n (pc := 16) dX1_reach_16 rfl ?_
      refine jx_getIs (pc := 17) (jf_X1_290_0.r) rfl dX1_reach_17 rfl (is_64 hS) (by decide) (hm1.2.2.1) ?_
      first | refine jx_icmp_ge (pc := 20) (tgt := 94) dX1_reach_20 (by decide) (by omega) (by omega) ?_ ?_ | refine jw_icmp_ge (pc := 20) (tgt := 94) dX1_reach_20 (by decide) ?_ ?_
      · intro h_20
        first | refine jx_iinc (pc := 94) dX1_reach_94 rfl rfl ?_ | refine jw_iinc (pc := 94) dX1_reach_94 rfl rfl rfl ?_
        try dsimp only [jput1, jkill, jclr, jis2_i, jis2_l, jis2_rs, jis2_rn, cond]
        refine jw_goto (pc := 97) (tgt := 7) dX1_reach_97 (by decide) ?_
        refine jW.sub ?_ (fin M1 hf hX hm1 (fun i' s' hs' hc => hp1 i' s' hs' (by omega)))
        exact ⟨rfl, rfl, rfl, trivial⟩
      · intro h_20
        omega
  have K0 : ∀ x : Nat × Mm, (x.1 ≤ 31 ∧ jsm mvs M x.2 ∧ jXx x.2 σ ∧ jMv x.2 V people ∧ jPh x.2 V σ people x.1 0) → jW G mi_X1_reach 8 M 7 [some (jr (some 64)), some (.int (nI (nowS V σ people))), some (.int (nI x.1)), none] [] x.2 (jPv (fun M' => jXx M' σ ∧ jfx M M' ∧ jMv M' V people ∧ jRw M' 85 (V 0 0 ^ cnt people) (rch V σ people) ∧ jRw M' 84 (V 0 0 ^ cnt people) (lawR V σ people))) := by
    refine jW.loop (σ := Nat × Mm) _ (fun x => 31 - x.1) _ (fun _ => []) (fun x => x.2) (fun x hI ih => ?_)
    obtain ⟨i, M1⟩ := x
    obtain ⟨hi, hf, hX, hm1, hp1⟩ := hI
    dsimp only at hi hf hX hm1 hp1 ih ⊢
    have hS := hX.1
    by_cases hkn : i < 31
    ·
      refine jw_iload_n (pc := 7) dX1_reach_7 rfl ?_
      refine jw_bipush (pc := 8) dX1_reach_8 bp_30 ?_
      first | refine jx_icmp_gt (pc := 10) (tgt := 100) dX1_reach_10 (by decide) (by omega) (by omega) ?_ ?_ | refine jw_icmp_gt (pc := 10) (tgt := 100) dX1_reach_10 (by decide) ?_ ?_
      · intro h_10
        omega
      · intro h_10
        refine jw_iconst (pc := 13) dX1_reach_13 ic_0 ?_
        refine jw_istore_n (pc := 14) dX1_reach_14 (Nat.le_of_ble_eq_true rfl) rfl ?_
        try dsimp only [jput1, jput2, jkill, jclr, jis2_i, jis2_l, jis2_rs, jis2_rn, cond]
        exact K1 i (by omega) (fun M' q1 q2 q3 q4 => ih (i + 1, M') ⟨hkn, q1, q2, q3, q4⟩ (by dsimp only; omega)) (0, M1) ⟨Nat.zero_le _, hf, hX, hm1, hp1⟩
    · have hk' : i = 31 := by omega
      subst hk'
      refine jw_iload_n (pc := 7) dX1_reach_7 rfl ?_
      refine jw_bipush (pc := 8) dX1_reach_8 bp_30 ?_
      first | refine jx_icmp_gt (pc := 10) (tgt := 100) dX1_reach_10 (by decide) (by omega) (by omega) ?_ ?_ | refine jw_icmp_gt (pc := 10) (tgt := 100) dX1_reach_10 (by decide) ?_ ?_
      · intro h_10
        refine jw_iconst (pc := 100) dX1_reach_100 ic_0 ?_
        refine jw_istore_n (pc := 101) dX1_reach_101 (Nat.le_of_ble_eq_true rfl) rfl ?_
        try dsimp only [jput1, jput2, jkill, jclr, jis2_i, jis2_l, jis2_rs, jis2_rn, cond]
        refine jW.sub ?_ (K3 (0, M1) ⟨Nat.zero_le _, hf, hX, hm1, fun i' s' hi' hs' => (hp1 i' s' hs' (Or.inl (by omega))).1, fun i' s' hi' hs' => ?_⟩)
        · exact ⟨rfl, rfl, trivial⟩
        · rw [(hp1 i' s' hs' (Or.inl (by omega))).2, rin_init]
      · intro h_10
        omega
  have hg0 : jsm mvs M (js_As M 82 (nowG M σ people (cnt people))) := jsm.As (by unfold mvs; omega)
  refine jw_aload_n (pc := 0) dX1_reach_0 rfl ?_
  refine jx_cVE (mi1 := mi_X1_nowState) (pc := 1) rfl dX1_reach_1 lk_X1_304 rfl fi_X1_nowState rfl rfl rfl (by decide) (is_64 hS) (t_X1_nowState h hv9 hm) (by first | decide | omega) rfl rfl (by decide) ?_
  refine jw_istore_n (pc := 4) dX1_reach_4 (Nat.le_of_ble_eq_true rfl) rfl ?_
  try dsimp only [jput1, jput2, jkill, jclr, jis2_i, jis2_l, jis2_rs, jis2_rn, cond]
  refine jw_iconst (pc := 5) dX1_reach_5 ic_0 ?_
  refine jw_istore_n (pc := 6) dX1_reach_6 (Nat.le_of_ble_eq_true rfl) rfl ?_
  try dsimp only [jput1, jput2, jkill, jclr, jis2_i, jis2_l, jis2_rs, jis2_rn, cond]
  exact K0 (0, js_As M 82 (nowG M σ people (cnt people))) ⟨Nat.zero_le _, hg0, h.mv hg0 (fun a => mvs_E) hS, hm.fr hS hg0 (fun a => mvs_E), fun i' s' hs' hc => by omega⟩
end JXR2
