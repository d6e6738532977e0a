/-! ===== x: go, doing ===== -/
def goN (V : Vt) (σ : Sg) (people goal : Nat) : Nat := fstN 31 (fun i => rch V σ people i goal)
def o_go (σ : Sg) (p a : Int32) : Int32 × Sg := if ixV (sv σ) 0 a then (if pplW (sv σ) p 3 = 0 then (if goN (vv σ) (sgT σ 0 (-1)) (iN p) (allS (vv σ) (iN p) (iN a)) < 31 then (nI (goN (vv σ) (sgT σ 0 (-1)) (iN p) (allS (vv σ) (iN p) (iN a))), sgP (vv σ) (sgT σ 0 (-1)) (iN p) (allS (vv σ) (iN p) (iN a)) (goN (vv σ) (sgT σ 0 (-1)) (iN p) (allS (vv σ) (iN p) (iN a)))) else (-2, sgT σ 0 (-1))) else (-1, sgT σ (pplW (sv σ) p 3) (-1))) else (-1, sgT σ 1 (-1))
def stayB (V : Vt) (σ : Sg) (people t s n : Nat) : Bool := allB n (fun j => lawS V σ people (t + (j + 1)) s)
def doOk (V : Vt) (σ : Sg) (people e i s : Nat) : Bool := rch V σ people i s && decide (plS V σ people s (V 16 e) = V 17 e) && stayB V σ people (sn σ 0 + i) s (V 20 e - 1)
def doMay (V : Vt) (σ : Sg) (e i : Nat) : Bool := decide (V 18 e ≤ sn σ 0 + i) && decide (sn σ 0 + i + V 20 e - 1 < V 19 e) && decide (sn σ 0 + i + V 20 e - 1 < V 0 12)
def doAt (V : Vt) (σ : Sg) (people e i : Nat) : Bool := doMay V σ e i && anyB (V 0 0 ^ cnt people) (doOk V σ people e i)
def doN (V : Vt) (σ : Sg) (people e : Nat) : Nat := fstN 31 (doAt V σ people e)
def doI (V : Vt) (σ : Sg) (people e : Nat) : Int32 := if doN V σ people e < 31 then nI (sn σ 0 + doN V σ people e + V 20 e - 1) else -2
def q_doing (σ : Sg) (e p : Int32) : Int32 × Int32 := if ixV (sv σ) 2 e then (if pplW (sv σ) p 3 = 0 ∧ (iN p).testBit (vv σ 16 (iN e)) = true then (doI (vv σ) (sgT σ 0 (-1)) (iN p) (iN e), 0) else (-1, 2)) else (-1, 1)
def jEr (M : Mm) (o : Nat) (V : Vt) (e : Nat) : Prop := ∃ p, jis M o 11 ∧ 104 ≤ o ∧ jm_R M o 121 = some p ∧ (jis M p 7 ∧ 104 ≤ p) ∧ jm_I M p 111 = nI (V 16 e) ∧ jm_I M o 122 = nI (V 17 e) ∧ jm_I M o 123 = nI (V 18 e) ∧ jm_I M o 124 = nI (V 19 e) ∧ jm_I M o 125 = nI (V 20 e)
theorem jEr.fr {E : Nat → Prop} {M M1 : Mm} {o e : Nat} {V : Vt} (h : jEr M o V e) (g : jsm E M M1) (hE : ∀ a, 104 ≤ a → ¬ E a) : jEr M1 o V e := by
  obtain ⟨p, h1, h2, h3, ⟨h4, h5⟩, h6, h7, h8, h9, h10⟩ := h
  have ao := g.2.2 o h1.2.1 (hE o h2)
  have ap := g.2.2 p h4.2.1 (hE p h5)
  exact ⟨p, h1.al ao g.1, h2, (ao.2.2.2.2.1 _).trans h3, ⟨h4.al ap g.1, h5⟩, (ap.2.2.1 _).trans h6, (ao.2.2.1 _).trans h7, (ao.2.2.1 _).trans h8, (ao.2.2.1 _).trans h9, (ao.2.2.1 _).trans h10⟩
section JXG
variable {G : Gh} {M : Mm} {σ : Sg}
theorem lp_g58 {M9 M3 : Mm} {V : Vt} {kp ka : Nat} {x1 x3 : Int32} {q : Int32 × Sg} (hX3 : jXx M3 (sgT σ 0 (-1))) (hv9 : sv σ = some V) (hm3 : jMv M3 V kp) (hR3 : jRw M3 85 (V 0 0 ^ cnt kp) (rch V (sgT σ 0 (-1)) kp)) (hL3 : jRw M3 84 (V 0 0 ^ cnt kp) (lawR V (sgT σ 0 (-1)) kp)) (hka : ka < V 0 0) (hf : jfx M M3)
    (hoo : q = (if goN V (sgT σ 0 (-1)) kp (allS V kp ka) < 31 then (nI (goN V (sgT σ 0 (-1)) kp (allS V kp ka)), sgP V (sgT σ 0 (-1)) kp (allS V kp ka) (goN V (sgT σ 0 (-1)) kp (allS V kp ka))) else (-2, sgT σ 0 (-1)))) :
    jW G mi_X1_go 9 M9 58 [some (jr (some 64)), some (.int x1), some (.int (nI ka)), some (.int x3), some (.int (nI (allS V kp ka))), none] [] (js_As M3 83 (fun k => if k < cnt kp then nI ka else jm_A M3 83 k)) (jOx M q) := by
  have hg4 : jsm (fun a => a = 83) M3 (js_As M3 83 (fun k => if k < cnt kp then nI ka else jm_A M3 83 k)) := jsm.As rfl
  have hE : ∀ a, a = 83 → mvE a := fun a q => by unfold mvE; omega
  have hX4 := hX3.mv hg4 hE hX3.1
  have hm4 := hm3.fr hX3.1 hg4 hE
  have hR4 := hR3.fr (by decide) hX3.1 hg4 (by decide)
  have hL4 := hL3.fr (by decide) hX3.1 hg4 (by decide)
  have hf4 := hf.tr (frmv hg4 hE)
  generalize js_As M3 83 (fun k => if k < cnt kp then nI ka else jm_A M3 83 k) = M4 at hX4 hm4 hR4 hL4 hf4 ⊢
  have hS := hX4.1
  have hw9 := (hX4.2.1.2 V hv9).1
  have hc3 := hm4.1.2
  have h1000 := pw3 (wf_np hw9) hc3
  have hgl : allS V kp ka < V 0 0 ^ cnt kp := codeN_lt (fun _ _ => hka)
  have L91 : ∀ n : Nat, n ≤ 31 → goN V (sgT σ 0 (-1)) kp (allS V kp ka) = n → (n < 31 → rch V (sgT σ 0 (-1)) kp n (allS V kp ka) = true) → jW G mi_X1_go 9 M9 91 [some (jr (some 64)), some (.int x1), some (.int (nI ka)), some (.int x3), some (.int (nI (allS V kp ka))), some (.int (nI n))] [] M4 (jOx M q) := by
    intro n hn e hr
    rw [e] at hoo
    by_cases hn31 : n < 31
    · rw [if_pos hn31] at hoo
      refine jw_iload (pc := 91) dX1_go_91 rfl ?_
      refine jw_bipush (pc := 93) dX1_go_93 bp_30 ?_
      first | refine jx_icmp_le (pc := 95) (tgt := 101) dX1_go_95 (by decide) (by omega) (by omega) ?_ ?_ | refine jw_icmp_le (pc := 95) (tgt := 101) dX1_go_95 (by decide) ?_ ?_
      · intro h_95
        refine jw_aload_n (pc := 101) dX1_go_101 rfl ?_
        refine jw_iload (pc := 102) dX1_go_102 rfl ?_
        refine jw_iload (pc := 104) dX1_go_104 rfl ?_
        refine jx_cVv (mi1 := mi_X1_laysPath) (pc := 106) rfl dX1_go_106 lk_X1_335 rfl fi_X1_laysPath rfl rfl rfl (by decide) (is_64 hS) (t_X1_laysPath (people := kp) (V := V) hX4 hv9 hm4 hL4 (by omega) hgl (hr hn31)) (by first | decide | omega) rfl rfl (by decide) ?_
        intro M_106 q_106
        refine jw_iload (pc := 109) dX1_go_109 rfl ?_
        refine jw_ireturn (pc := 111) dX1_go_111 rfl (rfl) ?_
        rw [hoo]; exact ⟨_, rfl, rfl, q_106.1, hf4.tr q_106.2⟩
      · intro h_95
        omega
    · rw [if_neg hn31] at hoo
      refine jw_iload (pc := 91) dX1_go_91 rfl ?_
      refine jw_bipush (pc := 93) dX1_go_93 bp_30 ?_
      first | refine jx_icmp_le (pc := 95) (tgt := 101) dX1_go_95 (by decide) (by omega) (by omega) ?_ ?_ | refine jw_icmp_le (pc := 95) (tgt := 101) dX1_go_95 (by decide) ?_ ?_
      · intro h_95
        omega
      · intro h_95
        refine jw_bipush (pc := 98) dX1_go_98 bp_m2 ?_
        refine jw_ireturn (pc := 100) dX1_go_100 rfl (rfl) ?_
        rw [hoo]; exact ⟨_, rfl, rfl, hX4, hf4⟩
  have J : ∀ k : Nat, (k ≤ 31 ∧ ∀ j, j < k → rch V (sgT σ 0 (-1)) kp j (allS V kp ka) = false) → jW G mi_X1_go 9 M9 61 [some (jr (some 64)), some (.int x1), some (.int (nI ka)), some (.int x3), some (.int (nI (allS V kp ka))), some (.int (nI k))] [] M4 (jOx M q) := by
    refine jW.loop _ (fun k => 31 - k) _ (fun _ => []) (fun _ => M4) (fun k hI ih => ?_)
    obtain ⟨hk, h0⟩ := hI
    by_cases hkn : k < 31
    ·
      refine jw_iload (pc := 61) dX1_go_61 rfl ?_
      refine jw_bipush (pc := 63) dX1_go_63 bp_30 ?_
      first | refine jx_icmp_gt (pc := 65) (tgt := 91) dX1_go_65 (by decide) (by omega) (by omega) ?_ ?_ | refine jw_icmp_gt (pc := 65) (tgt := 91) dX1_go_65 (by decide) ?_ ?_
      · intro h_65
        omega
      · intro h_65
        refine jw_aload_n (pc := 68) dX1_go_68 rfl ?_
        refine jx_getRs (pc := 69) (jf_X1_62_0.r) rfl dX1_go_69 rfl (is_64 hS) (by decide) (sr_64_22 hS) ?_
        refine jw_sipush (pc := 72) dX1_go_72 sp_1000 ?_
        refine jw_iload (pc := 75) dX1_go_75 rfl ?_
        first | refine jx_imul (pc := 77) dX1_go_77 ?_ | refine jw_imul (pc := 77) dX1_go_77 ?_
        refine jw_iload (pc := 78) dX1_go_78 rfl ?_
        first | refine jx_iadd (pc := 80) dX1_go_80 ?_ | refine jw_iadd (pc := 80) dX1_go_80 ?_
        refine jx_zalds (pc := 81) dX1_go_81 (ok_85 hS) (nn_85 hS) rfl (by omega) (hR4 k _ (by omega) hgl) ?_
        first | refine jx_ifb_ne (pc := 82) (tgt := 91) dX1_go_82 (by decide) ?_ ?_ | refine jx_if_ne (pc := 82) (tgt := 91) dX1_go_82 (by decide) (by omega) ?_ ?_ | refine jw_if_ne (pc := 82) (tgt := 91) dX1_go_82 (by decide) ?_ ?_
        · intro h_82
          exact L91 k hk (fst_hit hkn h_82 h0) (fun _ => h_82)
        · intro h_82
          first | refine jx_iinc (pc := 85) dX1_go_85 rfl rfl ?_ | refine jw_iinc (pc := 85) dX1_go_85 rfl rfl rfl ?_
          try dsimp only [jput1, jkill, jclr, jis2_i, jis2_l, jis2_rs, jis2_rn, cond]
          refine jw_goto (pc := 88) (tgt := 61) dX1_go_88 (by decide) ?_
          refine ih (k + 1) ⟨hkn, fun j hj => ?_⟩ (by omega)
          by_cases e : j = k
          · subst e; exact h_82
          · exact h0 j (by omega)
    · have hk' : k = 31 := by omega
      subst hk'
      refine jw_iload (pc := 61) dX1_go_61 rfl ?_
      refine jw_bipush (pc := 63) dX1_go_63 bp_30 ?_
      first | refine jx_icmp_gt (pc := 65) (tgt := 91) dX1_go_65 (by decide) (by omega) (by omega) ?_ ?_ | refine jw_icmp_gt (pc := 65) (tgt := 91) dX1_go_65 (by decide) ?_ ?_
      · intro h_65
        exact L91 31 (Nat.le_refl _) (fst_none h0) (fun c => absurd c (Nat.lt_irrefl _))
      · intro h_65
        omega
  refine jw_iconst (pc := 58) dX1_go_58 ic_0 ?_
  refine jw_istore (pc := 59) dX1_go_59 (Nat.le_of_ble_eq_true rfl) rfl ?_
  try dsimp only [jput1, jput2, jkill, jclr, jis2_i, jis2_l, jis2_rs, jis2_rn, cond]
  exact J 0 ⟨Nat.zero_le _, fun j hj => absurd hj (Nat.not_lt_zero _)⟩
theorem t_X1_go {p a : Int32} (h : jXx M σ) : jT G mi_X1_go 9 [jr (some 64), .int p, .int a] M (jOx M (o_go σ p a)) := by
  have hS := h.1
  refine jT.of (by decide) rfl (Nat.le_of_ble_eq_true rfl) ?_
  cases hv9 : sv σ with
  | none =>
    have e0 : o_go σ p a = (-1, sgT σ 1 (-1)) := by unfold o_go; rw [hv9]; rfl
    refine jw_aload_n (pc := 0) dX1_go_0 rfl ?_
    refine jx_cVv (mi1 := mi_X1_anew) (pc := 1) rfl dX1_go_1 lk_X1_84 rfl fi_X1_anew rfl rfl rfl (by decide) (is_64 hS) (t_X1_anew h) (by first | decide | omega) rfl rfl (by decide) ?_
    intro M_1 q_1
    obtain ⟨hX, hf⟩ := q_1
    have hS := hX.1
    refine jw_aload_n (pc := 4) dX1_go_4 rfl ?_
    refine jx_getRs (pc := 5) (jf_X1_109_0.r) rfl dX1_go_5 rfl (is_64 hS) (by decide) (hX.no hv9) ?_
    refine jw_ifnull (pc := 8) (tgt := 19) dX1_go_8 (by decide) (fun h => ?_) (fun ax h => by cases h)
    clear h
    refine jw_aload_n (pc := 19) dX1_go_19 rfl ?_
    refine jw_iconst (pc := 20) dX1_go_20 ic_1 ?_
    refine jx_cVi (mi1 := mi_X1_no) (pc := 21) rfl dX1_go_21 lk_X1_98 rfl fi_X1_no rfl rfl rfl (by decide) (is_64 hS) (t_X1_no hX (by decide)) (by first | decide | omega) rfl rfl (by decide) ?_
    intro x_21 M_21 q_21
    refine jw_ireturn (pc := 24) dX1_go_24 rfl (rfl) ?_
    obtain ⟨e1, hX2, hf2⟩ := q_21
    rw [e0]; exact ⟨_, rfl, e1, hX2, hf.tr hf2⟩
  | some V =>
    have hw9 := (h.2.1.2 V hv9).1
    have hnp := wf_np hw9
    have hpw : 2 ^ V 0 1 ≤ 32 := Nat.pow_le_pow_right (n := 2) (by decide) (wf_nq hw9)
    have hoo : ixV (some V) 0 a = true → pplW (some V) p 3 = 0 → o_go σ p a = (if goN V (sgT σ 0 (-1)) (iN p) (allS V (iN p) (iN a)) < 31 then (nI (goN V (sgT σ 0 (-1)) (iN p) (allS V (iN p) (iN a))), sgP V (sgT σ 0 (-1)) (iN p) (allS V (iN p) (iN a)) (goN V (sgT σ 0 (-1)) (iN p) (allS V (iN p) (iN a)))) else (-2, sgT σ 0 (-1))) := fun q1 q2 => by
      unfold o_go; rw [hv9, if_pos q1, if_pos q2, vv_s hv9]
    refine jw_aload_n (pc := 0) dX1_go_0 rfl ?_
    refine jx_cVv (mi1 := mi_X1_anew) (pc := 1) rfl dX1_go_1 lk_X1_84 rfl fi_X1_anew rfl rfl rfl (by decide) (is_64 hS) (t_X1_anew h) (by first | decide | omega) rfl rfl (by decide) ?_
    intro M_1 q_1
    obtain ⟨hX, hf⟩ := q_1
    have hS := hX.1
    obtain ⟨v, hs, hN⟩ := hX.so hv9
    refine jw_aload_n (pc := 4) dX1_go_4 rfl ?_
    refine jx_getRs (pc := 5) (jf_X1_109_0.r) rfl dX1_go_5 rfl (is_64 hS) (by decide) (hs.r) ?_
    refine jw_ifnull (pc := 8) (tgt := 19) dX1_go_8 (by decide) (fun h => by cases h) (fun ax h => ?_)
    clear h
    refine jw_aload_n (pc := 11) dX1_go_11 rfl ?_
    refine jw_iload_n (pc := 12) dX1_go_12 rfl ?_
    refine jx_cVE (mi1 := mi_X1_isPlace) (pc := 13) rfl dX1_go_13 lk_X1_163 rfl fi_X1_isPlace rfl rfl rfl (by decide) (is_64 hS) (t_X1_isPlace (o := some V) hX hv9) (by first | decide | omega) rfl rfl (by decide) ?_
    first | refine jx_ifb_ne (pc := 16) (tgt := 25) dX1_go_16 (by decide) ?_ ?_ | refine jx_if_ne (pc := 16) (tgt := 25) dX1_go_16 (by decide) (by omega) ?_ ?_ | refine jw_if_ne (pc := 16) (tgt := 25) dX1_go_16 (by decide) ?_ ?_
    · intro h_16
      refine jw_aload_n (pc := 25) dX1_go_25 rfl ?_
      refine jw_iload_n (pc := 26) dX1_go_26 rfl ?_
      refine jw_iconst (pc := 27) dX1_go_27 ic_3 ?_
      refine jx_cVE (mi1 := mi_X1_peopleWhy) (pc := 28) rfl dX1_go_28 lk_X1_323 rfl fi_X1_peopleWhy rfl rfl rfl (by decide) (is_64 hS) (t_X1_peopleWhy (o := some V) (most := 3) hX hv9 (by decide)) (by first | decide | omega) rfl rfl (by decide) ?_
      refine jw_istore_n (pc := 31) dX1_go_31 (Nat.le_of_ble_eq_true rfl) rfl ?_
      try dsimp only [jput1, jput2, jkill, jclr, jis2_i, jis2_l, jis2_rs, jis2_rn, cond]
      refine jw_iload_n (pc := 32) dX1_go_32 rfl ?_
      refine jw_if_eq (pc := 33) (tgt := 42) dX1_go_33 (by decide) ?_ ?_
      · intro h_33
        have hoo := hoo h_16 h_33
        obtain ⟨V2, kp, eV, hkp, hk1, rfl, hc3, hiN⟩ := pplW_0 h_33
        cases eV
        obtain ⟨ka, hka, rfl⟩ := isIx_of (show isIx (V 0 0) a = true from h_16)
        rw [hiN, iN_n (show ka < 2 ^ 31 by omega)] at hoo
        refine jw_aload_n (pc := 42) dX1_go_42 rfl ?_
        refine jw_iload_n (pc := 43) dX1_go_43 rfl ?_
        refine jx_cVv (mi1 := mi_X1_choose) (pc := 44) rfl dX1_go_44 lk_X1_326 rfl fi_X1_choose rfl rfl rfl (by decide) (is_64 hS) (t_X1_choose hX hv9 hkp hc3) (by first | decide | omega) rfl rfl (by decide) ?_
        intro M_44 q_44
        obtain ⟨hX2, hf2, hm2⟩ := q_44
        have hS := hX2.1
        refine jw_aload_n (pc := 47) dX1_go_47 rfl ?_
        refine jx_cVv (mi1 := mi_X1_reach) (pc := 48) rfl dX1_go_48 lk_X1_329 rfl fi_X1_reach rfl rfl rfl (by decide) (is_64 hS) (t_X1_reach (people := kp) (V := V) hX2 hv9 hm2) (by first | decide | omega) rfl rfl (by decide) ?_
        intro M_48 q_48
        obtain ⟨hX3, hf3, hm3, hR3, hL3⟩ := q_48
        have hS := hX3.1
        refine jw_aload_n (pc := 51) dX1_go_51 rfl ?_
        refine jw_iload_n (pc := 52) dX1_go_52 rfl ?_
        refine jx_cVE (mi1 := mi_X1_allAt) (pc := 53) rfl dX1_go_53 lk_X1_332 rfl fi_X1_allAt rfl rfl rfl (by decide) (is_64 hS) (t_X1_allAt (people := kp) (V := V) hX3 hv9 hm3) (by first | decide | omega) rfl rfl (by decide) ?_
        refine jw_istore (pc := 56) dX1_go_56 (Nat.le_of_ble_eq_true rfl) rfl ?_
        try dsimp only [jput1, jput2, jkill, jclr, jis2_i, jis2_l, jis2_rs, jis2_rn, cond]
        exact lp_g58 hX3 hv9 hm3 hR3 hL3 hka (hf.tr (hf2.tr hf3)) hoo
      · intro h_33
        refine jw_aload_n (pc := 36) dX1_go_36 rfl ?_
        refine jw_iload_n (pc := 37) dX1_go_37 rfl ?_
        refine jx_cVi (mi1 := mi_X1_no) (pc := 38) rfl dX1_go_38 lk_X1_98 rfl fi_X1_no rfl rfl rfl (by decide) (is_64 hS) (t_X1_no hX (wc_4 (pplW_c _ _ _))) (by first | decide | omega) rfl rfl (by decide) ?_
        intro x_38 M_38 q_38
        refine jw_ireturn (pc := 41) dX1_go_41 rfl (rfl) ?_
        obtain ⟨e1, hX2, hf2⟩ := q_38
        have e0 : o_go σ p a = (-1, sgT σ (pplW (some V) p 3) (-1)) := by unfold o_go; rw [hv9, if_pos h_16, if_neg h_33]
        rw [e0]; exact ⟨_, rfl, e1, hX2, hf.tr hf2⟩
    · intro h_16
      refine jw_aload_n (pc := 19) dX1_go_19 rfl ?_
      refine jw_iconst (pc := 20) dX1_go_20 ic_1 ?_
      refine jx_cVi (mi1 := mi_X1_no) (pc := 21) rfl dX1_go_21 lk_X1_98 rfl fi_X1_no rfl rfl rfl (by decide) (is_64 hS) (t_X1_no hX (by decide)) (by first | decide | omega) rfl rfl (by decide) ?_
      intro x_21 M_21 q_21
      refine jw_ireturn (pc := 24) dX1_go_24 rfl (rfl) ?_
      obtain ⟨e1, hX2, hf2⟩ := q_21
      have e0 : o_go σ p a = (-1, sgT σ 1 (-1)) := by unfold o_go; rw [hv9, h_16]; rfl
      rw [e0]; exact ⟨_, rfl, e1, hX2, hf.tr hf2⟩
end JXG
