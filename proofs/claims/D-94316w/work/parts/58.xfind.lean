/-! ===== x: looking for somebody ===== -/
def lkK (V : Vt) (people t s n : Nat) : Nat := match n with
  | 0 => 0
  | n + 1 => lkK V people t s n ||| (if eyesB V (mvP people n) t then seesS V (rangeV V t) 0 0 (dig (V 0 0) (cnt people) s n) else 0)
theorem lkK_s (V : Vt) (people t s n : Nat) : lkK V people t s (n + 1) = lkK V people t s n ||| (if eyesB V (mvP people n) t then seesS V (rangeV V t) 0 0 (dig (V 0 0) (cnt people) s n) else 0) := rfl
def lkS (V : Vt) (people t s : Nat) : Nat := lkK V people t s (cnt people)
theorem lkK_lt {V : Vt} (hw : jWf V) (people t s n : Nat) : lkK V people t s n < 1024 := by
  induction n with
  | zero => show (0 : Nat) < 1024; decide
  | succ n ih =>
    rw [lkK_s]; split
    · exact or1024 ih (sees_lt hw _ _ _ _)
    · exact or1024 ih (by decide)
def jLk (M : Mm) (a N : Nat) (L : Nat → Nat → Bool) : Prop := ∀ s set, s < N → set < 1024 → jm_A M a (1024 * s + set) = jb (L s set)
theorem jLk.fr {E : Nat → Prop} {M M1 : Mm} {a N : Nat} {L : Nat → Nat → Bool} (h : jLk M a N L) (ha : a < 104) (hS : jSh M) (g : jsm E M M1) (hE : ¬ E a) : jLk M1 a N L := fun s set hs hset => by
  have hz := hS.2.2.2
  exact ((g.2.2 a (by omega) hE).2.2.2.2.2.1 _).trans (h s set hs hset)
section JXF
variable {G : Gh} {M : Mm} {σ : Sg}
theorem lp_le {M9 M2 : Mm} {v a b k n x y : Nat} {V : Vt} {P : Rs → Mm → Prop} {bb : Bool} (hs : jXs M2 v V) (h1 : jm_I M2 64 19 = nI n) (hn : n ≤ 3) (hkn : k < n) (hx : jm_A M2 82 k = nI x) (hy : jm_A M2 83 k = nI y) (lx : x < V 0 0) (ly : y < V 0 0) (ih : jW G mi_X1_leads 4 M9 23 [some (jr (some 64)), some (.int (nI a)), some (.int (nI b)), some (.int (jb (bb && linkB V x y))), some (.int (nI (k + 1)))] [] M2 P) :
    jW G mi_X1_leads 4 M9 23 [some (jr (some 64)), some (.int (nI a)), some (.int (nI b)), some (.int (jb bb)), some (.int (nI k))] [] M2 P := by
  have hS := hs.1
  have hv := hs.s
  have J65 : jW G mi_X1_leads 4 M9 65 [some (jr (some 64)), some (.int (nI a)), some (.int (nI b)), some (.int (jb bb)), some (.int (nI k))] [.int (jb (bb && linkB V x y))] M2 P := by
    refine jw_istore_n (pc := 65) dX1_leads_65 (Nat.le_of_ble_eq_true rfl) rfl ?_
    try dsimp only [jput1, jput2, jkill, jclr, jis2_i, jis2_l, jis2_rs, jis2_rn, cond]
    first | refine jx_iinc (pc := 66) dX1_leads_66 rfl rfl ?_ | refine jw_iinc (pc := 66) dX1_leads_66 rfl rfl rfl ?_
    try dsimp only [jput1, jkill, jclr, jis2_i, jis2_l, jis2_rs, jis2_rn, cond]
    refine jw_goto (pc := 69) (tgt := 23) dX1_leads_69 (by decide) ?_
    exact ih
  refine jw_iload (pc := 23) dX1_leads_23 rfl ?_
  refine jw_aload_n (pc := 25) dX1_leads_25 rfl ?_
  refine jx_getIs (pc := 26) (jf_X1_287_0.r) rfl dX1_leads_26 rfl (is_64 hS) (by decide) (h1) ?_
  first | refine jx_icmp_ge (pc := 29) (tgt := 72) dX1_leads_29 (by decide) (by omega) (by omega) ?_ ?_ | refine jw_icmp_ge (pc := 29) (tgt := 72) dX1_leads_29 (by decide) ?_ ?_
  · intro h_29
    omega
  · intro h_29
    refine jw_iload_n (pc := 32) dX1_leads_32 rfl ?_
    first | refine jx_ifb_eq (pc := 33) (tgt := 64) dX1_leads_33 (by decide) ?_ ?_ | refine jx_if_eq (pc := 33) (tgt := 64) dX1_leads_33 (by decide) (by omega) ?_ ?_ | refine jw_if_eq (pc := 33) (tgt := 64) dX1_leads_33 (by decide) ?_ ?_
    · intro h_33
      refine jw_iconst (pc := 64) dX1_leads_64 ic_0 ?_
      refine jw_ff ?_ J65; first | (rw [h_33]; rfl) | rw [h_57, Bool.and_false]
    · intro h_33
      refine jw_aload_n (pc := 36) dX1_leads_36 rfl ?_
      refine jx_getRs (pc := 37) (jf_X1_109_0.r) rfl dX1_leads_37 rfl (is_64 hS) (by decide) (hs.r) ?_
      refine jw_aload_n (pc := 40) dX1_leads_40 rfl ?_
      refine jx_getRs (pc := 41) (jf_X1_52_0.r) rfl dX1_leads_41 rfl (is_64 hS) (by decide) (sr_64_17 hS) ?_
      refine jw_iload (pc := 44) dX1_leads_44 rfl ?_
      refine jx_ialds (pc := 46) dX1_leads_46 (ok_82 hS) (nn_82 hS) rfl (by omega) (hx) ?_
      refine jw_aload_n (pc := 47) dX1_leads_47 rfl ?_
      refine jx_getRs (pc := 48) (jf_X1_55_0.r) rfl dX1_leads_48 rfl (is_64 hS) (by decide) (sr_64_18 hS) ?_
      refine jw_iload (pc := 51) dX1_leads_51 rfl ?_
      refine jx_ialds (pc := 53) dX1_leads_53 (ok_83 hS) (nn_83 hS) rfl (by omega) (hy) ?_
      refine jx_cVE (mi1 := mi_X6_areLinked) (pc := 54) rfl dX1_leads_54 lk_X1_228 rfl fi_X6_areLinked rfl rfl rfl (by decide) (vis hv) (t_X6_areLinked hs.V hs.w lx ly) (by first | decide | omega) rfl rfl (by decide) ?_
      first | refine jx_ifb_eq (pc := 57) (tgt := 64) dX1_leads_57 (by decide) ?_ ?_ | refine jx_if_eq (pc := 57) (tgt := 64) dX1_leads_57 (by decide) (by omega) ?_ ?_ | refine jw_if_eq (pc := 57) (tgt := 64) dX1_leads_57 (by decide) ?_ ?_
      · intro h_57
        refine jw_iconst (pc := 64) dX1_leads_64 ic_0 ?_
        refine jw_ff ?_ J65; first | (rw [h_33]; rfl) | rw [h_57, Bool.and_false]
      · intro h_57
        refine jw_iconst (pc := 60) dX1_leads_60 ic_1 ?_
        refine jw_goto (pc := 61) (tgt := 65) dX1_leads_61 (by decide) ?_
        refine jw_tt ?_ J65; rw [h_33, h_57]; rfl
theorem lp_le2 {M9 M2 : Mm} {a b n : Nat} {z : Bool} {P : Rs → Mm → Prop} (hS : jSh M2) (h1 : jm_I M2 64 19 = nI n) (hn : n ≤ 3) (ih : P (.inl (some (.int (jb z)))) M2) : jW G mi_X1_leads 4 M9 23 [some (jr (some 64)), some (.int (nI a)), some (.int (nI b)), some (.int (jb z)), some (.int (nI n))] [] M2 P := by
  refine jw_iload (pc := 23) dX1_leads_23 rfl ?_
  refine jw_aload_n (pc := 25) dX1_leads_25 rfl ?_
  refine jx_getIs (pc := 26) (jf_X1_287_0.r) rfl dX1_leads_26 rfl (is_64 hS) (by decide) (h1) ?_
  first | refine jx_icmp_ge (pc := 29) (tgt := 72) dX1_leads_29 (by decide) (by omega) (by omega) ?_ ?_ | refine jw_icmp_ge (pc := 29) (tgt := 72) dX1_leads_29 (by decide) ?_ ?_
  · intro h_29
    refine jw_iload_n (pc := 72) dX1_leads_72 rfl ?_
    refine jw_ireturn (pc := 73) dX1_leads_73 rfl (by first | exact jnar_b _ | exact jnar_0 | exact jnar_1 | decide +kernel) ?_
    exact ih
  · intro h_29
    omega
theorem t_X1_leads {people a b : Nat} {V : Vt} (h : jXx M σ) (hv9 : sv σ = some V) (hm : jMv M V people) (ha : a < 2 ^ 30) (hb : b < 2 ^ 30) : jT G mi_X1_leads 4 [jr (some 64), .int (nI a), .int (nI b)] M (jPi (fun r M' => r = jb (linkS V people a b) ∧ jsm (fun x => x = 82 ∨ x = 83) M M' ∧ jSh M')) := by
  have hS := h.1
  have h0 : 0 < V 0 0 := (h.2.1.1.2 V hv9).1
  have hc3 := hm.1.2
  obtain ⟨v, hs, hN⟩ := h.so hv9
  refine jT.of (by decide) rfl (Nat.le_of_ble_eq_true rfl) ?_
  have g1 : jsm (fun x => x = 82) M (js_As M 82 (plcG M 82 (V 0 0) (cnt people) a (cnt people))) := jsm.As rfl
  have hE1 : ∀ x, x = 82 → mvE x := fun x q => by unfold mvE; omega
  have hX1 := h.mv g1 hE1 hS
  have hm1 := hm.fr hS g1 hE1
  have hF1 : ∀ j, j < cnt people → jm_A (js_As M 82 (plcG M 82 (V 0 0) (cnt people) a (cnt people))) 82 j = nI (dig (V 0 0) (cnt people) a j) := fun j hj => plcG_r hj
  have K : ∀ M1, jXx M1 σ → jMv M1 V people → (∀ j, j < cnt people → jm_A M1 82 j = nI (dig (V 0 0) (cnt people) a j)) → jsm (fun x => x = 82 ∨ x = 83) M M1 → jW G mi_X1_leads 4 M 9 [some (jr (some 64)), some (.int (nI a)), some (.int (nI b)), none, none] [] M1 (jPi (fun r M' => r = jb (linkS V people a b) ∧ jsm (fun x => x = 82 ∨ x = 83) M M' ∧ jSh M')) := by
    intro M1 hX1 hm1 hF1 hf1
    have hS := hX1.1
    obtain ⟨v, hs, hN⟩ := hX1.so hv9
    have g2 : jsm (fun x => x = 83) M1 (js_As M1 83 (plcG M1 83 (V 0 0) (cnt people) b (cnt people))) := jsm.As rfl
    have hE2 : ∀ x, x = 83 → mvE x := fun x q => by unfold mvE; omega
    have hX2 := hX1.mv g2 hE2 hS
    have hm2 := hm1.fr hS g2 hE2
    have hF2 : ∀ j, j < cnt people → jm_A (js_As M1 83 (plcG M1 83 (V 0 0) (cnt people) b (cnt people))) 82 j = nI (dig (V 0 0) (cnt people) a j) := fun j hj => (jA_rn (by decide)).trans (hF1 j hj)
    have hT2 : ∀ j, j < cnt people → jm_A (js_As M1 83 (plcG M1 83 (V 0 0) (cnt people) b (cnt people))) 83 j = nI (dig (V 0 0) (cnt people) b j) := fun j hj => plcG_r hj
    have hf2 : jsm (fun x => x = 82 ∨ x = 83) M (js_As M1 83 (plcG M1 83 (V 0 0) (cnt people) b (cnt people))) := hf1.tr (jsm.As (Or.inr rfl))
    refine jw_aload_n (pc := 9) dX1_leads_9 rfl ?_
    refine jw_iload_n (pc := 10) dX1_leads_10 rfl ?_
    refine jw_aload_n (pc := 11) dX1_leads_11 rfl ?_
    refine jx_getRs (pc := 12) (jf_X1_55_0.r) rfl dX1_leads_12 rfl (is_64 hS) (by decide) (sr_64_18 hS) ?_
    refine jx_cVEv (mi1 := mi_X1_places) (pc := 15) rfl dX1_leads_15 lk_X1_297 rfl fi_X1_places rfl rfl rfl (by decide) (is_64 hS) (t_X1_places hs hm1.2.1 hc3 h0 hb (by decide) (ok_83 hS) (nn_83 hS)) (by first | decide | omega) rfl rfl (by decide) ?_
    generalize js_As M1 83 (plcG M1 83 (V 0 0) (cnt people) b (cnt people)) = M2 at hX2 hm2 hF2 hT2 hf2 ⊢
    clear hS
    have hS := hX2.1
    obtain ⟨v, hs, hN⟩ := hX2.so hv9
    have J : ∀ k : Nat, k ≤ cnt people → jW G mi_X1_leads 4 M 23 [some (jr (some 64)), some (.int (nI a)), some (.int (nI b)), some (.int (jb (allB k (fun k => linkB V (dig (V 0 0) (cnt people) a k) (dig (V 0 0) (cnt people) b k))))), some (.int (nI k))] [] M2 (jPi (fun r M' => r = jb (linkS V people a b) ∧ jsm (fun x => x = 82 ∨ x = 83) M M' ∧ jSh M')) := by
      refine jW.loop _ (fun k => cnt people - k) _ (fun _ => []) (fun _ => M2) (fun k hk ih => ?_)
      by_cases hkn : k < cnt people
      · exact lp_le hs hm2.2.1 hc3 hkn (hF2 k hkn) (hT2 k hkn) (dig_lt h0) (dig_lt h0) (ih (k + 1) hkn (by omega))
      · have hk' : k = cnt people := by omega
        subst hk'
        exact lp_le2 hS hm2.2.1 hc3 ⟨_, rfl, rfl, hf2, hX2.1⟩
    refine jw_iconst (pc := 18) dX1_leads_18 ic_1 ?_
    refine jw_istore_n (pc := 19) dX1_leads_19 (Nat.le_of_ble_eq_true rfl) rfl ?_
    try dsimp only [jput1, jput2, jkill, jclr, jis2_i, jis2_l, jis2_rs, jis2_rn, cond]
    refine jw_iconst (pc := 20) dX1_leads_20 ic_0 ?_
    refine jw_istore (pc := 21) dX1_leads_21 (Nat.le_of_ble_eq_true rfl) rfl ?_
    try dsimp only [jput1, jput2, jkill, jclr, jis2_i, jis2_l, jis2_rs, jis2_rn, cond]
    exact J 0 (Nat.zero_le _)
  refine jw_aload_n (pc := 0) dX1_leads_0 rfl ?_
  refine jw_iload_n (pc := 1) dX1_leads_1 rfl ?_
  refine jw_aload_n (pc := 2) dX1_leads_2 rfl ?_
  refine jx_getRs (pc := 3) (jf_X1_52_0.r) rfl dX1_leads_3 rfl (is_64 hS) (by decide) (sr_64_17 hS) ?_
  refine jx_cVEv (mi1 := mi_X1_places) (pc := 6) rfl dX1_leads_6 lk_X1_297 rfl fi_X1_places rfl rfl rfl (by decide) (is_64 hS) (t_X1_places hs hm.2.1 hc3 h0 ha (by decide) (ok_82 hS) (nn_82 hS)) (by first | decide | omega) rfl rfl (by decide) ?_
  exact K _ hX1 hm1 hF1 (g1.wk (fun x q => Or.inl q))
theorem t_X1_nextFrom {people a low : Nat} {V : Vt} (h : jXx M σ) (hv9 : sv σ = some V) (hm : jMv M V people) (ha : a < 2 ^ 30) (hlow : low ≤ V 0 0 ^ cnt people) : jT G mi_X1_nextFrom 5 [jr (some 64), .int (nI a), .int (nI low)] M (jPi (fun r M' => ∃ b, r = nI b ∧ low ≤ b ∧ b ≤ V 0 0 ^ cnt people ∧ (∀ j, low ≤ j → j < b → linkS V people a j = false) ∧ (b < V 0 0 ^ cnt people → linkS V people a b = true) ∧ jsm (fun x => x = 82 ∨ x = 83) M M' ∧ jSh M')) := by
  have hS := h.1
  have hw9 := (h.2.1.2 V hv9).1
  have hc3 := hm.1.2
  have h1000 := pw3 (wf_np hw9) hc3
  have hE : ∀ x, (x = 82 ∨ x = 83) → mvE x := fun x q => by unfold mvE; omega
  refine jT.of (by decide) rfl (Nat.le_of_ble_eq_true rfl) ?_
  have J : ∀ x : Nat × Mm, ((low ≤ x.1 ∧ x.1 ≤ V 0 0 ^ cnt people) ∧ jsm (fun x => x = 82 ∨ x = 83) M x.2 ∧ jSh x.2 ∧ (∀ j, low ≤ j → j < x.1 → linkS V people a j = false)) → jW G mi_X1_nextFrom 5 M 2 [some (jr (some 64)), some (.int (nI a)), some (.int (nI low)), some (.int (nI x.1))] [] x.2 (jPi (fun r M' => ∃ b, r = nI b ∧ low ≤ b ∧ b ≤ V 0 0 ^ cnt people ∧ (∀ j, low ≤ j → j < b → linkS V people a j = false) ∧ (b < V 0 0 ^ cnt people → linkS V people a b = true) ∧ jsm (fun x => x = 82 ∨ x = 83) M M' ∧ jSh M')) := by
    refine jW.loop (σ := Nat × Mm) _ (fun x => V 0 0 ^ cnt people - x.1) _ (fun _ => []) (fun x => x.2) (fun x hI ih => ?_)
    obtain ⟨b, M1⟩ := x
    obtain ⟨⟨hb1, hb2⟩, hf, hS1, hno⟩ := hI
    dsimp only at hb1 hb2 hf hS1 hno ih ⊢
    have hS := hS1
    have hX1 := h.mv hf hE hS1
    have hm1 := hm.fr h.1 hf hE
    by_cases hkn : b < V 0 0 ^ cnt people
    ·
      refine jw_iload_n (pc := 2) dX1_nextFrom_2 rfl ?_
      refine jw_aload_n (pc := 3) dX1_nextFrom_3 rfl ?_
      refine jx_getIs (pc := 4) (jf_X1_290_0.r) rfl dX1_nextFrom_4 rfl (is_64 hS) (by decide) (hm1.2.2.1) ?_
      first | refine jx_icmp_ge (pc := 7) (tgt := 25) dX1_nextFrom_7 (by decide) (by omega) (by omega) ?_ ?_ | refine jw_icmp_ge (pc := 7) (tgt := 25) dX1_nextFrom_7 (by decide) ?_ ?_
      · intro h_7
        omega
      · intro h_7
        refine jw_aload_n (pc := 10) dX1_nextFrom_10 rfl ?_
        refine jw_iload_n (pc := 11) dX1_nextFrom_11 rfl ?_
        refine jw_iload_n (pc := 12) dX1_nextFrom_12 rfl ?_
        refine jx_cVi (mi1 := mi_X1_leads) (pc := 13) rfl dX1_nextFrom_13 lk_X1_301 rfl fi_X1_leads rfl rfl rfl (by decide) (is_64 hS) (t_X1_leads hX1 hv9 hm1 ha (by omega)) (by first | decide | omega) rfl rfl (by decide) ?_
        intro x_13 M_13 q_13
        obtain ⟨e1, q1, q2⟩ := q_13
        subst e1
        first | refine jx_ifb_ne (pc := 16) (tgt := 25) dX1_nextFrom_16 (by decide) ?_ ?_ | refine jx_if_ne (pc := 16) (tgt := 25) dX1_nextFrom_16 (by decide) (by omega) ?_ ?_ | refine jw_if_ne (pc := 16) (tgt := 25) dX1_nextFrom_16 (by decide) ?_ ?_
        · intro h_16
          refine jw_iload_n (pc := 25) dX1_nextFrom_25 rfl ?_
          refine jw_ireturn (pc := 26) dX1_nextFrom_26 rfl (rfl) ?_
          exact ⟨_, rfl, b, rfl, hb1, hb2, hno, fun _ => h_16, hf.tr q1, q2⟩
        · intro h_16
          first | refine jx_iinc (pc := 19) dX1_nextFrom_19 rfl rfl ?_ | refine jw_iinc (pc := 19) dX1_nextFrom_19 rfl rfl rfl ?_
          try dsimp only [jput1, jkill, jclr, jis2_i, jis2_l, jis2_rs, jis2_rn, cond]
          refine jw_goto (pc := 22) (tgt := 2) dX1_nextFrom_22 (by decide) ?_
          refine ih (b + 1, M_13) ⟨⟨by dsimp only; omega, hkn⟩, hf.tr q1, q2, fun j hj1 hj2 => ?_⟩ (by dsimp only; omega)
          by_cases e : j = b
          · subst e; exact h_16
          · exact hno j hj1 (by dsimp only at hj2; omega)
    · have hk' : b = V 0 0 ^ cnt people := by omega
      subst hk'
      refine jw_iload_n (pc := 2) dX1_nextFrom_2 rfl ?_
      refine jw_aload_n (pc := 3) dX1_nextFrom_3 rfl ?_
      refine jx_getIs (pc := 4) (jf_X1_290_0.r) rfl dX1_nextFrom_4 rfl (is_64 hS) (by decide) (hm1.2.2.1) ?_
      first | refine jx_icmp_ge (pc := 7) (tgt := 25) dX1_nextFrom_7 (by decide) (by omega) (by omega) ?_ ?_ | refine jw_icmp_ge (pc := 7) (tgt := 25) dX1_nextFrom_7 (by decide) ?_ ?_
      · intro h_7
        refine jw_iload_n (pc := 25) dX1_nextFrom_25 rfl ?_
        refine jw_ireturn (pc := 26) dX1_nextFrom_26 rfl (rfl) ?_
        exact ⟨_, rfl, _, rfl, hb1, hb2, hno, fun c => absurd c (Nat.lt_irrefl _), hf, hS1⟩
      · intro h_7
        omega
  refine jw_iload_n (pc := 0) dX1_nextFrom_0 rfl ?_
  refine jw_istore_n (pc := 1) dX1_nextFrom_1 (Nat.le_of_ble_eq_true rfl) rfl ?_
  try dsimp only [jput1, jput2, jkill, jclr, jis2_i, jis2_l, jis2_rs, jis2_rn, cond]
  exact J (low, M) ⟨⟨Nat.le_refl _, hlow⟩, jsm.rf, hS, fun j h1 h2 => by dsimp only at h2; omega⟩
theorem t_X1_lookedAt {people s t : Nat} {V : Vt} (h : jXx M σ) (hv9 : sv σ = some V) (hm : jMv M V people) (hs9 : s < 2 ^ 30) (ht : t < 2 ^ 29) : jE G mi_X1_lookedAt 5 [jr (some 64), .int (nI s), .int (nI t)] M (some (.int (nI (lkS V people t s)))) (js_As M 83 (plcG M 83 (V 0 0) (cnt people) s (cnt people))) := by
  have hS := h.1
  have hw9 := (h.2.1.2 V hv9).1
  have h0 : 0 < V 0 0 := (h.2.1.1.2 V hv9).1
  have hnq := wf_nq hw9
  have hnp := wf_np hw9
  have hc3 := hm.1.2
  have hp5 := mv_n hw9 hm.1.1
  obtain ⟨v, hs, hN⟩ := h.so hv9
  have g1 : jsm (fun x => x = 83) M (js_As M 83 (plcG M 83 (V 0 0) (cnt people) s (cnt people))) := jsm.As rfl
  have hE1 : ∀ x, x = 83 → mvE x := fun x q => by unfold mvE; omega
  have hX1 := h.mv g1 hE1 hS
  have hm1 := hm.fr hS g1 hE1
  obtain ⟨v1, hs1, hN1⟩ := hX1.so hv9
  have he9 : eyesS V t 0 < 32 := msk5 hnq _
  refine jE.of (by decide) rfl (Nat.le_of_ble_eq_true rfl) ?_
  have J : ∀ k : Nat, k ≤ cnt people → jW G mi_X1_lookedAt 5 M 22 [some (jr (some 64)), some (.int (nI s)), some (.int (nI t)), some (.int (nI (lkK V people t s k))), some (.int (nI (eyesS V t 0))), some (.int (nI k))] [] (js_As M 83 (plcG M 83 (V 0 0) (cnt people) s (cnt people))) (fun r M' => r = .inl (some (.int (nI (lkS V people t s)))) ∧ M' = js_As M 83 (plcG M 83 (V 0 0) (cnt people) s (cnt people))) := by
    refine jW.loop _ (fun k => cnt people - k) _ (fun _ => []) (fun _ => js_As M 83 (plcG M 83 (V 0 0) (cnt people) s (cnt people))) (fun k hk ih => ?_)
    by_cases hkn : k < cnt people
    · obtain ⟨m1, m2, m3⟩ := mv_ok hp5 hkn
      have hmq := bit_lt hm.1.1 m2
      have hbit : (eyesS V t 0).testBit (mvP people k) = eyesB V (mvP people k) t := by
        rw [eyesS_bit, decide_eq_true hmq, Nat.zero_testBit]; simp
      have hd := dig_lt (n := cnt people) (s := s) (k := k) h0
      refine jw_iload (pc := 22) dX1_lookedAt_22 rfl ?_
      refine jw_aload_n (pc := 24) dX1_lookedAt_24 rfl ?_
      refine jx_getIs (pc := 25) (jf_X1_287_0.r) rfl dX1_lookedAt_25 rfl (is_64 hS) (by decide) (hm1.2.1) ?_
      first | refine jx_icmp_ge (pc := 28) (tgt := 74) dX1_lookedAt_28 (by decide) (by omega) (by omega) ?_ ?_ | refine jw_icmp_ge (pc := 28) (tgt := 74) dX1_lookedAt_28 (by decide) ?_ ?_
      · intro h_28
        omega
      · intro h_28
        refine jw_iload_n (pc := 31) dX1_lookedAt_31 rfl ?_
        refine jw_iload (pc := 32) dX1_lookedAt_32 rfl ?_
        refine jw_aload_n (pc := 34) dX1_lookedAt_34 rfl ?_
        refine jx_getRs (pc := 35) (jf_X1_49_0.r) rfl dX1_lookedAt_35 rfl (is_64 hS) (by decide) (sr_64_16 hS) ?_
        refine jw_iload (pc := 38) dX1_lookedAt_38 rfl ?_
        refine jx_ialds (pc := 40) dX1_lookedAt_40 (ok_81 hS) (nn_81 hS) rfl (by omega) (hm1.2.2.2 k hkn) ?_
        refine jx_cSE (mi1 := mi_X1_lies) (pc := 41) rfl dX1_lookedAt_41 lk_X1_189 rfl fi_X1_lies (t_X1_lies (by omega) (by omega)) (by first | decide | omega) rfl rfl (by simp only [List.map_cons, List.map_nil, List.sum_cons, List.sum_nil, Value.category]; decide) ?_
        rw [hbit]
        first | refine jx_ifb_eq (pc := 44) (tgt := 65) dX1_lookedAt_44 (by decide) ?_ ?_ | refine jx_if_eq (pc := 44) (tgt := 65) dX1_lookedAt_44 (by decide) (by omega) ?_ ?_ | refine jw_if_eq (pc := 44) (tgt := 65) dX1_lookedAt_44 (by decide) ?_ ?_
        · intro h_44
          refine jw_iconst (pc := 65) dX1_lookedAt_65 ic_0 ?_
          refine jw_ior (pc := 66) dX1_lookedAt_66 ?_
          rw [nI_or']
          refine jw_istore_n (pc := 67) dX1_lookedAt_67 (Nat.le_of_ble_eq_true rfl) rfl ?_
          try dsimp only [jput1, jput2, jkill, jclr, jis2_i, jis2_l, jis2_rs, jis2_rn, cond]
          first | refine jx_iinc (pc := 68) dX1_lookedAt_68 rfl rfl ?_ | refine jw_iinc (pc := 68) dX1_lookedAt_68 rfl rfl rfl ?_
          try dsimp only [jput1, jkill, jclr, jis2_i, jis2_l, jis2_rs, jis2_rn, cond]
          refine jw_goto (pc := 71) (tgt := 22) dX1_lookedAt_71 (by decide) ?_
          refine jW.eq ?_ rfl rfl (ih (k + 1) hkn (by omega))
          rw [lkK_s, h_44]; rfl
        · intro h_44
          refine jw_aload_n (pc := 47) dX1_lookedAt_47 rfl ?_
          refine jw_iload_n (pc := 48) dX1_lookedAt_48 rfl ?_
          refine jx_cVE (mi1 := mi_X1_sight) (pc := 49) rfl dX1_lookedAt_49 lk_X1_166 rfl fi_X1_sight rfl rfl rfl (by decide) (is_64 hS) (t_X1_sight (t := t) hs1 (by omega)) (by first | decide | omega) rfl rfl (by simp only [List.map_cons, List.map_nil, List.sum_cons, List.sum_nil, Value.category]; decide) ?_
          refine jw_aload_n (pc := 52) dX1_lookedAt_52 rfl ?_
          refine jx_getRs (pc := 53) (jf_X1_55_0.r) rfl dX1_lookedAt_53 rfl (is_64 hS) (by decide) (sr_64_18 hS) ?_
          refine jw_iload (pc := 56) dX1_lookedAt_56 rfl ?_
          refine jx_ialds (pc := 58) dX1_lookedAt_58 (ok_83 hS) (nn_83 hS) rfl (by omega) (plcG_r hkn) ?_
          refine jx_cVE (mi1 := mi_X4_sees) (pc := 59) rfl dX1_lookedAt_59 lk_X1_173 rfl fi_X4_sees rfl rfl rfl (by decide) ((sgt_sr hs1 t).1.1) (t_X4_sees (sgt_sr hs1 t).1 (fun a ha => ((sgt_sr hs1 t).2 a ha).1) hd hnp) (by first | decide | omega) rfl rfl (by simp only [List.map_cons, List.map_nil, List.sum_cons, List.sum_nil, Value.category]; decide) ?_
          refine jw_goto (pc := 62) (tgt := 66) dX1_lookedAt_62 (by decide) ?_
          refine jw_ior (pc := 66) dX1_lookedAt_66 ?_
          rw [nI_or']
          refine jw_istore_n (pc := 67) dX1_lookedAt_67 (Nat.le_of_ble_eq_true rfl) rfl ?_
          try dsimp only [jput1, jput2, jkill, jclr, jis2_i, jis2_l, jis2_rs, jis2_rn, cond]
          first | refine jx_iinc (pc := 68) dX1_lookedAt_68 rfl rfl ?_ | refine jw_iinc (pc := 68) dX1_lookedAt_68 rfl rfl rfl ?_
          try dsimp only [jput1, jkill, jclr, jis2_i, jis2_l, jis2_rs, jis2_rn, cond]
          refine jw_goto (pc := 71) (tgt := 22) dX1_lookedAt_71 (by decide) ?_
          refine jW.eq ?_ rfl rfl (ih (k + 1) hkn (by omega))
          rw [lkK_s, h_44]; rfl
    · have hk' : k = cnt people := by omega
      subst hk'
      refine jw_iload (pc := 22) dX1_lookedAt_22 rfl ?_
      refine jw_aload_n (pc := 24) dX1_lookedAt_24 rfl ?_
      refine jx_getIs (pc := 25) (jf_X1_287_0.r) rfl dX1_lookedAt_25 rfl (is_64 hS) (by decide) (hm1.2.1) ?_
      first | refine jx_icmp_ge (pc := 28) (tgt := 74) dX1_lookedAt_28 (by decide) (by omega) (by omega) ?_ ?_ | refine jw_icmp_ge (pc := 28) (tgt := 74) dX1_lookedAt_28 (by decide) ?_ ?_
      · intro h_28
        refine jw_iload_n (pc := 74) dX1_lookedAt_74 rfl ?_
        refine jw_ireturn (pc := 75) dX1_lookedAt_75 rfl (rfl) ?_
        exact ⟨rfl, rfl⟩
      · intro h_28
        omega
  refine jw_iconst (pc := 0) dX1_lookedAt_0 ic_0 ?_
  refine jw_istore_n (pc := 1) dX1_lookedAt_1 (Nat.le_of_ble_eq_true rfl) rfl ?_
  try dsimp only [jput1, jput2, jkill, jclr, jis2_i, jis2_l, jis2_rs, jis2_rn, cond]
  refine jw_aload_n (pc := 2) dX1_lookedAt_2 rfl ?_
  refine jw_iload_n (pc := 3) dX1_lookedAt_3 rfl ?_
  refine jw_iconst (pc := 4) dX1_lookedAt_4 ic_0 ?_
  refine jx_cVE (mi1 := mi_X1_watching) (pc := 5) rfl dX1_lookedAt_5 lk_X1_210 rfl fi_X1_watching rfl rfl rfl (by decide) (is_64 hS) (t_X1_watching (t := t) (but := 0) hs (by omega) (by decide)) (by first | decide | omega) rfl rfl (by decide) ?_
  refine jw_istore (pc := 8) dX1_lookedAt_8 (Nat.le_of_ble_eq_true rfl) rfl ?_
  try dsimp only [jput1, jput2, jkill, jclr, jis2_i, jis2_l, jis2_rs, jis2_rn, cond]
  refine jw_aload_n (pc := 10) dX1_lookedAt_10 rfl ?_
  refine jw_iload_n (pc := 11) dX1_lookedAt_11 rfl ?_
  refine jw_aload_n (pc := 12) dX1_lookedAt_12 rfl ?_
  refine jx_getRs (pc := 13) (jf_X1_55_0.r) rfl dX1_lookedAt_13 rfl (is_64 hS) (by decide) (sr_64_18 hS) ?_
  refine jx_cVEv (mi1 := mi_X1_places) (pc := 16) rfl dX1_lookedAt_16 lk_X1_297 rfl fi_X1_places rfl rfl rfl (by decide) (is_64 hS) (t_X1_places hs hm.2.1 hc3 h0 hs9 (by decide) (ok_83 hS) (nn_83 hS)) (by first | decide | omega) rfl rfl (by decide) ?_
  refine jw_iconst (pc := 19) dX1_lookedAt_19 ic_0 ?_
  refine jw_istore (pc := 20) dX1_lookedAt_20 (Nat.le_of_ble_eq_true rfl) rfl ?_
  try dsimp only [jput1, jput2, jkill, jclr, jis2_i, jis2_l, jis2_rs, jis2_rn, cond]
  exact J 0 (Nat.zero_le _)
theorem t_X1_isFound {people places : Nat} {V : Vt} {L : Nat → Nat → Bool} (h : jXx M σ) (hv9 : sv σ = some V) (hm : jMv M V people) (hN : V 0 0 ^ cnt people ≤ 100) (hp : places < 1024) (hL : jLk M 88 (V 0 0 ^ cnt people) L) : jE G mi_X1_isFound 1 [jr (some 64), jr (some 88), .int (nI places)] M (some (.int (jb (anyB (V 0 0 ^ cnt people) (fun s => L s places))))) M := by
  have hS := h.1
  refine jE.of (by decide) rfl (Nat.le_of_ble_eq_true rfl) ?_
  have J : ∀ k : Nat, k ≤ V 0 0 ^ cnt people → jW G mi_X1_isFound 1 M 5 [some (jr (some 64)), some (jr (some 88)), some (.int (nI places)), some (.int (jb (anyB k (fun s => L s places)))), some (.int (nI k))] [] M (fun r M' => r = .inl (some (.int (jb (anyB (V 0 0 ^ cnt people) (fun s => L s places))))) ∧ M' = M) := by
    refine jW.loop _ (fun k => V 0 0 ^ cnt people - k) _ (fun _ => []) (fun _ => M) (fun k hk ih => ?_)
    by_cases hkn : k < V 0 0 ^ cnt people
    · have J36 : jW G mi_X1_isFound 1 M 36 [some (jr (some 64)), some (jr (some 88)), some (.int (nI places)), some (.int (jb (anyB k (fun s => L s places)))), some (.int (nI k))] [.int (jb (anyB (k + 1) (fun s => L s places)))] M (fun r M' => r = .inl (some (.int (jb (anyB (V 0 0 ^ cnt people) (fun s => L s places))))) ∧ M' = M) := by
        refine jw_istore_n (pc := 36) dX1_isFound_36 (Nat.le_of_ble_eq_true rfl) rfl ?_
        try dsimp only [jput1, jput2, jkill, jclr, jis2_i, jis2_l, jis2_rs, jis2_rn, cond]
        first | refine jx_iinc (pc := 37) dX1_isFound_37 rfl rfl ?_ | refine jw_iinc (pc := 37) dX1_isFound_37 rfl rfl rfl ?_
        try dsimp only [jput1, jkill, jclr, jis2_i, jis2_l, jis2_rs, jis2_rn, cond]
        refine jw_goto (pc := 40) (tgt := 5) dX1_isFound_40 (by decide) ?_
        exact ih (k + 1) hkn (by omega)
      refine jw_iload (pc := 5) dX1_isFound_5 rfl ?_
      refine jw_aload_n (pc := 7) dX1_isFound_7 rfl ?_
      refine jx_getIs (pc := 8) (jf_X1_290_0.r) rfl dX1_isFound_8 rfl (is_64 hS) (by decide) (hm.2.2.1) ?_
      first | refine jx_icmp_ge (pc := 11) (tgt := 43) dX1_isFound_11 (by decide) (by omega) (by omega) ?_ ?_ | refine jw_icmp_ge (pc := 11) (tgt := 43) dX1_isFound_11 (by decide) ?_ ?_
      · intro h_11
        omega
      · intro h_11
        refine jw_iload_n (pc := 14) dX1_isFound_14 rfl ?_
        first | refine jx_ifb_ne (pc := 15) (tgt := 31) dX1_isFound_15 (by decide) ?_ ?_ | refine jx_if_ne (pc := 15) (tgt := 31) dX1_isFound_15 (by decide) (by omega) ?_ ?_ | refine jw_if_ne (pc := 15) (tgt := 31) dX1_isFound_15 (by decide) ?_ ?_
        · intro h_15
          refine jw_iconst (pc := 31) dX1_isFound_31 ic_1 ?_
          refine jw_goto (pc := 32) (tgt := 36) dX1_isFound_32 (by decide) ?_
          refine jw_tt ?_ J36; rw [anyB_s]; first | (rw [h_15]; rfl) | rw [h_28, Bool.or_true]
        · intro h_15
          refine jw_aload_n (pc := 18) dX1_isFound_18 rfl ?_
          refine jw_sipush (pc := 19) dX1_isFound_19 sp_1024 ?_
          refine jw_iload (pc := 22) dX1_isFound_22 rfl ?_
          first | refine jx_imul (pc := 24) dX1_isFound_24 ?_ | refine jw_imul (pc := 24) dX1_isFound_24 ?_
          refine jw_iload_n (pc := 25) dX1_isFound_25 rfl ?_
          first | refine jx_iadd (pc := 26) dX1_isFound_26 ?_ | refine jw_iadd (pc := 26) dX1_isFound_26 ?_
          refine jx_zalds (pc := 27) dX1_isFound_27 (ok_88 hS) (nn_88 hS) rfl (by omega) (hL k places hkn hp) ?_
          first | refine jx_ifb_eq (pc := 28) (tgt := 35) dX1_isFound_28 (by decide) ?_ ?_ | refine jx_if_eq (pc := 28) (tgt := 35) dX1_isFound_28 (by decide) (by omega) ?_ ?_ | refine jw_if_eq (pc := 28) (tgt := 35) dX1_isFound_28 (by decide) ?_ ?_
          · intro h_28
            refine jw_iconst (pc := 35) dX1_isFound_35 ic_0 ?_
            refine jw_ff ?_ J36; rw [anyB_s, h_15, h_28]; rfl
          · intro h_28
            refine jw_iconst (pc := 31) dX1_isFound_31 ic_1 ?_
            refine jw_goto (pc := 32) (tgt := 36) dX1_isFound_32 (by decide) ?_
            refine jw_tt ?_ J36; rw [anyB_s]; first | (rw [h_15]; rfl) | rw [h_28, Bool.or_true]
    · have hk' : k = V 0 0 ^ cnt people := by omega
      subst hk'
      refine jw_iload (pc := 5) dX1_isFound_5 rfl ?_
      refine jw_aload_n (pc := 7) dX1_isFound_7 rfl ?_
      refine jx_getIs (pc := 8) (jf_X1_290_0.r) rfl dX1_isFound_8 rfl (is_64 hS) (by decide) (hm.2.2.1) ?_
      first | refine jx_icmp_ge (pc := 11) (tgt := 43) dX1_isFound_11 (by decide) (by omega) (by omega) ?_ ?_ | refine jw_icmp_ge (pc := 11) (tgt := 43) dX1_isFound_11 (by decide) ?_ ?_
      · intro h_11
        refine jw_iload_n (pc := 43) dX1_isFound_43 rfl ?_
        refine jw_ireturn (pc := 44) dX1_isFound_44 rfl (by first | exact jnar_b _ | exact jnar_0 | exact jnar_1 | decide +kernel) ?_
        exact ⟨rfl, rfl⟩
      · intro h_11
        omega
  refine jw_iconst (pc := 0) dX1_isFound_0 ic_0 ?_
  refine jw_istore_n (pc := 1) dX1_isFound_1 (Nat.le_of_ble_eq_true rfl) rfl ?_
  try dsimp only [jput1, jput2, jkill, jclr, jis2_i, jis2_l, jis2_rs, jis2_rn, cond]
  refine jw_iconst (pc := 2) dX1_isFound_2 ic_0 ?_
  refine jw_istore (pc := 3) dX1_isFound_3 (Nat.le_of_ble_eq_true rfl) rfl ?_
  try dsimp only [jput1, jput2, jkill, jclr, jis2_i, jis2_l, jis2_rs, jis2_rn, cond]
  exact J 0 (Nat.zero_le _)
theorem t_X1_isAny {N s : Nat} {L : Nat → Nat → Bool} (h : jXx M σ) (hN : N ≤ 100) (hs : s < N) (hL : jLk M 88 N L) : jE G mi_X1_isAny 1 [jr (some 64), .int (nI s)] M (some (.int (jb (anyB 1024 (L s))))) M := by
  have hS := h.1
  refine jE.of (by decide) rfl (Nat.le_of_ble_eq_true rfl) ?_
  have J : ∀ k : Nat, (k ≤ 1024 ∧ 0 ≤ k) → jW G mi_X1_isAny 1 M 4 [some (jr (some 64)), some (.int (nI s)), some (.int (jb (anyB k (L s)))), some (.int (nI k))] [] M (fun r M' => r = .inl (some (.int (jb (anyB 1024 (L s))))) ∧ M' = M) := by
    refine jW.loop _ (fun k => 1024 - k) _ (fun _ => []) (fun _ => M) (fun k hk ih => ?_)
    obtain ⟨hk, -⟩ := hk
    by_cases hkn : k < 1024
    ·
      refine jw_iload_n (pc := 4) dX1_isAny_4 rfl ?_
      refine jw_sipush (pc := 5) dX1_isAny_5 sp_1024 ?_
      first | refine jx_icmp_ge (pc := 8) (tgt := 34) dX1_isAny_8 (by decide) (by omega) (by omega) ?_ ?_ | refine jw_icmp_ge (pc := 8) (tgt := 34) dX1_isAny_8 (by decide) ?_ ?_
      · intro h_8
        omega
      · intro h_8
        refine jw_iload_n (pc := 11) dX1_isAny_11 rfl ?_
        first | refine jx_ifb_ne (pc := 12) (tgt := 34) dX1_isAny_12 (by decide) ?_ ?_ | refine jx_if_ne (pc := 12) (tgt := 34) dX1_isAny_12 (by decide) (by omega) ?_ ?_ | refine jw_if_ne (pc := 12) (tgt := 34) dX1_isAny_12 (by decide) ?_ ?_
        · intro h_12
          refine jw_iload_n (pc := 34) dX1_isAny_34 rfl ?_
          refine jw_ireturn (pc := 35) dX1_isAny_35 rfl (by first | exact jnar_b _ | exact jnar_0 | exact jnar_1 | decide +kernel) ?_
          refine ⟨?_, rfl⟩
          rw [h_12, anyB_mono (Nat.le_of_lt hkn) h_12]
        · intro h_12
          refine jw_aload_n (pc := 15) dX1_isAny_15 rfl ?_
          refine jx_getRs (pc := 16) (jf_X1_75_0.r) rfl dX1_isAny_16 rfl (is_64 hS) (by decide) (sr_64_26 hS) ?_
          refine jw_sipush (pc := 19) dX1_isAny_19 sp_1024 ?_
          refine jw_iload_n (pc := 22) dX1_isAny_22 rfl ?_
          first | refine jx_imul (pc := 23) dX1_isAny_23 ?_ | refine jw_imul (pc := 23) dX1_isAny_23 ?_
          refine jw_iload_n (pc := 24) dX1_isAny_24 rfl ?_
          first | refine jx_iadd (pc := 25) dX1_isAny_25 ?_ | refine jw_iadd (pc := 25) dX1_isAny_25 ?_
          refine jx_zalds (pc := 26) dX1_isAny_26 (ok_88 hS) (nn_88 hS) rfl (by omega) (hL s k hs hkn) ?_
          refine jw_istore_n (pc := 27) dX1_isAny_27 (Nat.le_of_ble_eq_true rfl) rfl ?_
          try dsimp only [jput1, jput2, jkill, jclr, jis2_i, jis2_l, jis2_rs, jis2_rn, cond]
          first | refine jx_iinc (pc := 28) dX1_isAny_28 rfl rfl ?_ | refine jw_iinc (pc := 28) dX1_isAny_28 rfl rfl rfl ?_
          try dsimp only [jput1, jkill, jclr, jis2_i, jis2_l, jis2_rs, jis2_rn, cond]
          refine jw_goto (pc := 31) (tgt := 4) dX1_isAny_31 (by decide) ?_
          refine jW.eq ?_ rfl rfl (ih (k + 1) ⟨hkn, Nat.zero_le _⟩ (by omega))
          rw [anyB_s, h_12]; rfl
    · have hk' : k = 1024 := by omega
      subst hk'
      refine jw_iload_n (pc := 4) dX1_isAny_4 rfl ?_
      refine jw_sipush (pc := 5) dX1_isAny_5 sp_1024 ?_
      first | refine jx_icmp_ge (pc := 8) (tgt := 34) dX1_isAny_8 (by decide) (by omega) (by omega) ?_ ?_ | refine jw_icmp_ge (pc := 8) (tgt := 34) dX1_isAny_8 (by decide) ?_ ?_
      · intro h_8
        refine jw_iload_n (pc := 34) dX1_isAny_34 rfl ?_
        refine jw_ireturn (pc := 35) dX1_isAny_35 rfl (by first | exact jnar_b _ | exact jnar_0 | exact jnar_1 | decide +kernel) ?_
        exact ⟨rfl, rfl⟩
      · intro h_8
        omega
  refine jw_iconst (pc := 0) dX1_isAny_0 ic_0 ?_
  refine jw_istore_n (pc := 1) dX1_isAny_1 (Nat.le_of_ble_eq_true rfl) rfl ?_
  try dsimp only [jput1, jput2, jkill, jclr, jis2_i, jis2_l, jis2_rs, jis2_rn, cond]
  refine jw_iconst (pc := 2) dX1_isAny_2 ic_0 ?_
  refine jw_istore_n (pc := 3) dX1_isAny_3 (Nat.le_of_ble_eq_true rfl) rfl ?_
  try dsimp only [jput1, jput2, jkill, jclr, jis2_i, jis2_l, jis2_rs, jis2_rn, cond]
  exact J 0 ⟨Nat.zero_le _, Nat.le_refl _⟩
end JXF
