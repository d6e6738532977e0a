/-! ===== m: from where the goal can be come to ===== -/
def jGz (M : Mm) (people N : Nat) (D : Nat → Nat → Prop) (R : Nat → Nat → Bool) : Prop := ∀ i c, i ≤ N → c < 10 ^ cnt people → D i c → jm_A M 98 (1000 * i + c) = jb (R i c)
theorem jGz.fr {E : Nat → Prop} {M M1 : Mm} {people N : Nat} {D : Nat → Nat → Prop} {R : Nat → Nat → Bool} (h : jGz M people N D R) (hS : jSh M) (g : jsm E M M1) (hE : ¬ E 98) : jGz M1 people N D R := by
  have hz := hS.2.2.2
  have a98 := (g.2.2 98 (by omega) hE).2.2.2.2.2.1
  exact fun i c q1 q2 q3 => (a98 _).trans (h i c q1 q2 q3)
theorem jGz.cg {M : Mm} {people N : Nat} {D F : Nat → Nat → Prop} {R Q : Nat → Nat → Bool} (h : jGz M people N D R) (hd : ∀ i c, i ≤ N → c < 10 ^ cnt people → F i c → D i c) (e : ∀ i c, i ≤ N → c < 10 ^ cnt people → F i c → R i c = Q i c) : jGz M people N F Q := fun i c q1 q2 q3 => by rw [← e i c q1 q2 q3]; exact h i c q1 q2 (hd i c q1 q2 q3)
theorem jGz.set {M : Mm} {people N i0 c0 : Nat} {D F : Nat → Nat → Prop} {R Q : Nat → Nat → Bool} {v : Int32} (h : jGz M people N D R) (h3 : cnt people ≤ 3) (hc : c0 < 10 ^ cnt people) (hv : v = jb (Q i0 c0)) (hd : ∀ i c, i ≤ N → c < 10 ^ cnt people → ¬ (i = i0 ∧ c = c0) → F i c → D i c) (e : ∀ i c, i ≤ N → c < 10 ^ cnt people → ¬ (i = i0 ∧ c = c0) → R i c = Q i c) : jGz (js_A M 98 (1000 * i0 + c0) v) people N F Q := by
  have h1000 := q10 h3
  intro i c q1 q2 q3
  by_cases q : i = i0 ∧ c = c0
  · obtain ⟨e1, e2⟩ := q
    subst e1; subst e2
    rw [jA_same, hv]
  · rw [jA_oth (by omega), ← e i c q1 q2 q]; exact h i c q1 q2 (hd i c q1 q2 q q3)
def trE (a : Nat) : Prop := a = 98 ∨ a = 99
theorem trE_k {a : Nat} (h : trE a) : mkE a := by unfold trE at h; unfold mkE; omega
def bsG (goal N i c : Nat) : Bool := decide (i = N) && decide (c = goal)
def bef (i c i' c' : Nat) : Prop := i' < i ∨ (i' = i ∧ c' < c)
abbrev aft (i c i' c' : Nat) : Prop := i < i' ∨ (i' = i ∧ c' < c)
def glA (V : Vt) (τ : Sg) (people goal N i c i' c' : Nat) : Bool := if aft i c i' c' then glC V τ people goal N (N - i') c' else bsG goal N i' c'
section JMT
variable {G : Gh} {M : Mm} {σ τ : Sg} {w people : Nat} {V : Vt}
theorem lp_t10 {M9 M0 : Mm} {goal N i : Nat} {P : Rs → Mm → Prop} (h : jMk M0 w V τ people) (hN : N ≤ 30) (hi : i ≤ N) (hg : goal < 10 ^ cnt people)
    (fin : ∀ M', jsm trE M0 M' → jSh M' → jGz M' people N (bef (i + 1) 0) (bsG goal N) → jW G mi_X5_traces 5 M9 54 [some (jr (some 90)), some (.int (nI goal)), some (.int (nI N)), some (.int (nI i)), none, none, none] [] M' P) :
    ∀ x : Nat × Mm, (x.1 ≤ 10 ^ cnt people ∧ (jsm trE M0 x.2 ∧ jSh x.2) ∧ jGz x.2 people N (bef i x.1) (bsG goal N)) → jW G mi_X5_traces 5 M9 10 [some (jr (some 90)), some (.int (nI goal)), some (.int (nI N)), some (.int (nI i)), some (.int (nI x.1)), none, none] [] x.2 P := by
  have hc3 := h.2.1.2.1
  have h1000 := q10 hc3
  refine jW.loop (σ := Nat × Mm) _ (fun x => 10 ^ cnt people - x.1) _ (fun _ => []) (fun x => x.2) (fun x hI ih => ?_)
  obtain ⟨c, M1⟩ := x
  obtain ⟨hc, ⟨hf, hS⟩, hG⟩ := hI
  dsimp only at hc hf hS hG ih ⊢
  have h2 := h.fr hf hS (fun a => trE_k)
  by_cases hkn : c < 10 ^ cnt people
  · have L47 : jW G mi_X5_traces 5 M9 47 [some (jr (some 90)), some (.int (nI goal)), some (.int (nI N)), some (.int (nI i)), some (.int (nI c)), none, none] [.int (jb (bsG goal N i c)), .int (nI (1000 * i + c)), jr (some 98)] M1 P := by
      refine jx_zast (pc := 47) dX5_traces_47 (by decide) (ok_98 hS) (nn_98 hS) rfl (by omega) (jnar_b _) ?_
      first | refine jx_iinc (pc := 48) dX5_traces_48 rfl rfl ?_ | refine jw_iinc (pc := 48) dX5_traces_48 rfl rfl rfl ?_
      try dsimp only [jput1, jkill, jclr, jis2_i, jis2_l, jis2_rs, jis2_rn, cond]
      refine jw_goto (pc := 51) (tgt := 10) dX5_traces_51 (by decide) ?_
      refine ih (c + 1, js_A M1 98 (1000 * i + c) (jb (bsG goal N i c))) ⟨hkn, ⟨hf.tr (jsm.A (by unfold trE; omega)), hS⟩, hG.set hc3 hkn rfl (fun i' c' q1 q2 q3 q4 => ?_) (fun _ _ _ _ _ => rfl)⟩ (by dsimp only; omega)
      unfold bef at q4 ⊢; omega
    refine jw_iload (pc := 10) dX5_traces_10 rfl ?_
    refine jw_aload_n (pc := 12) dX5_traces_12 rfl ?_
    refine jx_getIs (pc := 13) (jf_X5_473_4.r) rfl dX5_traces_13 rfl (is_90 hS) (by decide) (h2.2.2.2.2.2.1) ?_
    first | refine jx_icmp_ge (pc := 16) (tgt := 54) dX5_traces_16 (by decide) (by omega) (by omega) ?_ ?_ | refine jw_icmp_ge (pc := 16) (tgt := 54) dX5_traces_16 (by decide) ?_ ?_
    · intro h_16
      omega
    · intro h_16
      refine jw_aload_n (pc := 19) dX5_traces_19 rfl ?_
      refine jx_getRs (pc := 20) (jf_X5_37_4.r) rfl dX5_traces_20 rfl (is_90 hS) (by decide) (sr_90_79 hS) ?_
      refine jw_sipush (pc := 23) dX5_traces_23 sp_1000 ?_
      refine jw_iload_n (pc := 26) dX5_traces_26 rfl ?_
      first | refine jx_imul (pc := 27) dX5_traces_27 ?_ | refine jw_imul (pc := 27) dX5_traces_27 ?_
      refine jw_iload (pc := 28) dX5_traces_28 rfl ?_
      first | refine jx_iadd (pc := 30) dX5_traces_30 ?_ | refine jw_iadd (pc := 30) dX5_traces_30 ?_
      refine jw_iload_n (pc := 31) dX5_traces_31 rfl ?_
      refine jw_iload_n (pc := 32) dX5_traces_32 rfl ?_
      first | refine jx_icmp_ne (pc := 33) (tgt := 46) dX5_traces_33 (by decide) (by omega) (by omega) ?_ ?_ | refine jw_icmp_ne (pc := 33) (tgt := 46) dX5_traces_33 (by decide) ?_ ?_
      · intro h_33
        refine jw_iconst (pc := 46) dX5_traces_46 ic_0 ?_
        refine jW.eq rfl ?_ rfl L47
        unfold bsG
        first | (rw [decide_eq_false (show ¬ i = N by omega)]; rfl) | (rw [decide_eq_false (show ¬ c = goal by omega), Bool.and_false]; rfl)
      · intro h_33
        refine jw_iload (pc := 36) dX5_traces_36 rfl ?_
        refine jw_iload_n (pc := 38) dX5_traces_38 rfl ?_
        first | refine jx_icmp_ne (pc := 39) (tgt := 46) dX5_traces_39 (by decide) (by omega) (by omega) ?_ ?_ | refine jw_icmp_ne (pc := 39) (tgt := 46) dX5_traces_39 (by decide) ?_ ?_
        · intro h_39
          refine jw_iconst (pc := 46) dX5_traces_46 ic_0 ?_
          refine jW.eq rfl ?_ rfl L47
          unfold bsG
          first | (rw [decide_eq_false (show ¬ i = N by omega)]; rfl) | (rw [decide_eq_false (show ¬ c = goal by omega), Bool.and_false]; rfl)
        · intro h_39
          refine jw_iconst (pc := 42) dX5_traces_42 ic_1 ?_
          refine jw_goto (pc := 43) (tgt := 47) dX5_traces_43 (by decide) ?_
          refine jW.eq rfl ?_ rfl L47
          unfold bsG; rw [decide_eq_true (show i = N by omega), decide_eq_true (show c = goal by omega)]; rfl
  · have hk' : c = 10 ^ cnt people := by omega
    subst hk'
    refine jw_iload (pc := 10) dX5_traces_10 rfl ?_
    refine jw_aload_n (pc := 12) dX5_traces_12 rfl ?_
    refine jx_getIs (pc := 13) (jf_X5_473_4.r) rfl dX5_traces_13 rfl (is_90 hS) (by decide) (h2.2.2.2.2.2.1) ?_
    first | refine jx_icmp_ge (pc := 16) (tgt := 54) dX5_traces_16 (by decide) (by omega) (by omega) ?_ ?_ | refine jw_icmp_ge (pc := 16) (tgt := 54) dX5_traces_16 (by decide) ?_ ?_
    · intro h_16
      refine jW.sub ?_ (fin M1 hf hS (hG.cg (fun i' c' q1 q2 q3 => ?_) (fun _ _ _ _ _ => rfl)))
      · exact ⟨rfl, rfl, rfl, rfl, trivial⟩
      · unfold bef at q3 ⊢; omega
    · intro h_16
      omega
theorem lp_t110 {M9 M0 : Mm} {goal N i c : Nat} {P : Rs → Mm → Prop} (h : jMk M0 w V τ people) (hN : N ≤ 30) (hi : i < N) (hc : c < 10 ^ cnt people) (hcan : canC V τ people i c = true)
    (fin : ∀ M', jsm trE M0 M' → jSh M' → jGz M' people N (fun _ _ => True) (glA V τ people goal N i (c + 1)) → jW G mi_X5_traces 5 M9 160 [some (jr (some 90)), some (.int (nI goal)), some (.int (nI N)), some (.int (nI i)), some (.int (nI c)), none, none] [] M' P) :
    ∀ x : Nat × Mm, (x.1 ≤ (ledL V people c (10 ^ cnt people)).length ∧ (jsm trE M0 x.2 ∧ jSh x.2) ∧ (∀ k, k < (ledL V people c (10 ^ cnt people)).length → jm_A x.2 99 k = nI ((ledL V people c (10 ^ cnt people)).getD k 0)) ∧ jGz x.2 people N (fun _ _ => True) (fun i' c' => if i' = i ∧ c' = c then anyB x.1 (fun k => glC V τ people goal N (N - (i + 1)) ((ledL V people c (10 ^ cnt people)).getD k 0)) else glA V τ people goal N i c i' c')) → jW G mi_X5_traces 5 M9 110 [some (jr (some 90)), some (.int (nI goal)), some (.int (nI N)), some (.int (nI i)), some (.int (nI c)), some (.int (nI (ledL V people c (10 ^ cnt people)).length)), some (.int (nI x.1))] [] x.2 P := by
  have hc3 := h.2.1.2.1
  have h1000 := q10 hc3
  have hle := ledL_le V people c (10 ^ cnt people)
  refine jW.loop (σ := Nat × Mm) _ (fun x => (ledL V people c (10 ^ cnt people)).length - x.1) _ (fun _ => []) (fun x => x.2) (fun x hI ih => ?_)
  obtain ⟨k, M1⟩ := x
  obtain ⟨hk, ⟨hf, hS⟩, hL, hG⟩ := hI
  dsimp only at hk hf hS hL hG ih ⊢
  by_cases hkn : k < (ledL V people c (10 ^ cnt people)).length
  · obtain ⟨l1, l2⟩ := led_at hkn
    have e1 := hG (i + 1) _ hi l1 trivial
    dsimp only at e1
    rw [if_neg (fun q => by omega), glA, if_pos (show aft i c (i + 1) _ from Or.inl (Nat.lt_succ_self _))] at e1
    refine jw_iload (pc := 110) dX5_traces_110 rfl ?_
    refine jw_iload (pc := 112) dX5_traces_112 rfl ?_
    first | refine jx_icmp_ge (pc := 114) (tgt := 160) dX5_traces_114 (by decide) (by omega) (by omega) ?_ ?_ | refine jw_icmp_ge (pc := 114) (tgt := 160) dX5_traces_114 (by decide) ?_ ?_
    · intro h_114
      omega
    · intro h_114
      refine jw_aload_n (pc := 117) dX5_traces_117 rfl ?_
      refine jx_getRs (pc := 118) (jf_X5_37_4.r) rfl dX5_traces_118 rfl (is_90 hS) (by decide) (sr_90_79 hS) ?_
      refine jw_sipush (pc := 121) dX5_traces_121 sp_1000 ?_
      refine jw_iload_n (pc := 124) dX5_traces_124 rfl ?_
      refine jw_iconst (pc := 125) dX5_traces_125 ic_1 ?_
      first | refine jx_iadd (pc := 126) dX5_traces_126 ?_ | refine jw_iadd (pc := 126) dX5_traces_126 ?_
      first | refine jx_imul (pc := 127) dX5_traces_127 ?_ | refine jw_imul (pc := 127) dX5_traces_127 ?_
      refine jw_aload_n (pc := 128) dX5_traces_128 rfl ?_
      refine jx_getRs (pc := 129) (jf_X5_40_4.r) rfl dX5_traces_129 rfl (is_90 hS) (by decide) (sr_90_80 hS) ?_
      refine jw_iload (pc := 132) dX5_traces_132 rfl ?_
      refine jx_ialds (pc := 134) dX5_traces_134 (ok_99 hS) (nn_99 hS) rfl (by omega) (hL k hkn) ?_
      first | refine jx_iadd (pc := 135) dX5_traces_135 ?_ | refine jw_iadd (pc := 135) dX5_traces_135 ?_
      refine jx_zalds (pc := 136) dX5_traces_136 (ok_98 hS) (nn_98 hS) rfl (by omega) (e1) ?_
      first | refine jx_ifb_eq (pc := 137) (tgt := 154) dX5_traces_137 (by decide) ?_ ?_ | refine jx_if_eq (pc := 137) (tgt := 154) dX5_traces_137 (by decide) (by omega) ?_ ?_ | refine jw_if_eq (pc := 137) (tgt := 154) dX5_traces_137 (by decide) ?_ ?_
      · intro h_137
        first | refine jx_iinc (pc := 154) dX5_traces_154 rfl rfl ?_ | refine jw_iinc (pc := 154) dX5_traces_154 rfl rfl rfl ?_
        try dsimp only [jput1, jkill, jclr, jis2_i, jis2_l, jis2_rs, jis2_rn, cond]
        refine jw_goto (pc := 157) (tgt := 110) dX5_traces_157 (by decide) ?_
        first
          | (refine ih (k + 1, js_A M1 98 (1000 * i + c) (nI 1)) ⟨hkn, ⟨hf.tr (jsm.A (by unfold trE; omega)), hS⟩, fun k' q => (jA_oth2 (by decide)).trans (hL k' q), hG.set hc3 hc ?_ (fun _ _ _ _ _ _ => trivial) (fun i' c' q1 q2 q3 => ?_)⟩ (by dsimp only; omega)
             · dsimp only; rw [if_pos ⟨rfl, rfl⟩, anyB_s, h_137, Bool.or_true]; rfl
             · dsimp only; rw [if_neg q3, if_neg q3])
          | (refine ih (k + 1, M1) ⟨hkn, ⟨hf, hS⟩, hL, hG.cg (fun _ _ _ _ _ => trivial) (fun i' c' q1 q2 q3 => ?_)⟩ (by dsimp only; omega)
             dsimp only; rw [anyB_s, h_137, Bool.or_false])
      · intro h_137
        refine jw_aload_n (pc := 140) dX5_traces_140 rfl ?_
        refine jx_getRs (pc := 141) (jf_X5_37_4.r) rfl dX5_traces_141 rfl (is_90 hS) (by decide) (sr_90_79 hS) ?_
        refine jw_sipush (pc := 144) dX5_traces_144 sp_1000 ?_
        refine jw_iload_n (pc := 147) dX5_traces_147 rfl ?_
        first | refine jx_imul (pc := 148) dX5_traces_148 ?_ | refine jw_imul (pc := 148) dX5_traces_148 ?_
        refine jw_iload (pc := 149) dX5_traces_149 rfl ?_
        first | refine jx_iadd (pc := 151) dX5_traces_151 ?_ | refine jw_iadd (pc := 151) dX5_traces_151 ?_
        refine jw_iconst (pc := 152) dX5_traces_152 ic_1 ?_
        refine jx_zast (pc := 153) dX5_traces_153 (by decide) (ok_98 hS) (nn_98 hS) rfl (by omega) (by exact jnar_1) ?_
        first | refine jx_iinc (pc := 154) dX5_traces_154 rfl rfl ?_ | refine jw_iinc (pc := 154) dX5_traces_154 rfl rfl rfl ?_
        try dsimp only [jput1, jkill, jclr, jis2_i, jis2_l, jis2_rs, jis2_rn, cond]
        refine jw_goto (pc := 157) (tgt := 110) dX5_traces_157 (by decide) ?_
        first
          | (refine ih (k + 1, js_A M1 98 (1000 * i + c) (nI 1)) ⟨hkn, ⟨hf.tr (jsm.A (by unfold trE; omega)), hS⟩, fun k' q => (jA_oth2 (by decide)).trans (hL k' q), hG.set hc3 hc ?_ (fun _ _ _ _ _ _ => trivial) (fun i' c' q1 q2 q3 => ?_)⟩ (by dsimp only; omega)
             · dsimp only; rw [if_pos ⟨rfl, rfl⟩, anyB_s, h_137, Bool.or_true]; rfl
             · dsimp only; rw [if_neg q3, if_neg q3])
          | (refine ih (k + 1, M1) ⟨hkn, ⟨hf, hS⟩, hL, hG.cg (fun _ _ _ _ _ => trivial) (fun i' c' q1 q2 q3 => ?_)⟩ (by dsimp only; omega)
             dsimp only; rw [anyB_s, h_137, Bool.or_false])
  · have hk' : k = (ledL V people c (10 ^ cnt people)).length := by omega
    subst hk'
    refine jw_iload (pc := 110) dX5_traces_110 rfl ?_
    refine jw_iload (pc := 112) dX5_traces_112 rfl ?_
    first | refine jx_icmp_ge (pc := 114) (tgt := 160) dX5_traces_114 (by decide) (by omega) (by omega) ?_ ?_ | refine jw_icmp_ge (pc := 114) (tgt := 160) dX5_traces_114 (by decide) ?_ ?_
    · intro h_114
      refine jW.sub ?_ (fin M1 hf hS (hG.cg (fun _ _ _ _ _ => trivial) (fun i' c' q1 q2 q3 => ?_)))
      · exact ⟨rfl, rfl, rfl, rfl, rfl, trivial⟩
      · unfold glA
        by_cases q : i' = i ∧ c' = c
        · rw [if_pos q, q.1, q.2, if_pos (show aft i (c + 1) i c from Or.inr ⟨rfl, Nat.lt_succ_self _⟩), show N - i = (N - (i + 1)) + 1 by omega, glC_s, show N - (N - (i + 1) + 1) = i by omega, hcan, Bool.true_and]
          exact led_any (g := glC V τ people goal N (N - (i + 1)))
        · rw [if_neg q]
          by_cases q4 : aft i c i' c'
          · rw [if_pos q4, if_pos (show aft i (c + 1) i' c' by unfold aft at q4 ⊢; omega)]
          · rw [if_neg q4, if_neg (show ¬ aft i (c + 1) i' c' by unfold aft at q4 ⊢; omega)]
    · intro h_114
      omega
theorem lp_t71 {M9 M0 : Mm} {goal N i : Nat} {P : Rs → Mm → Prop} (h : jMk M0 w V τ people) (hN : N ≤ 30) (hi : i < N) (hC : jCk M0 V τ people N (10 ^ cnt people) (canC V τ people N))
    (fin : ∀ M', jsm trE M0 M' → jSh M' → jGz M' people N (fun _ _ => True) (glA V τ people goal N i (10 ^ cnt people)) → jW G mi_X5_traces 5 M9 166 [some (jr (some 90)), some (.int (nI goal)), some (.int (nI N)), some (.int (nI i)), none, none, none] [] M' P) :
    ∀ x : Nat × Mm, (x.1 ≤ 10 ^ cnt people ∧ (jsm trE M0 x.2 ∧ jSh x.2) ∧ jGz x.2 people N (fun _ _ => True) (glA V τ people goal N i x.1)) → jW G mi_X5_traces 5 M9 71 [some (jr (some 90)), some (.int (nI goal)), some (.int (nI N)), some (.int (nI i)), some (.int (nI x.1)), none, none] [] x.2 P := by
  have hc3 := h.2.1.2.1
  have ho := h.2.1.2.2.2.1
  have h1000 := q10 hc3
  refine jW.loop (σ := Nat × Mm) _ (fun x => 10 ^ cnt people - x.1) _ (fun _ => []) (fun x => x.2) (fun x hI ih => ?_)
  obtain ⟨c, M1⟩ := x
  obtain ⟨hc, ⟨hf, hS⟩, hG⟩ := hI
  dsimp only at hc hf hS hG ih ⊢
  have h2 := h.fr hf hS (fun a => trE_k)
  by_cases hkn : c < 10 ^ cnt people
  · have e1 := (hC.fr h.1.1 hf (by unfold trE; omega)).1 i c hi hkn
    have g99 : jsm (fun a => a = 99) M1 (js_As M1 99 (lsG M1 (ledL V people c (10 ^ cnt people)))) := jsm.As rfl
    have hG2 := hG.fr hS g99 (by decide)
    have hf2 := hf.tr (g99.wk (F := trE) (fun a q => by unfold trE; omega))
    have h3 : jMk (js_As M1 99 (lsG M1 (ledL V people c (10 ^ cnt people)))) w V τ people := h.fr hf2 hS (fun a => trE_k)
    have hS3 : jSh (js_As M1 99 (lsG M1 (ledL V people c (10 ^ cnt people)))) := hS
    have nx : ∀ M', jsm trE (js_As M1 99 (lsG M1 (ledL V people c (10 ^ cnt people)))) M' → jSh M' → jGz M' people N (fun _ _ => True) (glA V τ people goal N i (c + 1)) → jW G mi_X5_traces 5 M9 160 [some (jr (some 90)), some (.int (nI goal)), some (.int (nI N)), some (.int (nI i)), some (.int (nI c)), none, none] [] M' P := by
      intro M' q1 q2 q3
      have hS := q2
      first | refine jx_iinc (pc := 160) dX5_traces_160 rfl rfl ?_ | refine jw_iinc (pc := 160) dX5_traces_160 rfl rfl rfl ?_
      try dsimp only [jput1, jkill, jclr, jis2_i, jis2_l, jis2_rs, jis2_rn, cond]
      refine jw_goto (pc := 163) (tgt := 71) dX5_traces_163 (by decide) ?_
      exact ih (c + 1, M') ⟨hkn, ⟨hf2.tr q1, q2⟩, q3⟩ (by dsimp only; omega)
    refine jw_iload (pc := 71) dX5_traces_71 rfl ?_
    refine jw_aload_n (pc := 73) dX5_traces_73 rfl ?_
    refine jx_getIs (pc := 74) (jf_X5_473_4.r) rfl dX5_traces_74 rfl (is_90 hS) (by decide) (h2.2.2.2.2.2.1) ?_
    first | refine jx_icmp_ge (pc := 77) (tgt := 166) dX5_traces_77 (by decide) (by omega) (by omega) ?_ ?_ | refine jw_icmp_ge (pc := 77) (tgt := 166) dX5_traces_77 (by decide) ?_ ?_
    · intro h_77
      omega
    · intro h_77
      refine jw_aload_n (pc := 80) dX5_traces_80 rfl ?_
      refine jx_getRs (pc := 81) (jf_X5_33_4.r) rfl dX5_traces_81 rfl (is_90 hS) (by decide) (sr_90_78 hS) ?_
      refine jw_sipush (pc := 84) dX5_traces_84 sp_1000 ?_
      refine jw_iload_n (pc := 87) dX5_traces_87 rfl ?_
      first | refine jx_imul (pc := 88) dX5_traces_88 ?_ | refine jw_imul (pc := 88) dX5_traces_88 ?_
      refine jw_iload (pc := 89) dX5_traces_89 rfl ?_
      first | refine jx_iadd (pc := 91) dX5_traces_91 ?_ | refine jw_iadd (pc := 91) dX5_traces_91 ?_
      refine jx_zalds (pc := 92) dX5_traces_92 (ok_97 hS) (nn_97 hS) rfl (by omega) (e1) ?_
      first | refine jx_ifb_ne (pc := 93) (tgt := 99) dX5_traces_93 (by decide) ?_ ?_ | refine jx_if_ne (pc := 93) (tgt := 99) dX5_traces_93 (by decide) (by omega) ?_ ?_ | refine jw_if_ne (pc := 93) (tgt := 99) dX5_traces_93 (by decide) ?_ ?_
      · intro h_93
        refine jw_aload_n (pc := 99) dX5_traces_99 rfl ?_
        refine jw_iload (pc := 100) dX5_traces_100 rfl ?_
        refine jx_cVE (mi1 := mi_X5_leads) (pc := 102) rfl dX5_traces_102 lk_X5_485 rfl fi_X5_leads rfl rfl rfl (by decide) (is_90 hS) (t_X5_leads h2 (by omega) (canC_v h.1.w h.2.1.1 ho h_93)) (by first | decide | omega) rfl rfl (by decide) ?_
        refine jw_istore (pc := 105) dX5_traces_105 (Nat.le_of_ble_eq_true rfl) rfl ?_
        try dsimp only [jput1, jput2, jkill, jclr, jis2_i, jis2_l, jis2_rs, jis2_rn, cond]
        refine jw_iconst (pc := 107) dX5_traces_107 ic_0 ?_
        refine jw_istore (pc := 108) dX5_traces_108 (Nat.le_of_ble_eq_true rfl) rfl ?_
        try dsimp only [jput1, jput2, jkill, jclr, jis2_i, jis2_l, jis2_rs, jis2_rn, cond]
        refine lp_t110 h3 hN hi hkn h_93 nx (0, js_As M1 99 (lsG M1 (ledL V people c (10 ^ cnt people)))) ⟨Nat.zero_le _, ⟨jsm.rf, hS3⟩, fun k hk => lsG_r hk, hG2.cg (fun _ _ _ _ _ => trivial) (fun i' c' q1 q2 q3 => ?_)⟩
        dsimp only
        by_cases q : i' = i ∧ c' = c
        · rw [if_pos q, q.1, q.2]
          show glA V τ people goal N i c i c = false
          unfold glA
          rw [if_neg (show ¬ aft i c i c by unfold aft; omega)]
          unfold bsG; rw [decide_eq_false (by omega)]; rfl
        · rw [if_neg q]
      · intro h_93
        refine jw_goto (pc := 96) (tgt := 160) dX5_traces_96 (by decide) ?_
        first | refine jx_iinc (pc := 160) dX5_traces_160 rfl rfl ?_ | refine jw_iinc (pc := 160) dX5_traces_160 rfl rfl rfl ?_
        try dsimp only [jput1, jkill, jclr, jis2_i, jis2_l, jis2_rs, jis2_rn, cond]
        refine jw_goto (pc := 163) (tgt := 71) dX5_traces_163 (by decide) ?_
        refine ih (c + 1, M1) ⟨hkn, ⟨hf, hS⟩, hG.cg (fun _ _ _ _ _ => trivial) (fun i' c' q1 q2 q3 => ?_)⟩ (by dsimp only; omega)
        show glA V τ people goal N i c i' c' = glA V τ people goal N i (c + 1) i' c'
        unfold glA
        by_cases q : i' = i ∧ c' = c
        · rw [q.1, q.2, if_neg (show ¬ aft i c i c by unfold aft; omega), if_pos (show aft i (c + 1) i c from Or.inr ⟨rfl, Nat.lt_succ_self _⟩), show N - i = (N - (i + 1)) + 1 by omega, glC_s, show N - (N - (i + 1) + 1) = i by omega, h_93, Bool.false_and]
          unfold bsG; rw [decide_eq_false (by omega)]; rfl
        · by_cases q4 : aft i c i' c'
          · rw [if_pos q4, if_pos (show aft i (c + 1) i' c' by unfold aft at q4 ⊢; omega)]
          · rw [if_neg q4, if_neg (show ¬ aft i (c + 1) i' c' by unfold aft at q4 ⊢; omega)]
  · have hk' : c = 10 ^ cnt people := by omega
    subst hk'
    refine jw_iload (pc := 71) dX5_traces_71 rfl ?_
    refine jw_aload_n (pc := 73) dX5_traces_73 rfl ?_
    refine jx_getIs (pc := 74) (jf_X5_473_4.r) rfl dX5_traces_74 rfl (is_90 hS) (by decide) (h2.2.2.2.2.2.1) ?_
    first | refine jx_icmp_ge (pc := 77) (tgt := 166) dX5_traces_77 (by decide) (by omega) (by omega) ?_ ?_ | refine jw_icmp_ge (pc := 77) (tgt := 166) dX5_traces_77 (by decide) ?_ ?_
    · intro h_77
      refine jW.sub ?_ (fin M1 hf hS hG)
      exact ⟨rfl, rfl, rfl, rfl, trivial⟩
    · intro h_77
      omega
theorem t_X5_traces {goal N : Nat} (h : jMk M w V τ people) (hN : N ≤ 30) (hg : goal < 10 ^ cnt people) (hC : jCk M V τ people N (10 ^ cnt people) (canC V τ people N)) : jT G mi_X5_traces 5 [jr (some 90), .int (nI goal), .int (nI N)] M (jPv (fun M' => jsm trE M M' ∧ jSh M' ∧ jGz M' people N (fun _ _ => True) (fun i c => glC V τ people goal N (N - i) c))) := by
  have hS := h.1.1
  have hc3 := h.2.1.2.1
  have h1000 := q10 hc3
  refine jT.of (by decide) rfl (Nat.le_of_ble_eq_true rfl) ?_
  have K2 : ∀ x : Nat × Mm, (x.1 ≤ N ∧ (jsm trE M x.2 ∧ jSh x.2) ∧ jGz x.2 people N (fun _ _ => True) (fun i' c' => if x.1 ≤ i' then glC V τ people goal N (N - i') c' else bsG goal N i' c')) → jW G mi_X5_traces 5 M 64 [some (jr (some 90)), some (.int (nI goal)), some (.int (nI N)), some (.int (nI x.1 - nI 1)), none, none, none] [] x.2 (jPv (fun M' => jsm trE M M' ∧ jSh M' ∧ jGz M' people N (fun _ _ => True) (fun i c => glC V τ people goal N (N - i) c))) := by
    refine jW.loop (σ := Nat × Mm) _ (fun x => x.1) _ (fun _ => []) (fun x => x.2) (fun x hI ih => ?_)
    obtain ⟨d, M1⟩ := x
    obtain ⟨hd, ⟨hf, hS⟩, hG⟩ := hI
    dsimp only at hd hf hS hG ih ⊢
    have h2 := h.fr hf hS (fun a => trE_k)
    by_cases hkn : 1 ≤ d
    · have e9 := zdec hkn
      rw [sub1 hkn] at e9
      rw [sub1 hkn]
      have nx : ∀ M', jsm trE M1 M' → jSh M' → jGz M' people N (fun _ _ => True) (glA V τ people goal N (d - 1) (10 ^ cnt people)) → jW G mi_X5_traces 5 M 166 [some (jr (some 90)), some (.int (nI goal)), some (.int (nI N)), some (.int (nI (d - 1))), none, none, none] [] M' (jPv (fun M' => jsm trE M M' ∧ jSh M' ∧ jGz M' people N (fun _ _ => True) (fun i c => glC V τ people goal N (N - i) c))) := by
        intro M' q1 q2 q3
        have hS := q2
        refine jw_iinc (pc := 166) dX5_traces_166 rfl rfl rfl ?_
        try dsimp only [jput1, jkill, jclr, jis2_i, jis2_l, jis2_rs, jis2_rn, cond]
        refine jw_goto (pc := 169) (tgt := 64) dX5_traces_169 (by decide) ?_
        refine jW.eq ?_ rfl rfl (ih (d - 1, M') ⟨by dsimp only; omega, ⟨hf.tr q1, q2⟩, q3.cg (fun _ _ _ _ _ => trivial) (fun i' c' z1 z2 z3 => ?_)⟩ (by dsimp only; omega))
        · rw [e9]
        · dsimp only
          unfold glA
          by_cases q : d - 1 ≤ i'
          · rw [if_pos q, if_pos (show aft (d - 1) (10 ^ cnt people) i' c' by unfold aft; omega)]
          · rw [if_neg q, if_neg (show ¬ aft (d - 1) (10 ^ cnt people) i' c' by unfold aft; omega)]
      refine jw_iload_n (pc := 64) dX5_traces_64 rfl ?_
      refine jw_if_lt (pc := 65) (tgt := 172) dX5_traces_65 (by decide) ?_ ?_
      · intro h_65
        exact absurd h_65 (nI_nn (by omega))
      · intro h_65
        refine jw_iconst (pc := 68) dX5_traces_68 ic_0 ?_
        refine jw_istore (pc := 69) dX5_traces_69 (Nat.le_of_ble_eq_true rfl) rfl ?_
        try dsimp only [jput1, jput2, jkill, jclr, jis2_i, jis2_l, jis2_rs, jis2_rn, cond]
        refine lp_t71 h2 hN (by omega) (hC.fr h.1.1 hf (by unfold trE; omega)) nx (0, M1) ⟨Nat.zero_le _, ⟨jsm.rf, hS⟩, hG.cg (fun _ _ _ _ _ => trivial) (fun i' c' z1 z2 z3 => ?_)⟩
        dsimp only
        unfold glA
        by_cases q : d ≤ i'
        · rw [if_pos q, if_pos (show aft (d - 1) 0 i' c' by unfold aft; omega)]
        · rw [if_neg q, if_neg (show ¬ aft (d - 1) 0 i' c' by unfold aft; omega)]
    · have hk' : d = 0 := by omega
      subst hk'
      refine jw_iload_n (pc := 64) dX5_traces_64 rfl ?_
      refine jw_if_lt (pc := 65) (tgt := 172) dX5_traces_65 (by decide) ?_ ?_
      · intro h_65
        refine jw_return (pc := 172) dX5_traces_172 rfl ?_
        exact ⟨rfl, hf, hS, hG.cg (fun _ _ _ _ _ => trivial) (fun i' c' z1 z2 z3 => if_pos (Nat.zero_le _))⟩
      · intro h_65
        exact absurd (by decide +kernel) h_65
  have K1 : ∀ x : Nat × Mm, (x.1 ≤ N + 1 ∧ (jsm trE M x.2 ∧ jSh x.2) ∧ jGz x.2 people N (bef x.1 0) (bsG goal N)) → jW G mi_X5_traces 5 M 2 [some (jr (some 90)), some (.int (nI goal)), some (.int (nI N)), some (.int (nI x.1)), none, none, none] [] x.2 (jPv (fun M' => jsm trE M M' ∧ jSh M' ∧ jGz M' people N (fun _ _ => True) (fun i c => glC V τ people goal N (N - i) c))) := by
    refine jW.loop (σ := Nat × Mm) _ (fun x => N + 1 - x.1) _ (fun _ => []) (fun x => x.2) (fun x hI ih => ?_)
    obtain ⟨i, M1⟩ := x
    obtain ⟨hi, ⟨hf, hS⟩, hG⟩ := hI
    dsimp only at hi hf hS hG ih ⊢
    have h2 := h.fr hf hS (fun a => trE_k)
    by_cases hkn : i ≤ N
    · have nx : ∀ M', jsm trE M1 M' → jSh M' → jGz M' people N (bef (i + 1) 0) (bsG goal N) → jW G mi_X5_traces 5 M 54 [some (jr (some 90)), some (.int (nI goal)), some (.int (nI N)), some (.int (nI i)), none, none, none] [] M' (jPv (fun M' => jsm trE M M' ∧ jSh M' ∧ jGz M' people N (fun _ _ => True) (fun i c => glC V τ people goal N (N - i) c))) := by
        intro M' q1 q2 q3
        have hS := q2
        first | refine jx_iinc (pc := 54) dX5_traces_54 rfl rfl ?_ | refine jw_iinc (pc := 54) dX5_traces_54 rfl rfl rfl ?_
        try dsimp only [jput1, jkill, jclr, jis2_i, jis2_l, jis2_rs, jis2_rn, cond]
        refine jw_goto (pc := 57) (tgt := 2) dX5_traces_57 (by decide) ?_
        exact ih (i + 1, M') ⟨by dsimp only; omega, ⟨hf.tr q1, q2⟩, q3⟩ (by dsimp only; omega)
      refine jw_iload_n (pc := 2) dX5_traces_2 rfl ?_
      refine jw_iload_n (pc := 3) dX5_traces_3 rfl ?_
      first | refine jx_icmp_gt (pc := 4) (tgt := 60) dX5_traces_4 (by decide) (by omega) (by omega) ?_ ?_ | refine jw_icmp_gt (pc := 4) (tgt := 60) dX5_traces_4 (by decide) ?_ ?_
      · intro h_4
        omega
      · intro h_4
        refine jw_iconst (pc := 7) dX5_traces_7 ic_0 ?_
        refine jw_istore (pc := 8) dX5_traces_8 (Nat.le_of_ble_eq_true rfl) rfl ?_
        try dsimp only [jput1, jput2, jkill, jclr, jis2_i, jis2_l, jis2_rs, jis2_rn, cond]
        exact lp_t10 h2 hN hkn hg nx (0, M1) ⟨Nat.zero_le _, ⟨jsm.rf, hS⟩, hG⟩
    · have hk' : i = N + 1 := by omega
      subst hk'
      refine jw_iload_n (pc := 2) dX5_traces_2 rfl ?_
      refine jw_iload_n (pc := 3) dX5_traces_3 rfl ?_
      first | refine jx_icmp_gt (pc := 4) (tgt := 60) dX5_traces_4 (by decide) (by omega) (by omega) ?_ ?_ | refine jw_icmp_gt (pc := 4) (tgt := 60) dX5_traces_4 (by decide) ?_ ?_
      · intro h_4
        refine jw_iload_n (pc := 60) dX5_traces_60 rfl ?_
        refine jw_iconst (pc := 61) dX5_traces_61 ic_1 ?_
        refine jw_isub (pc := 62) dX5_traces_62 ?_
        refine jw_istore_n (pc := 63) dX5_traces_63 (Nat.le_of_ble_eq_true rfl) rfl ?_
        try dsimp only [jput1, jput2, jkill, jclr, jis2_i, jis2_l, jis2_rs, jis2_rn, cond]
        refine K2 (N, M1) ⟨Nat.le_refl _, ⟨hf, hS⟩, hG.cg (fun i' c' z1 z2 z3 => Or.inl (by omega)) (fun i' c' z1 z2 z3 => ?_)⟩
        dsimp only
        by_cases q : N ≤ i'
        · have e : i' = N := by omega
          subst e
          rw [if_pos q, Nat.sub_self]
          unfold bsG; rw [decide_eq_true rfl, Bool.true_and]; rfl
        · rw [if_neg q]
      · intro h_4
        omega
  refine jw_iconst (pc := 0) dX5_traces_0 ic_0 ?_
  refine jw_istore_n (pc := 1) dX5_traces_1 (Nat.le_of_ble_eq_true rfl) rfl ?_
  try dsimp only [jput1, jput2, jkill, jclr, jis2_i, jis2_l, jis2_rs, jis2_rn, cond]
  exact K1 (0, M) ⟨Nat.zero_le _, ⟨jsm.rf, hS⟩, fun i' c' z1 z2 z3 => by unfold bef at z3; omega⟩
end JMT
