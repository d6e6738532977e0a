/-! ===== m's valley ===== -/
/-- a valley was read: what the state was, but for what is told -/
def stV1 (σ : Sg) (V : Vt) : Sg := (some V, fun _ => 0, fun k => if k = 1 then 0 else if k = 3 then -1 else si σ k, fun i k => if i = 0 then V 11 k else V 11 (k / 100), σ.2.2.2.2)
def stV (σ : Sg) (V : Vt) : Sg := sgT (stV1 σ V) 0 (-1)
/-- refused -/
def stF (σ : Sg) (f : Fl) : Sg := (σ.1, fun k => if k = 2 then 0 else sn σ k, fun k => if k = 0 then 4 else if k = 1 then nI f.1 else if k = 2 then nI f.2 else si σ k, σ.2.2.2)
def o_valley (σ : Sg) (x : Int32) : Int32 × Sg := if inb x (nI 0) (nI (sn σ 2)) = true then (match rdV (chI σ (cNt x)) (cNt x) with
  | .error f => (-1, stF σ f)
  | .ok V => (nI (V 0 1), stV σ V)) else (-1, sgT σ 2 (-1))
theorem rdN_ok {σ : Sg} {n : Nat} : ∀ (k : Nat) (V : Vt) (p : Nat) (r : Vt × Nat), vOk V → p ≤ n → rdN (chI σ n) n k V p = .ok r → vOk r.1 ∧ r.2 ≤ n
  | 0, V, p, r, _, _, e => by cases e
  | k + 1, V, p, r, hv, hp, e => by
    rw [rdN_s] at e
    obtain ⟨q, e1, e2⟩ := bind_ok e
    obtain ⟨y1, y2, y3⟩ := line_ok hv hp e1
    by_cases h : tkK (chI σ n) n q.2 = 59
    · rw [if_pos h] at e2
      exact rdN_ok k q.1 _ r y1 tkE_le e2
    · rw [if_neg h] at e2; cases e2; exact ⟨y1, y3⟩
theorem rdV_of {σ : Sg} {n : Nat} : (∀ f, rdF (chI σ n) n (rdN (chI σ n) n (n + 1) (fun _ _ => 0) 0) = .error f → rdV (chI σ n) n = .error f) ∧ (∀ r, rdF (chI σ n) n (rdN (chI σ n) n (n + 1) (fun _ _ => 0) 0) = .ok r → rdV (chI σ n) n = .ok r.1 ∧ vOk r.1 ∧ 1 ≤ r.1 0 0 ∧ 1 ≤ r.1 0 1 ∧ 1 ≤ r.1 0 12) := by
  unfold rdV rdF
  cases h : rdN (chI σ n) n (n + 1) (fun _ _ => 0) 0 with
  | error g => exact ⟨fun f e => (by cases e; rfl), fun r e => (by cases e)⟩
  | ok q =>
    have hv := (rdN_ok _ _ _ _ vOk_0 (Nat.zero_le _) h).1
    show (∀ f, ((rdE (chI σ n) n q).bind (fun V => Except.ok (V, q.2)) : Except Fl (Vt × Nat)) = .error f → rdE (chI σ n) n q = .error f) ∧ (∀ r, ((rdE (chI σ n) n q).bind (fun V => Except.ok (V, q.2)) : Except Fl (Vt × Nat)) = .ok r → rdE (chI σ n) n q = .ok r.1 ∧ _)
    cases h2 : rdE (chI σ n) n q with
    | error g => exact ⟨fun f e => (by cases e; rfl), fun r e => (by cases e)⟩
    | ok V =>
      refine ⟨fun f e => (by cases e), fun r e => ?_⟩
      cases e
      unfold rdE at h2
      split at h2
      · split at h2
        · cases h2
        · cases h2
          refine ⟨rfl, hv, ?_, ?_, ?_⟩ <;> dsimp only <;> omega
      · cases h2
theorem jSo.F {σ : Sg} {f : Fl} (h : jSo σ) : jSo (stF σ f) := ⟨⟨Nat.zero_le _, h.1.2⟩, h.2⟩
theorem jSo.V {σ : Sg} {V : Vt} (h : vOk V) (h0 : 1 ≤ V 0 0) (h1 : 1 ≤ V 0 1) (h2 : 1 ≤ V 0 12) : jSo (stV1 σ V) := by
  refine ⟨⟨Nat.zero_le _, fun V' e => ?_⟩, fun V' e => ?_⟩
  · cases e; exact ⟨h0, h1, h2⟩
  · cases e
    refine ⟨h.1, fun p hp => (wf_q h.1 hp).1, fun p t hp ht => ?_, show 0 < 100 by decide, show 0 < 65537 by decide, Or.inl rfl⟩
    show V 11 ((100 * p + t) / 100) < V 0 0
    rw [show (100 * p + t) / 100 = p by omega]
    exact (wf_q h.1 hp).1
/-- what m's valley may change, and how many cells it makes -/
def jmV (M M' : Mm) : Prop := jsm (fun a => jmE a ∨ a = 62) M M' ∧ jm_Z M' ≤ jm_Z M + 25 ∧ jm_S M' ≤ jm_S M + 423
/-- new addresses are no old ones -/
theorem jsm.old {E F : Nat → Prop} {M M' : Mm} (h : jsm E M M') (hEF : ∀ a, E a → a < jm_Z M → F a) (h62 : F 62) : jsm F M M' := ⟨h.1, ⟨h.2.1.1, fun q => absurd h62 q⟩, fun a h1 h2 => h.2.2 a h1 (fun q => h2 (hEF a q h1))⟩
section JMX
variable {G : Gh} {M : Mm} {σ : Sg}
theorem lp_mvE {M0 M9 : Mm} {n w : Nat} {f : Fl} {x : Int32} {P : Rs → Mm → Prop} (h : mRd M σ n w (.error f)) (k : P (.inl (some (.int (-1)))) (js_I (js_I M 90 50 (nI 4)) 90 51 (nI f.2))) : jW G mi_X5_valley 15 M9 67 [some (jr (some 90)), some (.int x), none] [] M P := by
  have hS := h.S
  have hf := h.2.2.2.2
  refine jw_aload_n (pc := 67) dX5_valley_67 rfl ?_
  refine jx_getIs (pc := 68) (jf_X5_114_4.r) rfl dX5_valley_68 rfl (is_90 hS) (by decide) (h.2.2.1) ?_
  refine jw_if_le (pc := 71) (tgt := 89) dX5_valley_71 (by decide) ?_ ?_
  · intro h_71
    exact absurd h_71 (by
      have : ∀ m, 1 ≤ m → m ≤ 6 → ¬ nI m ≤ 0 := by
        intro m m1 m2 q
        rw [← nI_0] at q
        have := (nI_leI (by omega) (by decide)).mp q
        omega
      exact this _ hf.1 hf.2)
  · intro h_71
    refine jw_aload_n (pc := 74) dX5_valley_74 rfl ?_
    refine jw_iconst (pc := 75) dX5_valley_75 ic_4 ?_
    refine jx_putI (pc := 76) jf_X5_59_4 rfl dX5_valley_76 rfl rfl (is_90 hS) (by decide) ?_
    refine jw_aload_n (pc := 79) dX5_valley_79 rfl ?_
    refine jw_aload_n (pc := 80) dX5_valley_80 rfl ?_
    refine jx_getIs (pc := 81) (jf_X5_117_4.r) rfl dX5_valley_81 rfl (is_90 hS) (by decide) (h.2.2.2.1) ?_
    refine jx_putI (pc := 84) jf_X5_9_4 rfl dX5_valley_84 rfl rfl (is_90 hS) (by decide) ?_
    refine jw_iconst (pc := 87) dX5_valley_87 ic_m1 ?_
    refine jw_ireturn (pc := 88) dX5_valley_88 rfl (rfl) ?_
    exact k
theorem lp_mvA {M9 : Mm} {w q : Nat} {V : Vt} {x : Int32} {P : Rs → Mm → Prop} (hs : jMs M w V 0 0) (hN5 : V 0 1 ≤ 5) (hq : q ≤ V 0 1) (ih : q + 1 ≤ V 0 1 → jW G mi_X5_valley 15 M9 119 [some (jr (some 90)), some (.int x), some (.int (nI (q + 1)))] [] (js_A M 92 q (nI (V 11 q))) P) (k : q = V 0 1 → jW G mi_X5_valley 15 M9 151 [some (jr (some 90)), some (.int x), some (.int (nI q))] [] M P) :
    jW G mi_X5_valley 15 M9 119 [some (jr (some 90)), some (.int x), some (.int (nI q))] [] M P := by
  have hS := hs.1
  have hw := hs.s
  have hct := mi_nq hs.V
  by_cases hqn : q < V 0 1
  ·
    refine jw_iload_n (pc := 119) dX5_valley_119 rfl ?_
    refine jw_aload_n (pc := 120) dX5_valley_120 rfl ?_
    refine jx_getRs (pc := 121) (jf_X5_380_4.r) rfl dX5_valley_121 rfl (is_90 hS) (by decide) (hs.r) ?_
    refine jx_getIs (pc := 124) (jf_X5_221_12.r) rfl dX5_valley_124 rfl (wis hw) (by decide) (hct) ?_
    first | refine jx_icmp_ge (pc := 127) (tgt := 151) dX5_valley_127 (by decide) (by omega) (by omega) ?_ ?_ | refine jw_icmp_ge (pc := 127) (tgt := 151) dX5_valley_127 (by decide) ?_ ?_
    · intro h_127
      omega
    · intro h_127
      refine jw_aload_n (pc := 130) dX5_valley_130 rfl ?_
      refine jx_getRs (pc := 131) (jf_X5_17_4.r) rfl dX5_valley_131 rfl (is_90 hS) (by decide) (sr_90_68 hS) ?_
      refine jw_iload_n (pc := 134) dX5_valley_134 rfl ?_
      refine jw_aload_n (pc := 135) dX5_valley_135 rfl ?_
      refine jx_getRs (pc := 136) (jf_X5_380_4.r) rfl dX5_valley_136 rfl (is_90 hS) (by decide) (hs.r) ?_
      refine jx_getRs (pc := 139) jg_X5_323_12 rfl dX5_valley_139 rfl (wis hw) (by decide) (wr_8 hw) ?_
      refine jw_iload_n (pc := 142) dX5_valley_142 rfl ?_
      refine jx_ialds (pc := 143) dX5_valley_143 (wok_8 hw) (wnn_8 hw) rfl (by omega) ((hs.V.2.2.2.2.2.2.1 q hqn).1) ?_
      refine jx_iast (pc := 144) dX5_valley_144 (by decide) (ok_92 hS) (nn_92 hS) rfl (by omega) ?_
      first | refine jx_iinc (pc := 145) dX5_valley_145 rfl rfl ?_ | refine jw_iinc (pc := 145) dX5_valley_145 rfl rfl rfl ?_
      try dsimp only [jput1, jkill, jclr, jis2_i, jis2_l, jis2_rs, jis2_rn, cond]
      refine jw_goto (pc := 148) (tgt := 119) dX5_valley_148 (by decide) ?_
      exact ih hqn
  ·
    refine jw_iload_n (pc := 119) dX5_valley_119 rfl ?_
    refine jw_aload_n (pc := 120) dX5_valley_120 rfl ?_
    refine jx_getRs (pc := 121) (jf_X5_380_4.r) rfl dX5_valley_121 rfl (is_90 hS) (by decide) (hs.r) ?_
    refine jx_getIs (pc := 124) (jf_X5_221_12.r) rfl dX5_valley_124 rfl (wis hw) (by decide) (hct) ?_
    first | refine jx_icmp_ge (pc := 127) (tgt := 151) dX5_valley_127 (by decide) (by omega) (by omega) ?_ ?_ | refine jw_icmp_ge (pc := 127) (tgt := 151) dX5_valley_127 (by decide) ?_ ?_
    · intro h_127
      exact k (by omega)
    · intro h_127
      omega
theorem lp_mvO {M9 : Mm} {n w p : Nat} {V : Vt} {x : Int32} (h : mRd M σ n w (.ok (V, p))) (hv : vOk V) (h0 : 1 ≤ V 0 0) (h1 : 1 ≤ V 0 1) (h2 : 1 ≤ V 0 12) (hI : jm_I M 90 55 = nI 0 ∧ jm_I M 90 50 = si σ 0 ∧ jm_I M 90 51 = si σ 2) (hof : jm_I M 90 66 = nI 0 ∧ jm_I M 90 67 = nI 0) :
    jW G mi_X5_valley 15 M9 67 [some (jr (some 90)), some (.int x), none] [] M (jPi (fun r M' => r = nI (V 0 1) ∧ jMm M' (stV σ V) ∧ jfm M M')) := by
  have hS := h.S
  have hF := h.2.2.2.1
  have hR := h.1.2.2.2.2.2.1
  have hV := h.2.2.2.2.1
  have hN5 := hv.1.n.2.1
  have ht := h.1.2.1
  -- behind the row of places
  have L151 : ∀ M2 : Mm, jMs M2 w V 0 0 → jsm (fun a => a = 90 ∨ a = 92) M M2 → (∀ j, j < V 0 1 → jm_A M2 92 j = nI (V 11 j)) → (jm_I M2 90 70 = nI 0 ∧ jm_I M2 90 71 = nI 0 ∧ jm_I M2 90 81 = -1 ∧ jm_I M2 90 82 = nI 0) → (jm_I M2 90 55 = nI 0 ∧ jm_I M2 90 50 = si σ 0 ∧ jm_I M2 90 62 = 0 ∧ jm_I M2 90 51 = si σ 2) → ∀ x2, jW G mi_X5_valley 15 M9 151 [some (jr (some 90)), some (.int x), x2] [] M2 (jPi (fun r M' => r = nI (V 0 1) ∧ jMm M' (stV σ V) ∧ jfm M M')) := by
    intro M2 hs g hA hn hI2 x2
    have hS := hs.1
    have hg : ∀ f : Nat → Int32, jMs (js_As M2 94 f) w V 0 0 := fun f => hs.As (by decide)
    have hz := hS.2.2.2
    have hzM := h.S.2.2.2
    have hM : jMm (js_As M2 94 (fun i => if i < 100 * V 0 1 then nI (V 11 (i / 100)) else jm_A M2 94 i)) (stV1 σ V) := by
      refine ⟨hS, jSo.V hv h0 h1 h2, hI2, ⟨hs.o, hs.f⟩, fun k hk => ?_, fun q => (by cases q), fun V' e => ?_⟩
      · rw [jA_As, if_neg (by decide)]
        exact ((g.2.2 91 (by omega) (by omega)).2.2.2.2.2.1 k).trans (ht k hk)
      · cases e
        refine ⟨w, hg _, hn.1, hn.2.1, hn.2.2.1, fun q hq => ?_, fun q t hq ht9 => ?_, 0, hn.2.2.2, by decide, fun q m hq e1 e2 => ?_⟩
        · rw [jA_As, if_neg (by decide)]; exact hA q hq
        · rw [jA_As, if_pos rfl, if_pos (by omega)]; rfl
        · have e1 : (-1 : Int32) = nI m := e1
          exact absurd e1.symm (nI_nm (by omega))
    have hct := mi_nq hs.V
    refine jw_aload_n (pc := 151) dX5_valley_151 rfl ?_
    refine jx_cVEv (mi1 := mi_X5_forgets) (pc := 152) rfl dX5_valley_152 lk_X5_392 rfl fi_X5_forgets rfl rfl rfl (by decide) (is_90 hS) (t_X5_forgets hs) (by first | decide | omega) rfl rfl (by decide) ?_
    generalize hM3 : js_As M2 94 (fun i => if i < 100 * V 0 1 then nI (V 11 (i / 100)) else jm_A M2 94 i) = M3 at hM
    have hs3 : jMs M3 w V 0 0 := by rw [← hM3]; exact hg _
    have hg3 : jfm M M3 := by rw [← hM3]; exact (g.wk (fun a q => by omega)).tr (jsm.As (by decide))
    clear hS
    have hS := hM.1
    have hw := hs3.s
    refine jw_aload_n (pc := 155) dX5_valley_155 rfl ?_
    refine jw_aload_n (pc := 156) dX5_valley_156 rfl ?_
    refine jx_getRs (pc := 157) (jf_X5_380_4.r) rfl dX5_valley_157 rfl (is_90 hS) (by decide) (hs3.r) ?_
    refine jx_getIs (pc := 160) (jf_X5_221_12.r) rfl dX5_valley_160 rfl (wis hw) (by decide) (mi_nq hs3.V) ?_
    refine jw_iconst (pc := 163) dX5_valley_163 ic_0 ?_
    refine jx_cVi (mi1 := mi_X5_told) (pc := 164) rfl dX5_valley_164 lk_X5_66 rfl fi_X5_told rfl rfl rfl (by decide) (is_90 hS) (t_X5_told0 hM) (by first | decide | omega) rfl rfl (by decide) ?_
    intro x_164 M_164 q_164
    refine jw_ireturn (pc := 167) dX5_valley_167 rfl (rfl) ?_
    exact ⟨_, rfl, q_164.1, q_164.2.1, hg3.tr q_164.2.2⟩
  refine jw_aload_n (pc := 67) dX5_valley_67 rfl ?_
  refine jx_getIs (pc := 68) (jf_X5_114_4.r) rfl dX5_valley_68 rfl (is_90 hS) (by decide) (hF) ?_
  refine jw_if_le (pc := 71) (tgt := 89) dX5_valley_71 (by decide) ?_ ?_
  · intro h_71
    refine jw_aload_n (pc := 89) dX5_valley_89 rfl ?_
    refine jw_aload_n (pc := 90) dX5_valley_90 rfl ?_
    refine jx_getRs (pc := 91) (jf_X5_173_4.r) rfl dX5_valley_91 rfl (is_90 hS) (by decide) (hR) ?_
    refine jx_putR (pc := 94) jf_X5_380_4 rfl dX5_valley_94 rfl rfl (pd_LNeverUnseenModel_Valley_) (Or.inl ⟨_, rfl⟩) (is_90 hS) (by decide) ?_
    have hS : jSh (js_R M 90 52 (some w)) := hS.R (by decide)
    refine jw_aload_n (pc := 97) dX5_valley_97 rfl ?_
    refine jw_iconst (pc := 98) dX5_valley_98 ic_0 ?_
    refine jx_putI (pc := 99) jf_X5_383_4 rfl dX5_valley_99 rfl rfl (is_90 hS) (by decide) ?_
    refine jw_aload_n (pc := 102) dX5_valley_102 rfl ?_
    refine jw_iconst (pc := 103) dX5_valley_103 ic_0 ?_
    refine jx_putI (pc := 104) jf_X5_386_4 rfl dX5_valley_104 rfl rfl (is_90 hS) (by decide) ?_
    refine jw_aload_n (pc := 107) dX5_valley_107 rfl ?_
    refine jw_iconst (pc := 108) dX5_valley_108 ic_m1 ?_
    refine jx_putI (pc := 109) jf_X5_43_4 rfl dX5_valley_109 rfl rfl (is_90 hS) (by decide) ?_
    refine jw_aload_n (pc := 112) dX5_valley_112 rfl ?_
    refine jw_iconst (pc := 113) dX5_valley_113 ic_0 ?_
    refine jx_putI (pc := 114) jf_X5_389_4 rfl dX5_valley_114 rfl rfl (is_90 hS) (by decide) ?_
    have h7 : jMs (js_I (js_I (js_I (js_I (js_R M 90 52 (some w)) 90 70 (nI 0)) 90 71 (nI 0)) 90 81 (-1)) 90 82 (nI 0)) w V 0 0 := by
      have g7 : jsm (fun a => a = 90) M (js_I (js_I (js_I (js_I (js_R M 90 52 (some w)) 90 70 (nI 0)) 90 71 (nI 0)) 90 81 (-1)) 90 82 (nI 0)) := ((((jsm.R (E := fun a => a = 90) rfl).tr (jsm.I (E := fun a => a = 90) rfl)).tr (jsm.I (E := fun a => a = 90) rfl)).tr (jsm.I (E := fun a => a = 90) rfl)).tr (jsm.I (E := fun a => a = 90) rfl)
      exact ⟨hS, rfl, hV.sm g7 (fun a q1 q2 => by omega), hv.1, hof.1, hof.2⟩
    have g7 : jsm (fun a => a = 90 ∨ a = 92) M (js_I (js_I (js_I (js_I (js_R M 90 52 (some w)) 90 70 (nI 0)) 90 71 (nI 0)) 90 81 (-1)) 90 82 (nI 0)) := ((((jsm.R (Or.inl rfl)).tr (jsm.I (Or.inl rfl))).tr (jsm.I (Or.inl rfl))).tr (jsm.I (Or.inl rfl))).tr (jsm.I (Or.inl rfl))
    have n7 : jm_I (js_I (js_I (js_I (js_I (js_R M 90 52 (some w)) 90 70 (nI 0)) 90 71 (nI 0)) 90 81 (-1)) 90 82 (nI 0)) 90 70 = nI 0 ∧ jm_I (js_I (js_I (js_I (js_I (js_R M 90 52 (some w)) 90 70 (nI 0)) 90 71 (nI 0)) 90 81 (-1)) 90 82 (nI 0)) 90 71 = nI 0 ∧ jm_I (js_I (js_I (js_I (js_I (js_R M 90 52 (some w)) 90 70 (nI 0)) 90 71 (nI 0)) 90 81 (-1)) 90 82 (nI 0)) 90 81 = -1 ∧ jm_I (js_I (js_I (js_I (js_I (js_R M 90 52 (some w)) 90 70 (nI 0)) 90 71 (nI 0)) 90 81 (-1)) 90 82 (nI 0)) 90 82 = nI 0 := ⟨rfl, rfl, rfl, rfl⟩
    have i7 : jm_I (js_I (js_I (js_I (js_I (js_R M 90 52 (some w)) 90 70 (nI 0)) 90 71 (nI 0)) 90 81 (-1)) 90 82 (nI 0)) 90 55 = nI 0 ∧ jm_I (js_I (js_I (js_I (js_I (js_R M 90 52 (some w)) 90 70 (nI 0)) 90 71 (nI 0)) 90 81 (-1)) 90 82 (nI 0)) 90 50 = si σ 0 ∧ jm_I (js_I (js_I (js_I (js_I (js_R M 90 52 (some w)) 90 70 (nI 0)) 90 71 (nI 0)) 90 81 (-1)) 90 82 (nI 0)) 90 62 = 0 ∧ jm_I (js_I (js_I (js_I (js_I (js_R M 90 52 (some w)) 90 70 (nI 0)) 90 71 (nI 0)) 90 81 (-1)) 90 82 (nI 0)) 90 51 = si σ 2 := ⟨hI.1, hI.2.1, hF, hI.2.2⟩
    generalize js_I (js_I (js_I (js_I (js_R M 90 52 (some w)) 90 70 (nI 0)) 90 71 (nI 0)) 90 81 (-1)) 90 82 (nI 0) = M7 at h7 g7 n7 i7 ⊢
    have K : ∀ x' : Nat × Mm, (x'.1 ≤ V 0 1 ∧ jsm (fun a => a = 92) M7 x'.2 ∧ jSh x'.2 ∧ ∀ j, j < x'.1 → jm_A x'.2 92 j = nI (V 11 j)) → jW G mi_X5_valley 15 M9 119 [some (jr (some 90)), some (.int x), some (.int (nI x'.1))] [] x'.2 (jPi (fun r M' => r = nI (V 0 1) ∧ jMm M' (stV σ V) ∧ jfm M M')) := by
      refine jW.loop (σ := Nat × Mm) _ (fun x => V 0 1 - x.1) _ (fun _ => []) (fun x => x.2) (fun x hI ih => ?_)
      obtain ⟨q, M1⟩ := x
      obtain ⟨k1, k2, k3, k4⟩ := hI
      dsimp only at k1 k2 k3 k4 ih ⊢
      have hz7 := h7.1.2.2.2
      have hs := h7.fr k2 k3 (by omega) (fun a q1 q2 => by omega)
      have a90 := k2.2.2 90 (by omega) (by omega)
      exact lp_mvA hs hN5 k1 (fun hq => ih (q + 1, _) ⟨hq, k2.tr (jsm.A rfl), k3, fun j hj => by
          dsimp only
          show jm_A (js_A M1 92 q (nI (V 11 q))) 92 j = nI (V 11 j)
          rw [jA_A]
          by_cases e : j = q
          · subst e; exact if_pos ⟨rfl, rfl⟩
          · rw [if_neg (fun q => e q.2)]; exact k4 j (by dsimp only at hj; omega)⟩ (by dsimp only; omega)) (fun e => L151 M1 hs (g7.tr (k2.wk (fun a q => Or.inr q))) (fun j hj => k4 j (by omega)) ⟨(a90.2.2.1 _).trans n7.1, (a90.2.2.1 _).trans n7.2.1, (a90.2.2.1 _).trans n7.2.2.1, (a90.2.2.1 _).trans n7.2.2.2⟩ ⟨(a90.2.2.1 _).trans i7.1, (a90.2.2.1 _).trans i7.2.1, (a90.2.2.1 _).trans i7.2.2.1, (a90.2.2.1 _).trans i7.2.2.2⟩ _)
    refine jw_iconst (pc := 117) dX5_valley_117 ic_0 ?_
    refine jw_istore_n (pc := 118) dX5_valley_118 (Nat.le_of_ble_eq_true rfl) rfl ?_
    try dsimp only [jput1, jput2, jkill, jclr, jis2_i, jis2_l, jis2_rs, jis2_rn, cond]
    exact K (0, M7) ⟨Nat.zero_le _, jsm.rf, h7.1, fun j hj => absurd hj (Nat.not_lt_zero _)⟩
  · intro h_71
    first | exact absurd (by decide) h_71 | exact absurd (Int32.le_refl _) h_71
end JMX
