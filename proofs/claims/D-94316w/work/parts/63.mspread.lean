/-! ===== m: which states can be come to ===== -/
def jCk (M : Mm) (V : Vt) (τ : Sg) (people i n : Nat) (R : Nat → Bool) : Prop := (∀ i' c, i' < i → c < 10 ^ cnt people → jm_A M 97 (1000 * i' + c) = jb (canC V τ people i' c)) ∧ ∀ c, c < n → jm_A M 97 (1000 * i + c) = jb (R c)
theorem jCk.fr {E : Nat → Prop} {M M1 : Mm} {V : Vt} {τ : Sg} {people i n : Nat} {R : Nat → Bool} (h : jCk M V τ people i n R) (hS : jSh M) (g : jsm E M M1) (hE : ¬ E 97) : jCk M1 V τ people i n R := by
  have hz := hS.2.2.2
  have a97 := (g.2.2 97 (by omega) hE).2.2.2.2.2.1
  exact ⟨fun i' c q1 q2 => (a97 _).trans (h.1 i' c q1 q2), fun c hc => (a97 _).trans (h.2 c hc)⟩
theorem jCk.cg {M : Mm} {V : Vt} {τ : Sg} {people i n : Nat} {R Q : Nat → Bool} (h : jCk M V τ people i n R) (e : ∀ c, c < n → R c = Q c) : jCk M V τ people i n Q := ⟨h.1, fun c hc => by rw [← e c hc]; exact h.2 c hc⟩
theorem jCk.set {M : Mm} {V : Vt} {τ : Sg} {people i n c0 : Nat} {R Q : Nat → Bool} {v : Int32} (h : jCk M V τ people i n R) (h3 : cnt people ≤ 3) (hv : v = jb (Q c0)) (e : ∀ c, c ≠ c0 → R c = Q c) : jCk (js_A M 97 (1000 * i + c0) v) V τ people i n Q := by
  have h1000 := q10 h3
  refine ⟨fun i' c q1 q2 => (jA_oth (by omega)).trans (h.1 i' c q1 q2), fun c hc => ?_⟩
  by_cases q : c = c0
  · subst q; rw [jA_same, hv]
  · rw [jA_oth (by omega), ← e c q]; exact h.2 c hc
theorem jCk.nx {M : Mm} {V : Vt} {τ : Sg} {people i : Nat} (h : jCk M V τ people i (10 ^ cnt people) (canC V τ people i)) : ∀ {R : Nat → Bool}, jCk M V τ people (i + 1) 0 R := fun {_} => ⟨fun i' c q1 q2 => by
  by_cases e : i' = i
  · subst e; exact h.2 c q2
  · exact h.1 i' c (by omega) q2, fun c hc => absurd hc (Nat.not_lt_zero _)⟩
def memN (L : List Nat) (k j : Nat) : Bool := anyB k (fun i => decide (L.getD i 0 = j))
theorem memN_all {L : List Nat} {j : Nat} : memN L L.length j = true ↔ j ∈ L := by
  unfold memN
  rw [anyB_iff]
  constructor
  · rintro ⟨k, k1, k2⟩
    have k3 := of_decide_eq_true k2
    rw [List.getD_eq_getElem?_getD, List.getElem?_eq_getElem k1] at k3
    rw [← k3]; exact List.getElem_mem k1
  · intro h
    obtain ⟨k, k1, k2⟩ := List.mem_iff_getElem.mp h
    refine ⟨k, k1, decide_eq_true ?_⟩
    rw [List.getD_eq_getElem?_getD, List.getElem?_eq_getElem k1]; exact k2
theorem getD_mem {L : List Nat} {k : Nat} (h : k < L.length) : L.getD k 0 ∈ L := by
  rw [List.getD_eq_getElem?_getD, List.getElem?_eq_getElem h]; exact List.getElem_mem h
theorem led_all {V : Vt} {people a n j : Nat} (hj : j < n) : memN (ledL V people a n) (ledL V people a n).length j = stC V people a j := by
  rw [Bool.eq_iff_iff, memN_all, ledL_mem]
  exact ⟨fun q => q.2, fun q => ⟨hj, q⟩⟩
theorem led_at {V : Vt} {people a n k : Nat} (h : k < (ledL V people a n).length) : (ledL V people a n).getD k 0 < n ∧ stC V people a ((ledL V people a n).getD k 0) = true := ledL_mem.mp (getD_mem h)
theorem stC_v {V : Vt} {people a j : Nat} (h : stC V people a j = true) : valB (V 0 0) (cnt people) j = true := by unfold stC at h; rw [Bool.and_eq_true] at h; exact h.1
def sprB (V : Vt) (τ : Sg) (people i n j : Nat) : Bool := anyB n (fun a => canC V τ people i a && stC V people a j)
theorem sprB_s (V : Vt) (τ : Sg) (people i n j : Nat) : sprB V τ people i (n + 1) j = (sprB V τ people i n j || (canC V τ people i n && stC V people n j)) := rfl
theorem sprB_v {V : Vt} {τ : Sg} {people i n j : Nat} (h : sprB V τ people i n j = true) : valB (V 0 0) (cnt people) j = true := by
  obtain ⟨a, a1, a2⟩ := anyB_iff.mp h
  rw [Bool.and_eq_true] at a2
  exact stC_v a2.2
theorem canC_v {V : Vt} {τ : Sg} {people : Nat} (hw : jWf V) (hp : people < 2 ^ V 0 1) (ho : ∀ p, p < V 0 1 → sa τ 0 p < V 0 0) {i c : Nat} (h : canC V τ people i c = true) : valB (V 0 0) (cnt people) c = true := by
  cases i with
  | zero =>
    have e : c = nowC τ people := of_decide_eq_true h
    have hl : ∀ k, k < cnt people → sa τ 0 (mvP people k) < V 0 0 := fun k hk => ho _ (bit_lt hp (mv_ok (mv_n hw hp) hk).2.1)
    rw [e]
    refine allB_iff.mpr (fun k hk => decide_eq_true ?_)
    unfold nowC
    rw [dig_code (fun k hk => Nat.lt_of_lt_of_le (hl k hk) (wf_np hw)) hk]
    exact hl k hk
  | succ i =>
    rw [canC_s, Bool.and_eq_true] at h
    exact sprB_v h.1
def spE (a : Nat) : Prop := a = 93 ∨ a = 97 ∨ a = 99
theorem spE_k {a : Nat} (h : spE a) : mkE a := by unfold spE at h; unfold mkE; omega
section JMS
variable {G : Gh} {M : Mm} {σ τ : Sg} {w people : Nat} {V : Vt}
theorem t_X5_sets (h : jMk M w V τ people) : jT G mi_X5_sets 2 [jr (some 90)] M (jPv (fun M' => jsm (fun a => a = 97) M M' ∧ jSh M' ∧ jCk M' V τ people 0 (10 ^ cnt people) (canC V τ people 0))) := by
  have hS := h.1.1
  have hc3 := h.2.1.2.1
  have h1000 := q10 hc3
  have hnow := nowC_lt h
  refine jT.of (by decide) rfl (Nat.le_of_ble_eq_true rfl) ?_
  have J : ∀ x : Nat × Mm, (x.1 ≤ 10 ^ cnt people ∧ (jsm (fun a => a = 97) M x.2 ∧ jSh x.2) ∧ jCk x.2 V τ people 0 x.1 (fun _ => false)) → jW G mi_X5_sets 2 M 2 [some (jr (some 90)), some (.int (nI x.1))] [] x.2 (jPv (fun M' => jsm (fun a => a = 97) M M' ∧ jSh M' ∧ jCk M' V τ people 0 (10 ^ cnt people) (canC V τ people 0))) := by
    refine jW.loop (σ := Nat × Mm) _ (fun x => 10 ^ cnt people - x.1) _ (fun _ => []) (fun x => x.2) (fun x hI ih => ?_)
    obtain ⟨k, M1⟩ := x
    obtain ⟨hk, ⟨hf, hS⟩, hC⟩ := hI
    dsimp only at hk hf hS hC ih ⊢
    have h2 := h.fr hf hS (fun a q => by unfold mkE; omega)
    by_cases hkn : k < 10 ^ cnt people
    ·
      refine jw_iload_n (pc := 2) dX5_sets_2 rfl ?_
      refine jw_aload_n (pc := 3) dX5_sets_3 rfl ?_
      refine jx_getIs (pc := 4) (jf_X5_473_4.r) rfl dX5_sets_4 rfl (is_90 hS) (by decide) (h2.2.2.2.2.2.1) ?_
      first | refine jx_icmp_ge (pc := 7) (tgt := 23) dX5_sets_7 (by decide) (by omega) (by omega) ?_ ?_ | refine jw_icmp_ge (pc := 7) (tgt := 23) dX5_sets_7 (by decide) ?_ ?_
      · intro h_7
        omega
      · intro h_7
        refine jw_aload_n (pc := 10) dX5_sets_10 rfl ?_
        refine jx_getRs (pc := 11) (jf_X5_33_4.r) rfl dX5_sets_11 rfl (is_90 hS) (by decide) (sr_90_78 hS) ?_
        refine jw_iload_n (pc := 14) dX5_sets_14 rfl ?_
        refine jw_iconst (pc := 15) dX5_sets_15 ic_0 ?_
        refine jx_zast (pc := 16) dX5_sets_16 (by decide) (ok_97 hS) (nn_97 hS) rfl (by omega) (by exact jnar_0) ?_
        first | refine jx_iinc (pc := 17) dX5_sets_17 rfl rfl ?_ | refine jw_iinc (pc := 17) dX5_sets_17 rfl rfl rfl ?_
        try dsimp only [jput1, jkill, jclr, jis2_i, jis2_l, jis2_rs, jis2_rn, cond]
        refine jw_goto (pc := 20) (tgt := 2) dX5_sets_20 (by decide) ?_
        refine ih (k + 1, js_A M1 97 k (nI 0)) ⟨hkn, ⟨hf.tr (jsm.A rfl), hS⟩, fun i' c q1 q2 => absurd q1 (Nat.not_lt_zero _), fun c hc => ?_⟩ (by dsimp only; omega)
        show jm_A (js_A M1 97 k (nI 0)) 97 (1000 * 0 + c) = jb false
        by_cases e : c = k
        · subst e; rw [Nat.mul_zero, Nat.zero_add, jA_same]; rfl
        · rw [jA_oth (by omega)]; exact hC.2 c (by dsimp only at hc; omega)
    · have hk' : k = 10 ^ cnt people := by omega
      subst hk'
      refine jw_iload_n (pc := 2) dX5_sets_2 rfl ?_
      refine jw_aload_n (pc := 3) dX5_sets_3 rfl ?_
      refine jx_getIs (pc := 4) (jf_X5_473_4.r) rfl dX5_sets_4 rfl (is_90 hS) (by decide) (h2.2.2.2.2.2.1) ?_
      first | refine jx_icmp_ge (pc := 7) (tgt := 23) dX5_sets_7 (by decide) (by omega) (by omega) ?_ ?_ | refine jw_icmp_ge (pc := 7) (tgt := 23) dX5_sets_7 (by decide) ?_ ?_
      · intro h_7
        refine jw_aload_n (pc := 23) dX5_sets_23 rfl ?_
        refine jx_getRs (pc := 24) (jf_X5_33_4.r) rfl dX5_sets_24 rfl (is_90 hS) (by decide) (sr_90_78 hS) ?_
        refine jw_aload_n (pc := 27) dX5_sets_27 rfl ?_
        refine jx_cVE (mi1 := mi_X5_stateNow) (pc := 28) rfl dX5_sets_28 lk_X5_491 rfl fi_X5_stateNow rfl rfl rfl (by decide) (is_90 hS) (t_X5_stateNow h2) (by first | decide | omega) rfl rfl (by simp only [List.map_cons, List.map_nil, List.sum_cons, List.sum_nil, cat_i, cat_l, jr_cat]; decide) ?_
        refine jw_iconst (pc := 31) dX5_sets_31 ic_1 ?_
        refine jx_zast (pc := 32) dX5_sets_32 (by decide) (ok_97 hS) (nn_97 hS) rfl (by omega) (by exact jnar_1) ?_
        refine jw_return (pc := 33) dX5_sets_33 rfl ?_
        refine ⟨rfl, hf.tr (jsm.A rfl), hS, ?_⟩
        have q := hC.set (Q := canC V τ people 0) (c0 := nowC τ people) (v := nI 1) hc3 (by show nI 1 = jb (decide (nowC τ people = nowC τ people)); rw [decide_eq_true rfl]; rfl) (fun c hc => (decide_eq_false hc).symm)
        rw [Nat.mul_zero, Nat.zero_add] at q
        exact q
      · intro h_7
        omega
  refine jw_iconst (pc := 0) dX5_sets_0 ic_0 ?_
  refine jw_istore_n (pc := 1) dX5_sets_1 (Nat.le_of_ble_eq_true rfl) rfl ?_
  try dsimp only [jput1, jput2, jkill, jclr, jis2_i, jis2_l, jis2_rs, jis2_rn, cond]
  exact J (0, M) ⟨Nat.zero_le _, ⟨jsm.rf, hS⟩, fun i' c q1 q2 => absurd q1 (Nat.not_lt_zero _), fun c hc => absurd hc (Nat.not_lt_zero _)⟩
theorem lp_sp68 {M9 M0 : Mm} {i c : Nat} {R : Nat → Bool} {P : Rs → Mm → Prop} (h : jMk M0 w V τ people) (hi : i ≤ 29) (hc : c < 10 ^ cnt people)
    (fin : ∀ M', jsm spE M0 M' → jSh M' → jCk M' V τ people (i + 1) (10 ^ cnt people) (fun j => R j || stC V people c j) → jW G mi_X5_spreads 7 M9 101 [some (jr (some 90)), some (.int (nI i)), some (.int (nI c)), none, none] [] M' P) :
    ∀ x : Nat × Mm, (x.1 ≤ (ledL V people c (10 ^ cnt people)).length ∧ (jsm spE M0 x.2 ∧ jSh x.2) ∧ (∀ k, k < (ledL V people c (10 ^ cnt people)).length → jm_A x.2 99 k = nI ((ledL V people c (10 ^ cnt people)).getD k 0)) ∧ jCk x.2 V τ people (i + 1) (10 ^ cnt people) (fun j => R j || memN (ledL V people c (10 ^ cnt people)) x.1 j)) → jW G mi_X5_spreads 7 M9 68 [some (jr (some 90)), some (.int (nI i)), some (.int (nI c)), some (.int (nI (ledL V people c (10 ^ cnt people)).length)), some (.int (nI x.1))] [] x.2 P := by
  have hc3 := h.2.1.2.1
  have h1000 := q10 hc3
  have hle := ledL_le V people c (10 ^ cnt people)
  refine jW.loop (σ := Nat × Mm) _ (fun x => (ledL V people c (10 ^ cnt people)).length - x.1) _ (fun _ => []) (fun x => x.2) (fun x hI ih => ?_)
  obtain ⟨k, M1⟩ := x
  obtain ⟨hk, ⟨hf, hS⟩, hL, hC⟩ := hI
  dsimp only at hk hf hS hL hC ih ⊢
  by_cases hkn : k < (ledL V people c (10 ^ cnt people)).length
  · obtain ⟨l1, l2⟩ := led_at hkn
    refine jw_iload (pc := 68) dX5_spreads_68 rfl ?_
    refine jw_iload_n (pc := 70) dX5_spreads_70 rfl ?_
    first | refine jx_icmp_ge (pc := 71) (tgt := 101) dX5_spreads_71 (by decide) (by omega) (by omega) ?_ ?_ | refine jw_icmp_ge (pc := 71) (tgt := 101) dX5_spreads_71 (by decide) ?_ ?_
    · intro h_71
      omega
    · intro h_71
      refine jw_aload_n (pc := 74) dX5_spreads_74 rfl ?_
      refine jx_getRs (pc := 75) (jf_X5_33_4.r) rfl dX5_spreads_75 rfl (is_90 hS) (by decide) (sr_90_78 hS) ?_
      refine jw_sipush (pc := 78) dX5_spreads_78 sp_1000 ?_
      refine jw_iload_n (pc := 81) dX5_spreads_81 rfl ?_
      refine jw_iconst (pc := 82) dX5_spreads_82 ic_1 ?_
      first | refine jx_iadd (pc := 83) dX5_spreads_83 ?_ | refine jw_iadd (pc := 83) dX5_spreads_83 ?_
      first | refine jx_imul (pc := 84) dX5_spreads_84 ?_ | refine jw_imul (pc := 84) dX5_spreads_84 ?_
      refine jw_aload_n (pc := 85) dX5_spreads_85 rfl ?_
      refine jx_getRs (pc := 86) (jf_X5_40_4.r) rfl dX5_spreads_86 rfl (is_90 hS) (by decide) (sr_90_80 hS) ?_
      refine jw_iload (pc := 89) dX5_spreads_89 rfl ?_
      refine jx_ialds (pc := 91) dX5_spreads_91 (ok_99 hS) (nn_99 hS) rfl (by omega) (hL k hkn) ?_
      first | refine jx_iadd (pc := 92) dX5_spreads_92 ?_ | refine jw_iadd (pc := 92) dX5_spreads_92 ?_
      refine jw_iconst (pc := 93) dX5_spreads_93 ic_1 ?_
      refine jx_zast (pc := 94) dX5_spreads_94 (by decide) (ok_97 hS) (nn_97 hS) rfl (by omega) (by exact jnar_1) ?_
      first | refine jx_iinc (pc := 95) dX5_spreads_95 rfl rfl ?_ | refine jw_iinc (pc := 95) dX5_spreads_95 rfl rfl rfl ?_
      try dsimp only [jput1, jkill, jclr, jis2_i, jis2_l, jis2_rs, jis2_rn, cond]
      refine jw_goto (pc := 98) (tgt := 68) dX5_spreads_98 (by decide) ?_
      refine ih (k + 1, js_A M1 97 (1000 * (i + 1) + (ledL V people c (10 ^ cnt people)).getD k 0) (nI 1)) ⟨hkn, ⟨hf.tr (jsm.A (by unfold spE; omega)), hS⟩, fun k' q => (jA_oth2 (by decide)).trans (hL k' q), ?_⟩ (by dsimp only; omega)
      refine hC.set hc3 ?_ (fun j hj => ?_)
      · show nI 1 = jb (R _ || (memN (ledL V people c (10 ^ cnt people)) k _ || decide ((ledL V people c (10 ^ cnt people)).getD k 0 = (ledL V people c (10 ^ cnt people)).getD k 0)))
        rw [decide_eq_true rfl, Bool.or_true, Bool.or_true]; rfl
      · show (R j || memN (ledL V people c (10 ^ cnt people)) k j) = (R j || (memN (ledL V people c (10 ^ cnt people)) k j || decide ((ledL V people c (10 ^ cnt people)).getD k 0 = j)))
        rw [decide_eq_false (fun q => hj q.symm), Bool.or_false]
  · have hk' : k = (ledL V people c (10 ^ cnt people)).length := by omega
    subst hk'
    refine jw_iload (pc := 68) dX5_spreads_68 rfl ?_
    refine jw_iload_n (pc := 70) dX5_spreads_70 rfl ?_
    first | refine jx_icmp_ge (pc := 71) (tgt := 101) dX5_spreads_71 (by decide) (by omega) (by omega) ?_ ?_ | refine jw_icmp_ge (pc := 71) (tgt := 101) dX5_spreads_71 (by decide) ?_ ?_
    · intro h_71
      refine jW.sub ?_ (fin M1 hf hS (hC.cg (fun j hj => by rw [led_all hj])))
      exact ⟨rfl, rfl, rfl, trivial⟩
    · intro h_71
      omega
theorem t_X5_spreads {i : Nat} (h : jMk M w V τ people) (hi : i ≤ 29) (hC0 : jCk M V τ people i (10 ^ cnt people) (canC V τ people i)) : jT G mi_X5_spreads 7 [jr (some 90), .int (nI i)] M (jPv (fun M' => jsm spE M M' ∧ jSh M' ∧ jCk M' V τ people (i + 1) (10 ^ cnt people) (canC V τ people (i + 1)))) := by
  have hS := h.1.1
  have hc3 := h.2.1.2.1
  have hst := h.2.1.2.2.2.2
  have ho := h.2.1.2.2.2.1
  have h1000 := q10 hc3
  refine jT.of (by decide) rfl (Nat.le_of_ble_eq_true rfl) ?_
  have K3 : ∀ x : Nat × Mm, (x.1 ≤ 10 ^ cnt people ∧ (jsm spE M x.2 ∧ jSh x.2) ∧ jCk x.2 V τ people (i + 1) (10 ^ cnt people) (fun j => if j < x.1 then canC V τ people (i + 1) j else sprB V τ people i (10 ^ cnt people) j)) → jW G mi_X5_spreads 7 M 109 [some (jr (some 90)), some (.int (nI i)), some (.int (nI x.1)), none, none] [] x.2 (jPv (fun M' => jsm spE M M' ∧ jSh M' ∧ jCk M' V τ people (i + 1) (10 ^ cnt people) (canC V τ people (i + 1)))) := by
    refine jW.loop (σ := Nat × Mm) _ (fun x => 10 ^ cnt people - x.1) _ (fun _ => []) (fun x => x.2) (fun x hI ih => ?_)
    obtain ⟨c, M1⟩ := x
    obtain ⟨hc, ⟨hf, hS⟩, hC⟩ := hI
    dsimp only at hc hf hS hC ih ⊢
    have h2 := h.fr hf hS (fun a => spE_k)
    by_cases hkn : c < 10 ^ cnt people
    · have e1 := hC.2 c hkn
      dsimp only at e1
      rw [if_neg (Nat.lt_irrefl _)] at e1
      have g93 : jsm (fun a => a = 93) M1 (js_As M1 93 (triG M1 V τ people c (cnt people))) := jsm.As rfl
      have hC2 := hC.fr hS g93 (by decide)
      have hf2 := hf.tr (g93.wk (F := spE) (fun a q => by unfold spE; omega))
      refine jw_iload_n (pc := 109) dX5_spreads_109 rfl ?_
      refine jw_aload_n (pc := 110) dX5_spreads_110 rfl ?_
      refine jx_getIs (pc := 111) (jf_X5_473_4.r) rfl dX5_spreads_111 rfl (is_90 hS) (by decide) (h2.2.2.2.2.2.1) ?_
      first | refine jx_icmp_ge (pc := 114) (tgt := 171) dX5_spreads_114 (by decide) (by omega) (by omega) ?_ ?_ | refine jw_icmp_ge (pc := 114) (tgt := 171) dX5_spreads_114 (by decide) ?_ ?_
      · intro h_114
        omega
      · intro h_114
        refine jw_aload_n (pc := 117) dX5_spreads_117 rfl ?_
        refine jx_getRs (pc := 118) (jf_X5_33_4.r) rfl dX5_spreads_118 rfl (is_90 hS) (by decide) (sr_90_78 hS) ?_
        refine jw_sipush (pc := 121) dX5_spreads_121 sp_1000 ?_
        refine jw_iload_n (pc := 124) dX5_spreads_124 rfl ?_
        refine jw_iconst (pc := 125) dX5_spreads_125 ic_1 ?_
        first | refine jx_iadd (pc := 126) dX5_spreads_126 ?_ | refine jw_iadd (pc := 126) dX5_spreads_126 ?_
        first | refine jx_imul (pc := 127) dX5_spreads_127 ?_ | refine jw_imul (pc := 127) dX5_spreads_127 ?_
        refine jw_iload_n (pc := 128) dX5_spreads_128 rfl ?_
        first | refine jx_iadd (pc := 129) dX5_spreads_129 ?_ | refine jw_iadd (pc := 129) dX5_spreads_129 ?_
        refine jx_zalds (pc := 130) dX5_spreads_130 (ok_97 hS) (nn_97 hS) rfl (by omega) (e1) ?_
        first | refine jx_ifb_eq (pc := 131) (tgt := 165) dX5_spreads_131 (by decide) ?_ ?_ | refine jx_if_eq (pc := 131) (tgt := 165) dX5_spreads_131 (by decide) (by omega) ?_ ?_ | refine jw_if_eq (pc := 131) (tgt := 165) dX5_spreads_131 (by decide) ?_ ?_
        · intro h_131
          first | refine jx_iinc (pc := 165) dX5_spreads_165 rfl rfl ?_ | refine jw_iinc (pc := 165) dX5_spreads_165 rfl rfl rfl ?_
          try dsimp only [jput1, jkill, jclr, jis2_i, jis2_l, jis2_rs, jis2_rn, cond]
          refine jw_goto (pc := 168) (tgt := 109) dX5_spreads_168 (by decide) ?_
          first
            | (refine jW.sub ?_ (ih (c + 1, js_A (js_As M1 93 (triG M1 V τ people c (cnt people))) 97 (1000 * (i + 1) + c) (nI 0)) ⟨hkn, ⟨hf2.tr (jsm.A (by unfold spE; omega)), hS⟩, ?_⟩ (by dsimp only; omega))
               · exact ⟨rfl, rfl, rfl, trivial⟩
               · refine hC2.set hc3 ?_ (fun j hj => ?_)
                 · dsimp only; rw [if_pos (Nat.lt_succ_self _), canC_s]
                   rw [show lawC V τ people (sn τ 0 + (i + 1)) c = false from h_147, Bool.and_false]; rfl
                 · by_cases q : j < c
                   · rw [if_pos q, if_pos (by omega)]
                   · rw [if_neg q, if_neg (by omega)])
            | (refine jW.sub ?_ (ih (c + 1, js_As M1 93 (triG M1 V τ people c (cnt people))) ⟨hkn, ⟨hf2, hS⟩, hC2.cg (fun j hj => ?_)⟩ (by dsimp only; omega))
               · exact ⟨rfl, rfl, rfl, trivial⟩
               · dsimp only
                 by_cases q : j < c
                 · rw [if_pos q, if_pos (by omega)]
                 · rw [if_neg q]
                   by_cases q2 : j = c
                   · subst q2; rw [if_pos (Nat.lt_succ_self _), canC_s, show lawC V τ people (sn τ 0 + (i + 1)) j = true from h_147, Bool.and_true]; rfl
                   · rw [if_neg (by omega)])
            | (refine jW.sub ?_ (ih (c + 1, M1) ⟨hkn, ⟨hf, hS⟩, hC.cg (fun j hj => ?_)⟩ (by dsimp only; omega))
               · exact ⟨rfl, rfl, rfl, trivial⟩
               · dsimp only
                 by_cases q : j < c
                 · rw [if_pos q, if_pos (by omega)]
                 · rw [if_neg q]
                   by_cases q2 : j = c
                   · subst q2; rw [if_pos (Nat.lt_succ_self _), canC_s, show anyB (10 ^ cnt people) (fun a => canC V τ people i a && stC V people a j) = false from h_131]; rw [Bool.false_and]; exact h_131
                   · rw [if_neg (by omega)])
        · intro h_131
          refine jw_aload_n (pc := 134) dX5_spreads_134 rfl ?_
          refine jw_iload_n (pc := 135) dX5_spreads_135 rfl ?_
          refine jw_aload_n (pc := 136) dX5_spreads_136 rfl ?_
          refine jx_getIs (pc := 137) (jf_X5_383_4.r) rfl dX5_spreads_137 rfl (is_90 hS) (by decide) (h2.2.2.1) ?_
          refine jw_iload_n (pc := 140) dX5_spreads_140 rfl ?_
          first | refine jx_iadd (pc := 141) dX5_spreads_141 ?_ | refine jw_iadd (pc := 141) dX5_spreads_141 ?_
          refine jw_iconst (pc := 142) dX5_spreads_142 ic_1 ?_
          first | refine jx_iadd (pc := 143) dX5_spreads_143 ?_ | refine jw_iadd (pc := 143) dX5_spreads_143 ?_
          refine jx_cVE (mi1 := mi_X5_isLawfulState) (pc := 144) rfl dX5_spreads_144 lk_X5_488 rfl fi_X5_isLawfulState rfl rfl rfl (by decide) (is_90 hS) (t_X5_isLawfulState h2 (by omega) (sprB_v h_131) (by omega)) (by first | decide | omega) rfl rfl (by decide) ?_
          first | refine jx_ifb_ne (pc := 147) (tgt := 165) dX5_spreads_147 (by decide) ?_ ?_ | refine jx_if_ne (pc := 147) (tgt := 165) dX5_spreads_147 (by decide) (by omega) ?_ ?_ | refine jw_if_ne (pc := 147) (tgt := 165) dX5_spreads_147 (by decide) ?_ ?_
          · intro h_147
            first | refine jx_iinc (pc := 165) dX5_spreads_165 rfl rfl ?_ | refine jw_iinc (pc := 165) dX5_spreads_165 rfl rfl rfl ?_
            try dsimp only [jput1, jkill, jclr, jis2_i, jis2_l, jis2_rs, jis2_rn, cond]
            refine jw_goto (pc := 168) (tgt := 109) dX5_spreads_168 (by decide) ?_
            first
              | (refine jW.sub ?_ (ih (c + 1, js_A (js_As M1 93 (triG M1 V τ people c (cnt people))) 97 (1000 * (i + 1) + c) (nI 0)) ⟨hkn, ⟨hf2.tr (jsm.A (by unfold spE; omega)), hS⟩, ?_⟩ (by dsimp only; omega))
                 · exact ⟨rfl, rfl, rfl, trivial⟩
                 · refine hC2.set hc3 ?_ (fun j hj => ?_)
                   · dsimp only; rw [if_pos (Nat.lt_succ_self _), canC_s]
                     rw [show lawC V τ people (sn τ 0 + (i + 1)) c = false from h_147, Bool.and_false]; rfl
                   · by_cases q : j < c
                     · rw [if_pos q, if_pos (by omega)]
                     · rw [if_neg q, if_neg (by omega)])
              | (refine jW.sub ?_ (ih (c + 1, js_As M1 93 (triG M1 V τ people c (cnt people))) ⟨hkn, ⟨hf2, hS⟩, hC2.cg (fun j hj => ?_)⟩ (by dsimp only; omega))
                 · exact ⟨rfl, rfl, rfl, trivial⟩
                 · dsimp only
                   by_cases q : j < c
                   · rw [if_pos q, if_pos (by omega)]
                   · rw [if_neg q]
                     by_cases q2 : j = c
                     · subst q2; rw [if_pos (Nat.lt_succ_self _), canC_s, show lawC V τ people (sn τ 0 + (i + 1)) j = true from h_147, Bool.and_true]; rfl
                     · rw [if_neg (by omega)])
              | (refine jW.sub ?_ (ih (c + 1, M1) ⟨hkn, ⟨hf, hS⟩, hC.cg (fun j hj => ?_)⟩ (by dsimp only; omega))
                 · exact ⟨rfl, rfl, rfl, trivial⟩
                 · dsimp only
                   by_cases q : j < c
                   · rw [if_pos q, if_pos (by omega)]
                   · rw [if_neg q]
                     by_cases q2 : j = c
                     · subst q2; rw [if_pos (Nat.lt_succ_self _), canC_s, show anyB (10 ^ cnt people) (fun a => canC V τ people i a && stC V people a j) = false from h_131]; rw [Bool.false_and]; exact h_131
                     · rw [if_neg (by omega)])
          · intro h_147
            refine jw_aload_n (pc := 150) dX5_spreads_150 rfl ?_
            refine jx_getRs (pc := 151) (jf_X5_33_4.r) rfl dX5_spreads_151 rfl (is_90 hS) (by decide) (sr_90_78 hS) ?_
            refine jw_sipush (pc := 154) dX5_spreads_154 sp_1000 ?_
            refine jw_iload_n (pc := 157) dX5_spreads_157 rfl ?_
            refine jw_iconst (pc := 158) dX5_spreads_158 ic_1 ?_
            first | refine jx_iadd (pc := 159) dX5_spreads_159 ?_ | refine jw_iadd (pc := 159) dX5_spreads_159 ?_
            first | refine jx_imul (pc := 160) dX5_spreads_160 ?_ | refine jw_imul (pc := 160) dX5_spreads_160 ?_
            refine jw_iload_n (pc := 161) dX5_spreads_161 rfl ?_
            first | refine jx_iadd (pc := 162) dX5_spreads_162 ?_ | refine jw_iadd (pc := 162) dX5_spreads_162 ?_
            refine jw_iconst (pc := 163) dX5_spreads_163 ic_0 ?_
            refine jx_zast (pc := 164) dX5_spreads_164 (by decide) (ok_97 hS) (nn_97 hS) rfl (by omega) (by exact jnar_0) ?_
            first | refine jx_iinc (pc := 165) dX5_spreads_165 rfl rfl ?_ | refine jw_iinc (pc := 165) dX5_spreads_165 rfl rfl rfl ?_
            try dsimp only [jput1, jkill, jclr, jis2_i, jis2_l, jis2_rs, jis2_rn, cond]
            refine jw_goto (pc := 168) (tgt := 109) dX5_spreads_168 (by decide) ?_
            first
              | (refine jW.sub ?_ (ih (c + 1, js_A (js_As M1 93 (triG M1 V τ people c (cnt people))) 97 (1000 * (i + 1) + c) (nI 0)) ⟨hkn, ⟨hf2.tr (jsm.A (by unfold spE; omega)), hS⟩, ?_⟩ (by dsimp only; omega))
                 · exact ⟨rfl, rfl, rfl, trivial⟩
                 · refine hC2.set hc3 ?_ (fun j hj => ?_)
                   · dsimp only; rw [if_pos (Nat.lt_succ_self _), canC_s]
                     rw [show lawC V τ people (sn τ 0 + (i + 1)) c = false from h_147, Bool.and_false]; rfl
                   · by_cases q : j < c
                     · rw [if_pos q, if_pos (by omega)]
                     · rw [if_neg q, if_neg (by omega)])
              | (refine jW.sub ?_ (ih (c + 1, js_As M1 93 (triG M1 V τ people c (cnt people))) ⟨hkn, ⟨hf2, hS⟩, hC2.cg (fun j hj => ?_)⟩ (by dsimp only; omega))
                 · exact ⟨rfl, rfl, rfl, trivial⟩
                 · dsimp only
                   by_cases q : j < c
                   · rw [if_pos q, if_pos (by omega)]
                   · rw [if_neg q]
                     by_cases q2 : j = c
                     · subst q2; rw [if_pos (Nat.lt_succ_self _), canC_s, show lawC V τ people (sn τ 0 + (i + 1)) j = true from h_147, Bool.and_true]; rfl
                     · rw [if_neg (by omega)])
              | (refine jW.sub ?_ (ih (c + 1, M1) ⟨hkn, ⟨hf, hS⟩, hC.cg (fun j hj => ?_)⟩ (by dsimp only; omega))
                 · exact ⟨rfl, rfl, rfl, trivial⟩
                 · dsimp only
                   by_cases q : j < c
                   · rw [if_pos q, if_pos (by omega)]
                   · rw [if_neg q]
                     by_cases q2 : j = c
                     · subst q2; rw [if_pos (Nat.lt_succ_self _), canC_s, show anyB (10 ^ cnt people) (fun a => canC V τ people i a && stC V people a j) = false from h_131]; rw [Bool.false_and]; exact h_131
                     · rw [if_neg (by omega)])
    · have hk' : c = 10 ^ cnt people := by omega
      subst hk'
      refine jw_iload_n (pc := 109) dX5_spreads_109 rfl ?_
      refine jw_aload_n (pc := 110) dX5_spreads_110 rfl ?_
      refine jx_getIs (pc := 111) (jf_X5_473_4.r) rfl dX5_spreads_111 rfl (is_90 hS) (by decide) (h2.2.2.2.2.2.1) ?_
      first | refine jx_icmp_ge (pc := 114) (tgt := 171) dX5_spreads_114 (by decide) (by omega) (by omega) ?_ ?_ | refine jw_icmp_ge (pc := 114) (tgt := 171) dX5_spreads_114 (by decide) ?_ ?_
      · intro h_114
        refine jw_return (pc := 171) dX5_spreads_171 rfl ?_
        exact ⟨rfl, hf, hS, hC.cg (fun j hj => if_pos hj)⟩
      · intro h_114
        omega
  have K2 : ∀ x : Nat × Mm, (x.1 ≤ 10 ^ cnt people ∧ (jsm spE M x.2 ∧ jSh x.2) ∧ jCk x.2 V τ people (i + 1) (10 ^ cnt people) (sprB V τ people i x.1)) → jW G mi_X5_spreads 7 M 33 [some (jr (some 90)), some (.int (nI i)), some (.int (nI x.1)), none, none] [] x.2 (jPv (fun M' => jsm spE M M' ∧ jSh M' ∧ jCk M' V τ people (i + 1) (10 ^ cnt people) (canC V τ people (i + 1)))) := by
    refine jW.loop (σ := Nat × Mm) _ (fun x => 10 ^ cnt people - x.1) _ (fun _ => []) (fun x => x.2) (fun x hI ih => ?_)
    obtain ⟨c, M1⟩ := x
    obtain ⟨hc, ⟨hf, hS⟩, hC⟩ := hI
    dsimp only at hc hf hS hC ih ⊢
    have h2 := h.fr hf hS (fun a => spE_k)
    by_cases hkn : c < 10 ^ cnt people
    · have e1 := hC.1 i c (Nat.lt_succ_self _) hkn
      have g99 : jsm (fun a => a = 99) M1 (js_As M1 99 (lsG M1 (ledL V people c (10 ^ cnt people)))) := jsm.As rfl
      have hC2 := hC.fr hS g99 (by decide)
      have hf2 := hf.tr (g99.wk (F := spE) (fun a q => by unfold spE; omega))
      have h3 : jMk (js_As M1 99 (lsG M1 (ledL V people c (10 ^ cnt people)))) w V τ people := h.fr hf2 hS (fun a => spE_k)
      have hS3 : jSh (js_As M1 99 (lsG M1 (ledL V people c (10 ^ cnt people)))) := hS
      have nx : canC V τ people i c = true → ∀ M', jsm spE (js_As M1 99 (lsG M1 (ledL V people c (10 ^ cnt people)))) M' → jSh M' → jCk M' V τ people (i + 1) (10 ^ cnt people) (fun j => sprB V τ people i c j || stC V people c j) → jW G mi_X5_spreads 7 M 101 [some (jr (some 90)), some (.int (nI i)), some (.int (nI c)), none, none] [] M' (jPv (fun M' => jsm spE M M' ∧ jSh M' ∧ jCk M' V τ people (i + 1) (10 ^ cnt people) (canC V τ people (i + 1)))) := by
        intro q M' q1 q2 q3
        have hS := q2
        first | refine jx_iinc (pc := 101) dX5_spreads_101 rfl rfl ?_ | refine jw_iinc (pc := 101) dX5_spreads_101 rfl rfl rfl ?_
        try dsimp only [jput1, jkill, jclr, jis2_i, jis2_l, jis2_rs, jis2_rn, cond]
        refine jw_goto (pc := 104) (tgt := 33) dX5_spreads_104 (by decide) ?_
        exact ih (c + 1, M') ⟨hkn, ⟨hf2.tr q1, q2⟩, q3.cg (fun j hj => by dsimp only; rw [sprB_s, q, Bool.true_and])⟩ (by dsimp only; omega)
      refine jw_iload_n (pc := 33) dX5_spreads_33 rfl ?_
      refine jw_aload_n (pc := 34) dX5_spreads_34 rfl ?_
      refine jx_getIs (pc := 35) (jf_X5_473_4.r) rfl dX5_spreads_35 rfl (is_90 hS) (by decide) (h2.2.2.2.2.2.1) ?_
      first | refine jx_icmp_ge (pc := 38) (tgt := 107) dX5_spreads_38 (by decide) (by omega) (by omega) ?_ ?_ | refine jw_icmp_ge (pc := 38) (tgt := 107) dX5_spreads_38 (by decide) ?_ ?_
      · intro h_38
        omega
      · intro h_38
        refine jw_aload_n (pc := 41) dX5_spreads_41 rfl ?_
        refine jx_getRs (pc := 42) (jf_X5_33_4.r) rfl dX5_spreads_42 rfl (is_90 hS) (by decide) (sr_90_78 hS) ?_
        refine jw_sipush (pc := 45) dX5_spreads_45 sp_1000 ?_
        refine jw_iload_n (pc := 48) dX5_spreads_48 rfl ?_
        first | refine jx_imul (pc := 49) dX5_spreads_49 ?_ | refine jw_imul (pc := 49) dX5_spreads_49 ?_
        refine jw_iload_n (pc := 50) dX5_spreads_50 rfl ?_
        first | refine jx_iadd (pc := 51) dX5_spreads_51 ?_ | refine jw_iadd (pc := 51) dX5_spreads_51 ?_
        refine jx_zalds (pc := 52) dX5_spreads_52 (ok_97 hS) (nn_97 hS) rfl (by omega) (e1) ?_
        first | refine jx_ifb_ne (pc := 53) (tgt := 59) dX5_spreads_53 (by decide) ?_ ?_ | refine jx_if_ne (pc := 53) (tgt := 59) dX5_spreads_53 (by decide) (by omega) ?_ ?_ | refine jw_if_ne (pc := 53) (tgt := 59) dX5_spreads_53 (by decide) ?_ ?_
        · intro h_53
          refine jw_aload_n (pc := 59) dX5_spreads_59 rfl ?_
          refine jw_iload_n (pc := 60) dX5_spreads_60 rfl ?_
          refine jx_cVE (mi1 := mi_X5_leads) (pc := 61) rfl dX5_spreads_61 lk_X5_485 rfl fi_X5_leads rfl rfl rfl (by decide) (is_90 hS) (t_X5_leads h2 (by omega) (canC_v h.1.w h.2.1.1 ho h_53)) (by first | decide | omega) rfl rfl (by decide) ?_
          refine jw_istore_n (pc := 64) dX5_spreads_64 (Nat.le_of_ble_eq_true rfl) rfl ?_
          try dsimp only [jput1, jput2, jkill, jclr, jis2_i, jis2_l, jis2_rs, jis2_rn, cond]
          refine jw_iconst (pc := 65) dX5_spreads_65 ic_0 ?_
          refine jw_istore (pc := 66) dX5_spreads_66 (Nat.le_of_ble_eq_true rfl) rfl ?_
          try dsimp only [jput1, jput2, jkill, jclr, jis2_i, jis2_l, jis2_rs, jis2_rn, cond]
          exact lp_sp68 h3 hi hkn (nx h_53) (0, js_As M1 99 (lsG M1 (ledL V people c (10 ^ cnt people)))) ⟨Nat.zero_le _, ⟨jsm.rf, hS3⟩, fun k hk => lsG_r hk, hC2.cg (fun j hj => by dsimp only; rw [show memN (ledL V people c (10 ^ cnt people)) 0 j = false from rfl, Bool.or_false])⟩
        · intro h_53
          refine jw_goto (pc := 56) (tgt := 101) dX5_spreads_56 (by decide) ?_
          first | refine jx_iinc (pc := 101) dX5_spreads_101 rfl rfl ?_ | refine jw_iinc (pc := 101) dX5_spreads_101 rfl rfl rfl ?_
          try dsimp only [jput1, jkill, jclr, jis2_i, jis2_l, jis2_rs, jis2_rn, cond]
          refine jw_goto (pc := 104) (tgt := 33) dX5_spreads_104 (by decide) ?_
          refine ih (c + 1, M1) ⟨hkn, ⟨hf, hS⟩, hC.cg (fun j hj => ?_)⟩ (by dsimp only; omega)
          dsimp only; rw [sprB_s, h_53, Bool.false_and, Bool.or_false]
    · have hk' : c = 10 ^ cnt people := by omega
      subst hk'
      refine jw_iload_n (pc := 33) dX5_spreads_33 rfl ?_
      refine jw_aload_n (pc := 34) dX5_spreads_34 rfl ?_
      refine jx_getIs (pc := 35) (jf_X5_473_4.r) rfl dX5_spreads_35 rfl (is_90 hS) (by decide) (h2.2.2.2.2.2.1) ?_
      first | refine jx_icmp_ge (pc := 38) (tgt := 107) dX5_spreads_38 (by decide) (by omega) (by omega) ?_ ?_ | refine jw_icmp_ge (pc := 38) (tgt := 107) dX5_spreads_38 (by decide) ?_ ?_
      · intro h_38
        refine jw_iconst (pc := 107) dX5_spreads_107 ic_0 ?_
        refine jw_istore_n (pc := 108) dX5_spreads_108 (Nat.le_of_ble_eq_true rfl) rfl ?_
        try dsimp only [jput1, jput2, jkill, jclr, jis2_i, jis2_l, jis2_rs, jis2_rn, cond]
        exact K3 (0, M1) ⟨Nat.zero_le _, ⟨hf, hS⟩, hC.cg (fun j hj => by dsimp only; rw [if_neg (Nat.not_lt_zero _)])⟩
      · intro h_38
        omega
  have K1 : ∀ x : Nat × Mm, (x.1 ≤ 10 ^ cnt people ∧ (jsm spE M x.2 ∧ jSh x.2) ∧ jCk x.2 V τ people (i + 1) x.1 (fun _ => false)) → jW G mi_X5_spreads 7 M 2 [some (jr (some 90)), some (.int (nI i)), some (.int (nI x.1)), none, none] [] x.2 (jPv (fun M' => jsm spE M M' ∧ jSh M' ∧ jCk M' V τ people (i + 1) (10 ^ cnt people) (canC V τ people (i + 1)))) := by
    refine jW.loop (σ := Nat × Mm) _ (fun x => 10 ^ cnt people - x.1) _ (fun _ => []) (fun x => x.2) (fun x hI ih => ?_)
    obtain ⟨c, M1⟩ := x
    obtain ⟨hc, ⟨hf, hS⟩, hC⟩ := hI
    dsimp only at hc hf hS hC ih ⊢
    have h2 := h.fr hf hS (fun a => spE_k)
    by_cases hkn : c < 10 ^ cnt people
    ·
      refine jw_iload_n (pc := 2) dX5_spreads_2 rfl ?_
      refine jw_aload_n (pc := 3) dX5_spreads_3 rfl ?_
      refine jx_getIs (pc := 4) (jf_X5_473_4.r) rfl dX5_spreads_4 rfl (is_90 hS) (by decide) (h2.2.2.2.2.2.1) ?_
      first | refine jx_icmp_ge (pc := 7) (tgt := 31) dX5_spreads_7 (by decide) (by omega) (by omega) ?_ ?_ | refine jw_icmp_ge (pc := 7) (tgt := 31) dX5_spreads_7 (by decide) ?_ ?_
      · intro h_7
        omega
      · intro h_7
        refine jw_aload_n (pc := 10) dX5_spreads_10 rfl ?_
        refine jx_getRs (pc := 11) (jf_X5_33_4.r) rfl dX5_spreads_11 rfl (is_90 hS) (by decide) (sr_90_78 hS) ?_
        refine jw_sipush (pc := 14) dX5_spreads_14 sp_1000 ?_
        refine jw_iload_n (pc := 17) dX5_spreads_17 rfl ?_
        refine jw_iconst (pc := 18) dX5_spreads_18 ic_1 ?_
        first | refine jx_iadd (pc := 19) dX5_spreads_19 ?_ | refine jw_iadd (pc := 19) dX5_spreads_19 ?_
        first | refine jx_imul (pc := 20) dX5_spreads_20 ?_ | refine jw_imul (pc := 20) dX5_spreads_20 ?_
        refine jw_iload_n (pc := 21) dX5_spreads_21 rfl ?_
        first | refine jx_iadd (pc := 22) dX5_spreads_22 ?_ | refine jw_iadd (pc := 22) dX5_spreads_22 ?_
        refine jw_iconst (pc := 23) dX5_spreads_23 ic_0 ?_
        refine jx_zast (pc := 24) dX5_spreads_24 (by decide) (ok_97 hS) (nn_97 hS) rfl (by omega) (by exact jnar_0) ?_
        first | refine jx_iinc (pc := 25) dX5_spreads_25 rfl rfl ?_ | refine jw_iinc (pc := 25) dX5_spreads_25 rfl rfl rfl ?_
        try dsimp only [jput1, jkill, jclr, jis2_i, jis2_l, jis2_rs, jis2_rn, cond]
        refine jw_goto (pc := 28) (tgt := 2) dX5_spreads_28 (by decide) ?_
        refine ih (c + 1, js_A M1 97 (1000 * (i + 1) + c) (nI 0)) ⟨hkn, ⟨hf.tr (jsm.A (by unfold spE; omega)), hS⟩, ?_⟩ (by dsimp only; omega)
        refine ⟨fun i' c' q1 q2 => (jA_oth (by omega)).trans (hC.1 i' c' q1 q2), fun c' hc' => ?_⟩
        by_cases e : c' = c
        · subst e; exact jA_same
        · exact (jA_oth (by omega)).trans (hC.2 c' (by dsimp only at hc'; omega))
    · have hk' : c = 10 ^ cnt people := by omega
      subst hk'
      refine jw_iload_n (pc := 2) dX5_spreads_2 rfl ?_
      refine jw_aload_n (pc := 3) dX5_spreads_3 rfl ?_
      refine jx_getIs (pc := 4) (jf_X5_473_4.r) rfl dX5_spreads_4 rfl (is_90 hS) (by decide) (h2.2.2.2.2.2.1) ?_
      first | refine jx_icmp_ge (pc := 7) (tgt := 31) dX5_spreads_7 (by decide) (by omega) (by omega) ?_ ?_ | refine jw_icmp_ge (pc := 7) (tgt := 31) dX5_spreads_7 (by decide) ?_ ?_
      · intro h_7
        refine jw_iconst (pc := 31) dX5_spreads_31 ic_0 ?_
        refine jw_istore_n (pc := 32) dX5_spreads_32 (Nat.le_of_ble_eq_true rfl) rfl ?_
        try dsimp only [jput1, jput2, jkill, jclr, jis2_i, jis2_l, jis2_rs, jis2_rn, cond]
        exact K2 (0, M1) ⟨Nat.zero_le _, ⟨hf, hS⟩, hC⟩
      · intro h_7
        omega
  refine jw_iconst (pc := 0) dX5_spreads_0 ic_0 ?_
  refine jw_istore_n (pc := 1) dX5_spreads_1 (Nat.le_of_ble_eq_true rfl) rfl ?_
  try dsimp only [jput1, jput2, jkill, jclr, jis2_i, jis2_l, jis2_rs, jis2_rn, cond]
  exact K1 (0, M) ⟨Nat.zero_le _, ⟨jsm.rf, hS⟩, hC0.nx⟩
end JMS
