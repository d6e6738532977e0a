/-! ===== x: the path is laid ===== -/
section PT
variable (V : Vt) (σ : Sg) (people goal N : Nat)
def hmJ (j s : Nat) : Bool := match j with
  | 0 => decide (s = goal) && lawR V σ people N s
  | j + 1 => anyB (V 0 0 ^ cnt people) (fun b => linkS V people s b && hmJ j b) && lawR V σ people (N - (j + 1)) s
def hmQ (i s : Nat) : Bool := if i = N then decide (s = goal) else anyB (V 0 0 ^ cnt people) (fun b => linkS V people s b && hmJ V σ people goal N (N - (i + 1)) b)
def pthS (i : Nat) : Nat := match i with
  | 0 => nowS V σ people
  | i + 1 => fstN (V 0 0 ^ cnt people) (fun b => linkS V people (pthS i) b && hmJ V σ people goal N (N - (i + 1)) b)
def pfl (i k idx : Nat) : Int32 := if (idx % 31 < i ∨ (idx % 31 = i ∧ cntN people (idx / 31) < k)) ∧ people.testBit (idx / 31) = true then nI (dig (V 0 0) (cnt people) (pthS V σ people goal N (idx % 31)) (cntN people (idx / 31))) else -1
end PT
theorem hmJ_s (V : Vt) (σ : Sg) (people goal N j s : Nat) : hmJ V σ people goal N (j + 1) s = (anyB (V 0 0 ^ cnt people) (fun b => linkS V people s b && hmJ V σ people goal N j b) && lawR V σ people (N - (j + 1)) s) := rfl
theorem hm_at {V : Vt} {σ : Sg} {people goal N i s : Nat} (hi : i ≤ N) : hmJ V σ people goal N (N - i) s = (hmQ V σ people goal N i s && lawR V σ people i s) := by
  unfold hmQ
  by_cases e : i = N
  · rw [if_pos e, e, Nat.sub_self]; rfl
  · rw [if_neg e]
    have e2 : N - i = (N - (i + 1)) + 1 := by omega
    rw [e2, hmJ_s, show N - (N - (i + 1) + 1) = i by omega]
theorem rch_law {V : Vt} {σ : Sg} {people i s : Nat} (h : rch V σ people i s = true) : lawR V σ people i s = true := by
  cases i with
  | zero => unfold lawR; rfl
  | succ i =>
    rw [rch_s, Bool.and_eq_true] at h
    rw [lawR_s]; exact h.1
theorem rch_lt {V : Vt} {σ : Sg} {people goal N : Nat} (hns : nowS V σ people < V 0 0 ^ cnt people) (hg : goal < V 0 0 ^ cnt people) (hr : rch V σ people N goal = true) : ∀ j, j ≤ N → ∃ s, s < V 0 0 ^ cnt people ∧ rch V σ people (N - j) s = true ∧ hmJ V σ people goal N j s = true := by
  intro j
  induction j with
  | zero => exact fun _ => ⟨goal, hg, hr, by show (decide (goal = goal) && lawR V σ people N goal) = true; rw [decide_eq_true rfl, rch_law hr]; rfl⟩
  | succ j ih =>
    intro hj
    obtain ⟨b, b1, b2, b3⟩ := ih (by omega)
    rw [show N - j = (N - (j + 1)) + 1 by omega, rch_s, Bool.and_eq_true, anyB_iff] at b2
    obtain ⟨a, a1, a2⟩ := b2.2
    rw [Bool.and_eq_true] at a2
    refine ⟨a, a1, a2.1, ?_⟩
    rw [hmJ_s, rch_law a2.1, Bool.and_true, anyB_iff]
    exact ⟨b, b1, by rw [a2.2, b3]; rfl⟩
theorem hm_now {V : Vt} {σ : Sg} {people goal N : Nat} (hns : nowS V σ people < V 0 0 ^ cnt people) (hg : goal < V 0 0 ^ cnt people) (hr : rch V σ people N goal = true) : hmJ V σ people goal N N (nowS V σ people) = true := by
  obtain ⟨s, s1, s2, s3⟩ := rch_lt hns hg hr N (Nat.le_refl _)
  rw [Nat.sub_self] at s2
  have : s = nowS V σ people := of_decide_eq_true s2
  rw [← this]; exact s3
theorem pth_ok {V : Vt} {σ : Sg} {people goal N : Nat} (hns : nowS V σ people < V 0 0 ^ cnt people) (hg : goal < V 0 0 ^ cnt people) (hr : rch V σ people N goal = true) : ∀ i, i ≤ N → pthS V σ people goal N i < V 0 0 ^ cnt people ∧ hmJ V σ people goal N (N - i) (pthS V σ people goal N i) = true ∧ rch V σ people i (pthS V σ people goal N i) = true := by
  intro i
  induction i with
  | zero => exact fun _ => ⟨hns, hm_now hns hg hr, decide_eq_true rfl⟩
  | succ i ih =>
    intro hi
    obtain ⟨i1, i2, i3⟩ := ih (by omega)
    rw [hm_at (by omega)] at i2
    unfold hmQ at i2
    rw [if_neg (by omega), Bool.and_eq_true, anyB_iff] at i2
    obtain ⟨b, b1, b2⟩ := i2.1
    have hlt : fstN (V 0 0 ^ cnt people) (fun b => linkS V people (pthS V σ people goal N i) b && hmJ V σ people goal N (N - (i + 1)) b) < V 0 0 ^ cnt people := by
      refine Classical.byContradiction (fun c => ?_)
      have := fst_all c b b1
      rw [b2] at this; cases this
    obtain ⟨q1, q2⟩ := fst_spec hlt
    rw [Bool.and_eq_true] at q1
    have q3 := q1.2
    rw [hm_at hi, Bool.and_eq_true] at q3
    refine ⟨hlt, q1.2, ?_⟩
    rw [rch_s, Bool.and_eq_true, anyB_iff]
    refine ⟨?_, _, i1, ?_⟩
    · have := q3.2; rw [lawR_s] at this; exact this
    · rw [i3]; exact q1.1
def sgP (V : Vt) (σ : Sg) (people goal N : Nat) : Sg := sgI (sgB σ 1 (pfl V σ people goal N (N + 1) 0)) 3 (nI N)
theorem jSo.B {σ : Sg} {f : Nat → Int32} (h : jSo σ) : jSo (sgB σ 1 f) := h
theorem jSo.I3 {σ : Sg} {n : Nat} (h : jSo σ) (hn : n ≤ 30) : jSo (sgI σ 3 (nI n)) := by
  refine ⟨h.1, fun V hV => ?_⟩
  obtain ⟨h1, h2, h3, h4, h5, h6⟩ := h.2 V hV
  exact ⟨h1, h2, h3, h4, h5, Or.inr ⟨n, hn, rfl⟩⟩
theorem xpth {M M1 : Mm} {σ : Sg} {f : Nat → Int32} (h : jXx M σ) (g : jsm (fun a => a = 87 ∨ mvE a) M M1) (hS : jSh M1) (hf : ∀ k, k < 155 → jm_A M1 87 k = f k) : jXx M1 (sgB σ 1 f) := by
  have hz := h.1.2.2.2
  have a64 := g.2.2 64 (by omega) (by unfold mvE; omega)
  have a78 := g.2.2 78 (by omega) (by unfold mvE; omega)
  have a80 := g.2.2 80 (by omega) (by unfold mvE; omega)
  obtain ⟨h3, h4, h5, h6, h7⟩ := h.2.2.1
  exact h.up g hS (fun a q1 q2 => by unfold mvE at q2; omega) h.2.1.B rfl rfl (a64.2.2.2.2.1 _) ⟨(a64.2.2.1 _).trans h3, (a64.2.2.1 _).trans h4, (a64.2.2.1 _).trans h5, fun q => (a64.2.2.1 _).trans (h6 q), h7⟩ (fun V hV q => ⟨(a64.2.2.1 _).trans q.1, (a64.2.2.1 _).trans q.2.1, (a64.2.2.1 _).trans q.2.2.1, fun p hp => (a78.2.2.2.2.2.1 _).trans (q.2.2.2.1 p hp), fun p t hp ht => (a80.2.2.2.2.2.1 _).trans (q.2.2.2.2.1 p t hp ht), fun k hk => hf k hk⟩)
theorem xplong {M : Mm} {σ : Sg} {n : Nat} (h : jXx M σ) (hn : n ≤ 30) : jXx (js_I M 64 25 (nI n)) (sgI σ 3 (nI n)) := by
  obtain ⟨h3, h4, h5, h6, h7⟩ := h.2.2.1
  exact h.up (E := fun a => a = 64) (jsm.I rfl) h.1 (fun a q1 q2 => by omega) (h.2.1.I3 hn) rfl rfl rfl ⟨h3, h4, h5, h6, h7⟩ (fun V hV q => ⟨q.1, q.2.1, rfl, q.2.2.2⟩)
theorem jMv.fr2 {E : Nat → Prop} {M M1 : Mm} {V : Vt} {people : Nat} (h : jMv M V people) (hS : jSh M) (g : jsm E M M1) (h64 : ¬ E 64) (h81 : ¬ E 81) : jMv M1 V people := by
  have hz := hS.2.2.2
  have a64 := g.2.2 64 (by omega) h64
  have a81 := g.2.2 81 (by omega) h81
  obtain ⟨h1, h2, h3, h4⟩ := h
  exact ⟨h1, (a64.2.2.1 _).trans h2, (a64.2.2.1 _).trans h3, fun k hk => (a81.2.2.2.2.2.1 _).trans (h4 k hk)⟩
def jHm (M : Mm) (V : Vt) (σ : Sg) (people goal N c s : Nat) : Prop := ∀ i' s', s' < V 0 0 ^ cnt people → i' ≤ N → (c ≤ i' ∨ (i' + 1 = c ∧ s' < s)) → jm_A M 86 (1000 * i' + s') = jb (hmJ V σ people goal N (N - i') s')
theorem hm_step {M1 M2 : Mm} {V : Vt} {σ : Sg} {people goal N i s : Nat} {b : Bool} (h : jHm M1 V σ people goal N (i + 1) s) (e86 : ∀ k, jm_A M2 86 k = jm_A M1 86 k) (hN : V 0 0 ^ cnt people ≤ 1000) (hs : s < V 0 0 ^ cnt people) (hb : b = hmJ V σ people goal N (N - i) s) : jHm (js_A M2 86 (1000 * i + s) (jb b)) V σ people goal N (i + 1) (s + 1) := by
  intro i' s' hs' hi' hc
  by_cases e : i' = i ∧ s' = s
  · obtain ⟨e1, e2⟩ := e
    subst e1; subst e2
    rw [jA_same, hb]
  · exact (jA_oth (by omega)).trans ((e86 _).trans (h i' s' hs' hi' (by omega)))
section JXP
variable {G : Gh} {M : Mm} {σ : Sg}
theorem lp_l63 {M9 M2 : Mm} {goal N i s : Nat} {b l : Bool} {x5 : Option Value} {P : Rs → Mm → Prop} (hS : jSh M2) (hi : i ≤ 30) (hs : s < 1000) (hl : jm_A M2 84 (1000 * i + s) = jb l) (ih : jW G mi_X1_laysPath 7 M9 9 [some (jr (some 64)), some (.int (nI goal)), some (.int (nI N)), some (.int (nI i)), some (.int (nI (s + 1))), none] [] (js_A M2 86 (1000 * i + s) (jb (b && l))) P) : jW G mi_X1_laysPath 7 M9 63 [some (jr (some 64)), some (.int (nI goal)), some (.int (nI N)), some (.int (nI i)), some (.int (nI s)), x5] [.int (jb b)] M2 P := by
  have L : jW G mi_X1_laysPath 7 M9 103 [some (jr (some 64)), some (.int (nI goal)), some (.int (nI N)), some (.int (nI i)), some (.int (nI s)), some (.int (jb b))] [.int (jb (b && l)), .int (nI (1000 * i + s)), jr (some 86)] M2 P := by
    refine jx_zast (pc := 103) dX1_laysPath_103 (by decide) (ok_86 hS) (nn_86 hS) rfl (by omega) (jnar_b _) ?_
    first | refine jx_iinc (pc := 104) dX1_laysPath_104 rfl rfl ?_ | refine jw_iinc (pc := 104) dX1_laysPath_104 rfl rfl rfl ?_
    try dsimp only [jput1, jkill, jclr, jis2_i, jis2_l, jis2_rs, jis2_rn, cond]
    refine jw_goto (pc := 107) (tgt := 9) dX1_laysPath_107 (by decide) ?_
    refine jW.sub ?_ ih
    exact ⟨rfl, rfl, rfl, rfl, rfl, trivial⟩
  refine jw_istore (pc := 63) dX1_laysPath_63 (Nat.le_of_ble_eq_true rfl) rfl ?_
  try dsimp only [jput1, jput2, jkill, jclr, jis2_i, jis2_l, jis2_rs, jis2_rn, cond]
  refine jw_aload_n (pc := 65) dX1_laysPath_65 rfl ?_
  refine jx_getRs (pc := 66) (jf_X1_65_0.r) rfl dX1_laysPath_66 rfl (is_64 hS) (by decide) (sr_64_23 hS) ?_
  refine jw_sipush (pc := 69) dX1_laysPath_69 sp_1000 ?_
  refine jw_iload_n (pc := 72) dX1_laysPath_72 rfl ?_
  first | refine jx_imul (pc := 73) dX1_laysPath_73 ?_ | refine jw_imul (pc := 73) dX1_laysPath_73 ?_
  refine jw_iload (pc := 74) dX1_laysPath_74 rfl ?_
  first | refine jx_iadd (pc := 76) dX1_laysPath_76 ?_ | refine jw_iadd (pc := 76) dX1_laysPath_76 ?_
  refine jw_iload (pc := 77) dX1_laysPath_77 rfl ?_
  first | refine jx_ifb_eq (pc := 79) (tgt := 102) dX1_laysPath_79 (by decide) ?_ ?_ | refine jx_if_eq (pc := 79) (tgt := 102) dX1_laysPath_79 (by decide) (by omega) ?_ ?_ | refine jw_if_eq (pc := 79) (tgt := 102) dX1_laysPath_79 (by decide) ?_ ?_
  · intro h_79
    refine jw_iconst (pc := 102) dX1_laysPath_102 ic_0 ?_
    refine jw_ff ?_ L; first | (rw [h_79]; rfl) | rw [h_95, Bool.and_false]
  · intro h_79
    refine jw_aload_n (pc := 82) dX1_laysPath_82 rfl ?_
    refine jx_getRs (pc := 83) (jf_X1_58_0.r) rfl dX1_laysPath_83 rfl (is_64 hS) (by decide) (sr_64_21 hS) ?_
    refine jw_sipush (pc := 86) dX1_laysPath_86 sp_1000 ?_
    refine jw_iload_n (pc := 89) dX1_laysPath_89 rfl ?_
    first | refine jx_imul (pc := 90) dX1_laysPath_90 ?_ | refine jw_imul (pc := 90) dX1_laysPath_90 ?_
    refine jw_iload (pc := 91) dX1_laysPath_91 rfl ?_
    first | refine jx_iadd (pc := 93) dX1_laysPath_93 ?_ | refine jw_iadd (pc := 93) dX1_laysPath_93 ?_
    refine jx_zalds (pc := 94) dX1_laysPath_94 (ok_84 hS) (nn_84 hS) rfl (by omega) (hl) ?_
    first | refine jx_ifb_eq (pc := 95) (tgt := 102) dX1_laysPath_95 (by decide) ?_ ?_ | refine jx_if_eq (pc := 95) (tgt := 102) dX1_laysPath_95 (by decide) (by omega) ?_ ?_ | refine jw_if_eq (pc := 95) (tgt := 102) dX1_laysPath_95 (by decide) ?_ ?_
    · intro h_95
      refine jw_iconst (pc := 102) dX1_laysPath_102 ic_0 ?_
      refine jw_ff ?_ L; first | (rw [h_79]; rfl) | rw [h_95, Bool.and_false]
    · intro h_95
      refine jw_iconst (pc := 98) dX1_laysPath_98 ic_1 ?_
      refine jw_goto (pc := 99) (tgt := 103) dX1_laysPath_99 (by decide) ?_
      refine jw_tt ?_ L; rw [h_79, h_95]; rfl
theorem lp_l9 {people goal N i : Nat} {V : Vt} {P : Rs → Mm → Prop} (hv9 : sv σ = some V) (hN : N ≤ 30) (hi : i ≤ N) (hg : goal < V 0 0 ^ cnt people) (M9 : Mm)
    (fin : ∀ M', jsm mvE M M' → jXx M' σ → jMv M' V people → jRw M' 84 (V 0 0 ^ cnt people) (lawR V σ people) → jHm M' V σ people goal N i 0 → jW G mi_X1_laysPath 7 M9 2 [some (jr (some 64)), some (.int (nI goal)), some (.int (nI N)), some (.int (nI i - nI 1)), none, none] [] M' P) :
    ∀ x : Nat × Mm, (x.1 ≤ V 0 0 ^ cnt people ∧ jsm mvE M x.2 ∧ jXx x.2 σ ∧ jMv x.2 V people ∧ jRw x.2 84 (V 0 0 ^ cnt people) (lawR V σ people) ∧ jHm x.2 V σ people goal N (i + 1) x.1) → jW G mi_X1_laysPath 7 M9 9 [some (jr (some 64)), some (.int (nI goal)), some (.int (nI N)), some (.int (nI i)), some (.int (nI x.1)), none] [] x.2 P := by
  refine jW.loop (σ := Nat × Mm) _ (fun x => V 0 0 ^ cnt people - x.1) _ (fun _ => []) (fun x => x.2) (fun x hI ih => ?_)
  obtain ⟨s, M1⟩ := x
  obtain ⟨hs1, hf, hX, hm1, hL1, hH1⟩ := hI
  dsimp only at hs1 hf hX hm1 hL1 hH1 ih ⊢
  have hS := hX.1
  have hw9 := (hX.2.1.2 V hv9).1
  have h0 : 0 < V 0 0 := (hX.2.1.1.2 V hv9).1
  have hc3 := hm1.1.2
  have h1000 := pw3 (wf_np hw9) hc3
  by_cases hkn : s < V 0 0 ^ cnt people
  · obtain ⟨v, hs, hN9⟩ := hX.so hv9
    have hg2 : jsm (fun a => a = 82) M1 (js_As M1 82 (plcG M1 82 (V 0 0) (cnt people) s (cnt people))) := jsm.As rfl
    have hE : ∀ a, a = 82 → mvE a := fun a q => by unfold mvE; omega
    have hX2 := hX.mv hg2 hE hS
    have hm2 := hm1.fr hS hg2 hE
    have hL2 : jRw (js_As M1 82 (plcG M1 82 (V 0 0) (cnt people) s (cnt people))) 84 (V 0 0 ^ cnt people) (lawR V σ people) := hL1.fr (by decide) hS hg2 (by decide)
    have hF2 : ∀ j, j < cnt people → jm_A (js_As M1 82 (plcG M1 82 (V 0 0) (cnt people) s (cnt people))) 82 j = nI (dig (V 0 0) (cnt people) s j) ∧ dig (V 0 0) (cnt people) s j < V 0 0 := fun j hj => ⟨plcG_r hj, dig_lt h0⟩
    have hH2 : ∀ k, jm_A (js_As M1 82 (plcG M1 82 (V 0 0) (cnt people) s (cnt people))) 86 k = jm_A M1 86 k := fun k => jA_rn (by decide)
    have hf2 : jsm mvE M (js_As M1 82 (plcG M1 82 (V 0 0) (cnt people) s (cnt people))) := hf.tr (hg2.wk hE)
    have step : ∀ (M2 : Mm) (x5 : Option Value), M2 = js_As M1 82 (plcG M1 82 (V 0 0) (cnt people) s (cnt people)) → jW G mi_X1_laysPath 7 M9 63 [some (jr (some 64)), some (.int (nI goal)), some (.int (nI N)), some (.int (nI i)), some (.int (nI s)), x5] [.int (jb (hmQ V σ people goal N i s))] M2 P := by
      intro M2 x5 e
      rw [← e] at hX2 hm2 hL2 hF2 hH2 hf2
      have hS2 := hX2.1
      have g3 : jsm mvE M2 (js_A M2 86 (1000 * i + s) (jb (hmQ V σ people goal N i s && lawR V σ people i s))) := jsm.A (by unfold mvE; omega)
      have g4 : jsm (fun a => a = 86) M2 (js_A M2 86 (1000 * i + s) (jb (hmQ V σ people goal N i s && lawR V σ people i s))) := jsm.A rfl
      exact lp_l63 hS2 (by omega) (by omega) (hL2 i s (by omega) hkn) (ih (s + 1, _) ⟨hkn, hf2.tr g3, hX2.mv g3 (fun a q => q) hS2, hm2.fr hS2 g3 (fun a q => q), hL2.fr (by decide) hS2 g4 (by decide), hm_step hH1 hH2 h1000 hkn (hm_at hi).symm⟩ (by dsimp only; omega))
    have hfm : i < N → (fstI (V 0 0 ^ cnt people) (fhQ V people (dig (V 0 0) (cnt people) s) (fun b => hmJ V σ people goal N (N - (i + 1)) b) 0 0) = -1 ↔ ¬ hmQ V σ people goal N i s = true) := by
      intro hiN
      rw [fstI_m1 (by omega)]
      unfold hmQ
      rw [if_neg (by omega), anyB_iff]
      constructor
      · rintro c ⟨b, b1, b2⟩
        have := fst_all c b b1
        unfold fhQ at this
        rw [cnd_link b1, b2] at this; cases this
      · intro c q
        obtain ⟨q1, q2⟩ := fst_spec q
        have q3 : ∀ X, X < V 0 0 ^ cnt people → fhQ V people (dig (V 0 0) (cnt people) s) (fun b => hmJ V σ people goal N (N - (i + 1)) b) 0 0 X = true → (linkS V people s X && hmJ V σ people goal N (N - (i + 1)) X) = true := fun X hX q => by
          unfold fhQ at q; rw [cnd_link hX] at q; exact q
        exact c ⟨_, q, q3 _ q q1⟩
    refine jw_iload (pc := 9) dX1_laysPath_9 rfl ?_
    refine jw_aload_n (pc := 11) dX1_laysPath_11 rfl ?_
    refine jx_getIs (pc := 12) (jf_X1_290_0.r) rfl dX1_laysPath_12 rfl (is_64 hS) (by decide) (hm1.2.2.1) ?_
    first | refine jx_icmp_ge (pc := 15) (tgt := 110) dX1_laysPath_15 (by decide) (by omega) (by omega) ?_ ?_ | refine jw_icmp_ge (pc := 15) (tgt := 110) dX1_laysPath_15 (by decide) ?_ ?_
    · intro h_15
      omega
    · intro h_15
      refine jw_aload_n (pc := 18) dX1_laysPath_18 rfl ?_
      refine jw_iload (pc := 19) dX1_laysPath_19 rfl ?_
      refine jw_aload_n (pc := 21) dX1_laysPath_21 rfl ?_
      refine jx_getRs (pc := 22) (jf_X1_52_0.r) rfl dX1_laysPath_22 rfl (is_64 hS) (by decide) (sr_64_17 hS) ?_
      refine jx_cVEv (mi1 := mi_X1_places) (pc := 25) rfl dX1_laysPath_25 lk_X1_297 rfl fi_X1_places rfl rfl rfl (by decide) (is_64 hS) (t_X1_places hs hm1.2.1 hc3 h0 (by omega) (by decide) (ok_82 hS) (nn_82 hS)) (by first | decide | omega) rfl rfl (by decide) ?_
      refine jw_iload_n (pc := 28) dX1_laysPath_28 rfl ?_
      refine jw_iload_n (pc := 29) dX1_laysPath_29 rfl ?_
      first | refine jx_icmp_ne (pc := 30) (tgt := 47) dX1_laysPath_30 (by decide) (by omega) (by omega) ?_ ?_ | refine jw_icmp_ne (pc := 30) (tgt := 47) dX1_laysPath_30 (by decide) ?_ ?_
      · intro h_30
        refine jw_aload_n (pc := 47) dX1_laysPath_47 rfl ?_
        refine jw_iconst (pc := 48) dX1_laysPath_48 ic_0 ?_
        refine jw_iconst (pc := 49) dX1_laysPath_49 ic_0 ?_
        refine jw_iload_n (pc := 50) dX1_laysPath_50 rfl ?_
        refine jx_cVE (mi1 := mi_X1_firstHome) (pc := 51) rfl dX1_laysPath_51 lk_X1_319 rfl fi_X1_firstHome rfl rfl rfl (by decide) (is_64 hS) (t_X1_firstHome (F := dig (V 0 0) (cnt people) s) (H := fun b => hmJ V σ people goal N (N - (i + 1)) b) hX2 hv9 hm2 hF2 (by omega) (fun s' hs' => (hH2 _).trans (hH1 (i + 1) s' hs' (by omega) (Or.inl (Nat.le_refl _)))) (cnt people) 0 0 (Nat.zero_add _) (by show 0 < 1; decide)) (by first | decide | omega) rfl rfl (by decide) ?_
        refine jw_iconst (pc := 54) dX1_laysPath_54 ic_m1 ?_
        refine jw_icmp_eq (pc := 55) (tgt := 62) dX1_laysPath_55 (by decide) ?_ ?_
        · intro h_55
          refine jw_iconst (pc := 62) dX1_laysPath_62 ic_0 ?_
          refine jw_ff ?_ (step _ _ rfl)
          first
            | (unfold hmQ; rw [if_pos h_30, decide_eq_false h_36]; done)
            | exact Bool.eq_false_iff.mpr ((hfm (by omega)).mp h_55)
        · intro h_55
          refine jw_iconst (pc := 58) dX1_laysPath_58 ic_1 ?_
          refine jw_goto (pc := 59) (tgt := 63) dX1_laysPath_59 (by decide) ?_
          refine jw_tt ?_ (step _ _ rfl)
          first
            | (unfold hmQ; rw [if_pos h_30, decide_eq_true h_36]; done)
            | exact Classical.byContradiction (fun c => h_55 ((hfm (by omega)).mpr c))
      · intro h_30
        refine jw_iload (pc := 33) dX1_laysPath_33 rfl ?_
        refine jw_iload_n (pc := 35) dX1_laysPath_35 rfl ?_
        first | refine jx_icmp_ne (pc := 36) (tgt := 43) dX1_laysPath_36 (by decide) (by omega) (by omega) ?_ ?_ | refine jw_icmp_ne (pc := 36) (tgt := 43) dX1_laysPath_36 (by decide) ?_ ?_
        · intro h_36
          refine jw_iconst (pc := 43) dX1_laysPath_43 ic_0 ?_
          refine jw_goto (pc := 44) (tgt := 63) dX1_laysPath_44 (by decide) ?_
          refine jw_ff ?_ (step _ _ rfl)
          first
            | (unfold hmQ; rw [if_pos h_30, decide_eq_false h_36]; done)
            | exact Bool.eq_false_iff.mpr ((hfm (by omega)).mp h_55)
        · intro h_36
          refine jw_iconst (pc := 39) dX1_laysPath_39 ic_1 ?_
          refine jw_goto (pc := 40) (tgt := 63) dX1_laysPath_40 (by decide) ?_
          refine jw_tt ?_ (step _ _ rfl)
          first
            | (unfold hmQ; rw [if_pos h_30, decide_eq_true h_36]; done)
            | exact Classical.byContradiction (fun c => h_55 ((hfm (by omega)).mpr c))
  · have hk' : s = V 0 0 ^ cnt people := by omega
    subst hk'
    have e9 : nI i + Int32.ofInt (-1) = nI i - nI 1 := by rw [show Int32.ofInt (-1) = -nI 1 by decide +kernel, ← Int32.sub_eq_add_neg]
    refine jw_iload (pc := 9) dX1_laysPath_9 rfl ?_
    refine jw_aload_n (pc := 11) dX1_laysPath_11 rfl ?_
    refine jx_getIs (pc := 12) (jf_X1_290_0.r) rfl dX1_laysPath_12 rfl (is_64 hS) (by decide) (hm1.2.2.1) ?_
    first | refine jx_icmp_ge (pc := 15) (tgt := 110) dX1_laysPath_15 (by decide) (by omega) (by omega) ?_ ?_ | refine jw_icmp_ge (pc := 15) (tgt := 110) dX1_laysPath_15 (by decide) ?_ ?_
    · intro h_15
      refine jw_iinc (pc := 110) dX1_laysPath_110 rfl rfl rfl ?_
      try dsimp only [jput1, jkill, jclr, jis2_i, jis2_l, jis2_rs, jis2_rn, cond]
      refine jw_goto (pc := 113) (tgt := 2) dX1_laysPath_113 (by decide) ?_
      refine jW.sub ?_ (fin M1 hf hX hm1 hL1 (fun i' s' hs' hi' hc => hH1 i' s' hs' hi' (by omega)))
      exact ⟨rfl, rfl, rfl, by rw [← e9], trivial⟩
    · intro h_15
      omega
theorem pfl_0 (V : Vt) (σ : Sg) (people goal N idx : Nat) : pfl V σ people goal N 0 0 idx = -1 := by unfold pfl; rw [if_neg (by omega)]
theorem pfl_n {V : Vt} {σ : Sg} {people goal N i idx : Nat} (hw : jWf V) (hp : people < 2 ^ V 0 1) : pfl V σ people goal N i (cnt people) idx = pfl V σ people goal N (i + 1) 0 idx := by
  unfold pfl
  by_cases hb : people.testBit (idx / 31) = true
  · have := cntN_bit (mv_n hw hp) (wf_nq hw) hp (bit_lt hp hb) hb
    by_cases e : idx % 31 < i + 1
    · rw [if_pos ⟨by omega, hb⟩, if_pos ⟨by omega, hb⟩]
    · rw [if_neg (fun q => by omega), if_neg (fun q => by omega)]
  · rw [if_neg (fun q => hb q.2), if_neg (fun q => hb q.2)]
theorem pfl_s {M : Mm} {V : Vt} {σ : Sg} {people goal N i k : Nat} (hw : jWf V) (hp : people < 2 ^ V 0 1) (hi : i ≤ 30) (hk : k < cnt people) (h : ∀ idx, idx < 155 → jm_A M 87 idx = pfl V σ people goal N i k idx) : ∀ idx, idx < 155 → jm_A (js_A M 87 (31 * mvP people k + i) (nI (dig (V 0 0) (cnt people) (pthS V σ people goal N i) k))) 87 idx = pfl V σ people goal N i (k + 1) idx := by
  intro idx hidx
  have h5 := mv_n hw hp
  obtain ⟨v1, v2, v3⟩ := mv_ok h5 hk
  by_cases e : idx = 31 * mvP people k + i
  · subst e
    rw [jA_same]
    unfold pfl
    have e1 : (31 * mvP people k + i) / 31 = mvP people k := by omega
    have e2 : (31 * mvP people k + i) % 31 = i := by omega
    rw [e1, e2, v3, if_pos ⟨Or.inr ⟨rfl, by omega⟩, v2⟩]
  · rw [jA_oth e, h idx hidx]
    unfold pfl
    by_cases hb : people.testBit (idx / 31) = true
    · have hne : ¬ (idx % 31 = i ∧ cntN people (idx / 31) = k) := by
        rintro ⟨q1, q2⟩
        have := nth_of people h5 (idx / 31) (by omega) hb
        rw [q2] at this
        have : mvP people k = idx / 31 := this
        omega
      by_cases e3 : idx % 31 < i ∨ (idx % 31 = i ∧ cntN people (idx / 31) < k)
      · rw [if_pos ⟨e3, hb⟩, if_pos ⟨by omega, hb⟩]
      · rw [if_neg (fun q => e3 q.1), if_neg (fun q => by omega)]
    · rw [if_neg (fun q => hb q.2), if_neg (fun q => hb q.2)]
theorem lp_l166 {people goal N i : Nat} {V : Vt} {P : Rs → Mm → Prop} {Mb M9 : Mm} {x3 : Int32} (hXb : jXx Mb σ) (hv9 : sv σ = some V) (hmb : jMv Mb V people) (hi : i ≤ 30)
    (fin : ∀ M', jsm (fun a => a = 87 ∨ mvE a) Mb M' → jSh M' → (∀ j, j < cnt people → jm_A M' 82 j = nI (dig (V 0 0) (cnt people) (pthS V σ people goal N i) j)) → (∀ k, jm_A M' 86 k = jm_A Mb 86 k) → (∀ idx, idx < 155 → jm_A M' 87 idx = pfl V σ people goal N (i + 1) 0 idx) → jW G mi_X1_laysPath 7 M9 206 [some (jr (some 64)), some (.int (nI goal)), some (.int (nI N)), some (.int x3), some (.int (nI i)), none] [] M' P) :
    ∀ x : Nat × Mm, (x.1 ≤ cnt people ∧ jsm (fun a => a = 87 ∨ mvE a) Mb x.2 ∧ jSh x.2 ∧ (∀ j, j < cnt people → jm_A x.2 82 j = nI (dig (V 0 0) (cnt people) (pthS V σ people goal N i) j)) ∧ (∀ k, jm_A x.2 86 k = jm_A Mb 86 k) ∧ (∀ idx, idx < 155 → jm_A x.2 87 idx = pfl V σ people goal N i x.1 idx)) → jW G mi_X1_laysPath 7 M9 166 [some (jr (some 64)), some (.int (nI goal)), some (.int (nI N)), some (.int x3), some (.int (nI i)), some (.int (nI x.1))] [] x.2 P := by
  have hw9 := (hXb.2.1.2 V hv9).1
  refine jW.loop (σ := Nat × Mm) _ (fun x => cnt people - x.1) _ (fun _ => []) (fun x => x.2) (fun x hI ih => ?_)
  obtain ⟨k, M2⟩ := x
  obtain ⟨hk, hf, hS, h82, h86, h87⟩ := hI
  dsimp only at hk hf hS h82 h86 h87 ih ⊢
  have hm2 := hmb.fr2 hXb.1 hf (by unfold mvE; omega) (by unfold mvE; omega)
  obtain ⟨⟨m1, m2⟩, m3, m4, m5⟩ := hm2
  by_cases hkn : k < cnt people
  · have hmv := (mv_ok (mv_n hw9 m1) hkn)
    have hq := bit_lt m1 hmv.2.1
    have hnq := wf_nq hw9
    refine jw_iload (pc := 166) dX1_laysPath_166 rfl ?_
    refine jw_aload_n (pc := 168) dX1_laysPath_168 rfl ?_
    refine jx_getIs (pc := 169) (jf_X1_287_0.r) rfl dX1_laysPath_169 rfl (is_64 hS) (by decide) (m3) ?_
    first | refine jx_icmp_ge (pc := 172) (tgt := 206) dX1_laysPath_172 (by decide) (by omega) (by omega) ?_ ?_ | refine jw_icmp_ge (pc := 172) (tgt := 206) dX1_laysPath_172 (by decide) ?_ ?_
    · intro h_172
      omega
    · intro h_172
      refine jw_aload_n (pc := 175) dX1_laysPath_175 rfl ?_
      refine jx_getRs (pc := 176) (jf_X1_68_0.r) rfl dX1_laysPath_176 rfl (is_64 hS) (by decide) (sr_64_24 hS) ?_
      refine jw_bipush (pc := 179) dX1_laysPath_179 bp_31 ?_
      refine jw_aload_n (pc := 181) dX1_laysPath_181 rfl ?_
      refine jx_getRs (pc := 182) (jf_X1_49_0.r) rfl dX1_laysPath_182 rfl (is_64 hS) (by decide) (sr_64_16 hS) ?_
      refine jw_iload (pc := 185) dX1_laysPath_185 rfl ?_
      refine jx_ialds (pc := 187) dX1_laysPath_187 (ok_81 hS) (nn_81 hS) rfl (by omega) (m5 k hkn) ?_
      first | refine jx_imul (pc := 188) dX1_laysPath_188 ?_ | refine jw_imul (pc := 188) dX1_laysPath_188 ?_
      refine jw_iload (pc := 189) dX1_laysPath_189 rfl ?_
      first | refine jx_iadd (pc := 191) dX1_laysPath_191 ?_ | refine jw_iadd (pc := 191) dX1_laysPath_191 ?_
      refine jw_aload_n (pc := 192) dX1_laysPath_192 rfl ?_
      refine jx_getRs (pc := 193) (jf_X1_52_0.r) rfl dX1_laysPath_193 rfl (is_64 hS) (by decide) (sr_64_17 hS) ?_
      refine jw_iload (pc := 196) dX1_laysPath_196 rfl ?_
      refine jx_ialds (pc := 198) dX1_laysPath_198 (ok_82 hS) (nn_82 hS) rfl (by omega) (h82 k hkn) ?_
      refine jx_iast (pc := 199) dX1_laysPath_199 (by decide) (ok_87 hS) (nn_87 hS) rfl (by omega) ?_
      first | refine jx_iinc (pc := 200) dX1_laysPath_200 rfl rfl ?_ | refine jw_iinc (pc := 200) dX1_laysPath_200 rfl rfl rfl ?_
      try dsimp only [jput1, jkill, jclr, jis2_i, jis2_l, jis2_rs, jis2_rn, cond]
      refine jw_goto (pc := 203) (tgt := 166) dX1_laysPath_203 (by decide) ?_
      exact ih (k + 1, js_A M2 87 (31 * mvP people k + i) (nI (dig (V 0 0) (cnt people) (pthS V σ people goal N i) k))) ⟨hkn, hf.tr (jsm.A (Or.inl rfl)), hS, fun j hj => (jA_oth2 (by decide)).trans (h82 j hj), fun q => (jA_oth2 (by decide)).trans (h86 q), pfl_s hw9 m1 hi hkn h87⟩ (by dsimp only; omega)
  · have hk' : k = cnt people := by omega
    subst hk'
    refine jw_iload (pc := 166) dX1_laysPath_166 rfl ?_
    refine jw_aload_n (pc := 168) dX1_laysPath_168 rfl ?_
    refine jx_getIs (pc := 169) (jf_X1_287_0.r) rfl dX1_laysPath_169 rfl (is_64 hS) (by decide) (m3) ?_
    first | refine jx_icmp_ge (pc := 172) (tgt := 206) dX1_laysPath_172 (by decide) (by omega) (by omega) ?_ ?_ | refine jw_icmp_ge (pc := 172) (tgt := 206) dX1_laysPath_172 (by decide) ?_ ?_
    · intro h_172
      refine jW.sub ?_ (fin M2 hf hS h82 h86 (fun idx hidx => by rw [h87 idx hidx, pfl_n hw9 m1]))
      exact ⟨rfl, rfl, rfl, rfl, rfl, trivial⟩
    · intro h_172
      omega
theorem lp_l206 {people goal N i : Nat} {V : Vt} {P : Rs → Mm → Prop} {Mb M9 M3 : Mm} (hXb : jXx Mb σ) (hv9 : sv σ = some V) (hmb : jMv Mb V people) (hN : N ≤ 30) (hi : i ≤ N) (hpt : ∀ i, i ≤ N → pthS V σ people goal N i < V 0 0 ^ cnt people ∧ hmJ V σ people goal N (N - i) (pthS V σ people goal N i) = true ∧ rch V σ people i (pthS V σ people goal N i) = true) (hHb : jHm Mb V σ people goal N 0 0)
    (q1 : jsm (fun a => a = 87 ∨ mvE a) Mb M3) (q2 : jSh M3) (q3 : ∀ j, j < cnt people → jm_A M3 82 j = nI (dig (V 0 0) (cnt people) (pthS V σ people goal N i) j)) (q4 : ∀ k, jm_A M3 86 k = jm_A Mb 86 k) (q5 : ∀ idx, idx < 155 → jm_A M3 87 idx = pfl V σ people goal N (i + 1) 0 idx)
    (ih : jW G mi_X1_laysPath 7 M9 148 [some (jr (some 64)), some (.int (nI goal)), some (.int (nI N)), some (.int (nI (pthS V σ people goal N (min (i + 1) N)))), some (.int (nI (i + 1))), none] [] M3 P) :
    jW G mi_X1_laysPath 7 M9 206 [some (jr (some 64)), some (.int (nI goal)), some (.int (nI N)), some (.int (nI (pthS V σ people goal N i))), some (.int (nI i)), none] [] M3 P := by
  have hX3 := xpth hXb q1 q2 q5
  have hm3 := hmb.fr2 hXb.1 q1 (by unfold mvE; omega) (by unfold mvE; omega)
  have hS := q2
  have h0 : 0 < V 0 0 := (hXb.2.1.1.2 V hv9).1
  have hw9 := (hXb.2.1.2 V hv9).1
  have hc3 := hmb.1.2
  have h1000 := pw3 (wf_np hw9) hc3
  by_cases hiN : i = N
  · rw [show min (i + 1) N = i by omega] at ih
    refine jw_iload (pc := 206) dX1_laysPath_206 rfl ?_
    refine jw_iload_n (pc := 208) dX1_laysPath_208 rfl ?_
    first | refine jx_icmp_ne (pc := 209) (tgt := 216) dX1_laysPath_209 (by decide) (by omega) (by omega) ?_ ?_ | refine jw_icmp_ne (pc := 209) (tgt := 216) dX1_laysPath_209 (by decide) ?_ ?_
    · intro h_209
      omega
    · intro h_209
      refine jw_iload_n (pc := 212) dX1_laysPath_212 rfl ?_
      refine jw_goto (pc := 213) (tgt := 224) dX1_laysPath_213 (by decide) ?_
      refine jw_istore_n (pc := 224) dX1_laysPath_224 (Nat.le_of_ble_eq_true rfl) rfl ?_
      try dsimp only [jput1, jput2, jkill, jclr, jis2_i, jis2_l, jis2_rs, jis2_rn, cond]
      first | refine jx_iinc (pc := 225) dX1_laysPath_225 rfl rfl ?_ | refine jw_iinc (pc := 225) dX1_laysPath_225 rfl rfl rfl ?_
      try dsimp only [jput1, jkill, jclr, jis2_i, jis2_l, jis2_rs, jis2_rn, cond]
      refine jw_goto (pc := 228) (tgt := 148) dX1_laysPath_228 (by decide) ?_
      refine jW.sub ?_ ih
      exact ⟨rfl, rfl, rfl, rfl, rfl, trivial⟩
  · rw [show min (i + 1) N = i + 1 by omega] at ih
    obtain ⟨p1, p2, p3⟩ := hpt (i + 1) (by omega)
    have hfv : fstI (V 0 0 ^ cnt people) (fhQ V people (dig (V 0 0) (cnt people) (pthS V σ people goal N i)) (fun b => hmJ V σ people goal N (N - (i + 1)) b) 0 0) = nI (pthS V σ people goal N (i + 1)) := by
      rw [fstI_cg (Q := fun b => linkS V people (pthS V σ people goal N i) b && hmJ V σ people goal N (N - (i + 1)) b) (fun j hj => by unfold fhQ; rw [cnd_link hj])]
      unfold fstI
      have e : fstN (V 0 0 ^ cnt people) (fun b => linkS V people (pthS V σ people goal N i) b && hmJ V σ people goal N (N - (i + 1)) b) = pthS V σ people goal N (i + 1) := rfl
      rw [e, if_pos p1]
    refine jw_iload (pc := 206) dX1_laysPath_206 rfl ?_
    refine jw_iload_n (pc := 208) dX1_laysPath_208 rfl ?_
    first | refine jx_icmp_ne (pc := 209) (tgt := 216) dX1_laysPath_209 (by decide) (by omega) (by omega) ?_ ?_ | refine jw_icmp_ne (pc := 209) (tgt := 216) dX1_laysPath_209 (by decide) ?_ ?_
    · intro h_209
      refine jw_aload_n (pc := 216) dX1_laysPath_216 rfl ?_
      refine jw_iconst (pc := 217) dX1_laysPath_217 ic_0 ?_
      refine jw_iconst (pc := 218) dX1_laysPath_218 ic_0 ?_
      refine jw_iload (pc := 219) dX1_laysPath_219 rfl ?_
      refine jx_cVE (mi1 := mi_X1_firstHome) (pc := 221) rfl dX1_laysPath_221 lk_X1_319 rfl fi_X1_firstHome rfl rfl rfl (by decide) (is_64 hS) (t_X1_firstHome (σ := sgB σ 1 (pfl V σ people goal N (i + 1) 0)) (V := V) (people := people) (i := i) (F := dig (V 0 0) (cnt people) (pthS V σ people goal N i)) (H := fun b => hmJ V σ people goal N (N - (i + 1)) b) hX3 hv9 hm3 (fun j hj => ⟨q3 j hj, dig_lt h0⟩) (by omega) (fun s' hs' => (q4 _).trans (hHb (i + 1) s' hs' (by omega) (Or.inl (Nat.zero_le _)))) (cnt people) 0 0 (Nat.zero_add _) (by show 0 < 1; decide)) (by first | decide | omega) rfl rfl (by decide) ?_
      rw [hfv]
      refine jw_istore_n (pc := 224) dX1_laysPath_224 (Nat.le_of_ble_eq_true rfl) rfl ?_
      try dsimp only [jput1, jput2, jkill, jclr, jis2_i, jis2_l, jis2_rs, jis2_rn, cond]
      first | refine jx_iinc (pc := 225) dX1_laysPath_225 rfl rfl ?_ | refine jw_iinc (pc := 225) dX1_laysPath_225 rfl rfl rfl ?_
      try dsimp only [jput1, jkill, jclr, jis2_i, jis2_l, jis2_rs, jis2_rn, cond]
      refine jw_goto (pc := 228) (tgt := 148) dX1_laysPath_228 (by decide) ?_
      refine jW.sub ?_ ih
      exact ⟨rfl, rfl, rfl, rfl, rfl, trivial⟩
    · intro h_209
      omega
theorem t_X1_laysPath {people goal N : Nat} {V : Vt} (h : jXx M σ) (hv9 : sv σ = some V) (hm : jMv M V people) (hL : jRw M 84 (V 0 0 ^ cnt people) (lawR V σ people)) (hN : N ≤ 30) (hg : goal < V 0 0 ^ cnt people) (hr : rch V σ people N goal = true) : jT G mi_X1_laysPath 7 [jr (some 64), .int (nI goal), .int (nI N)] M (jPv (fun M' => jXx M' (sgP V σ people goal N) ∧ jfx M M')) := by
  have hS := h.1
  have hw9 := (h.2.1.2 V hv9).1
  have h0 : 0 < V 0 0 := (h.2.1.1.2 V hv9).1
  have hnp := wf_np hw9
  have hc3 := hm.1.2
  have h1000 := pw3 hnp hc3
  have hp5 := mv_n hw9 hm.1.1
  have ho := (h.2.1.2 V hv9).2.1
  have hns : nowS V σ people < V 0 0 ^ cnt people := codeN_lt (fun k hk => ho _ (bit_lt hm.1.1 (mv_ok hp5 hk).2.1))
  have hpt := pth_ok hns hg hr
  refine jT.of (by decide) rfl (Nat.le_of_ble_eq_true rfl) ?_
  have L140 : ∀ Mb, jsm mvE M Mb → jXx Mb σ → jMv Mb V people → jHm Mb V σ people goal N 0 0 → ∀ M1, jsm (fun a => a = 87 ∨ mvE a) Mb M1 → jSh M1 → (∀ k, jm_A M1 86 k = jm_A Mb 86 k) → (∀ idx, idx < 155 → jm_A M1 87 idx = -1) → jW G mi_X1_laysPath 7 M 140 [some (jr (some 64)), some (.int (nI goal)), some (.int (nI N)), none, none, none] [] M1 (jPv (fun M' => jXx M' (sgP V σ people goal N) ∧ jfx M M')) := by
    intro Mb hfb hXb hmb hHb M1 hf1 hS1 h861 h871
    have K : ∀ x : Nat × Mm, (x.1 ≤ N + 1 ∧ jsm (fun a => a = 87 ∨ mvE a) Mb x.2 ∧ jSh x.2 ∧ (∀ k, jm_A x.2 86 k = jm_A Mb 86 k) ∧ (∀ idx, idx < 155 → jm_A x.2 87 idx = pfl V σ people goal N x.1 0 idx)) → jW G mi_X1_laysPath 7 M 148 [some (jr (some 64)), some (.int (nI goal)), some (.int (nI N)), some (.int (nI (pthS V σ people goal N (min x.1 N)))), some (.int (nI x.1)), none] [] x.2 (jPv (fun M' => jXx M' (sgP V σ people goal N) ∧ jfx M M')) := by
      refine jW.loop (σ := Nat × Mm) _ (fun x => N + 1 - x.1) _ (fun _ => []) (fun x => x.2) (fun x hI ih => ?_)
      obtain ⟨i, M2⟩ := x
      obtain ⟨hi, hf, hS, h86, h87⟩ := hI
      dsimp only at hi hf hS h86 h87 ih ⊢
      have hX2 := xpth hXb hf hS h87
      have hm2 := hmb.fr2 hXb.1 hf (by unfold mvE; omega) (by unfold mvE; omega)
      by_cases hkn : i < N + 1
      · have hmin : min i N = i := by omega
        obtain ⟨p1, p2, p3⟩ := hpt i (by omega)
        obtain ⟨v, hs, hN9⟩ := hX2.so (V := V) hv9
        rw [hmin]
        refine jw_iload (pc := 148) dX1_laysPath_148 rfl ?_
        refine jw_iload_n (pc := 150) dX1_laysPath_150 rfl ?_
        first | refine jx_icmp_gt (pc := 151) (tgt := 231) dX1_laysPath_151 (by decide) (by omega) (by omega) ?_ ?_ | refine jw_icmp_gt (pc := 151) (tgt := 231) dX1_laysPath_151 (by decide) ?_ ?_
        · intro h_151
          omega
        · intro h_151
          refine jw_aload_n (pc := 154) dX1_laysPath_154 rfl ?_
          refine jw_iload_n (pc := 155) dX1_laysPath_155 rfl ?_
          refine jw_aload_n (pc := 156) dX1_laysPath_156 rfl ?_
          refine jx_getRs (pc := 157) (jf_X1_52_0.r) rfl dX1_laysPath_157 rfl (is_64 hS) (by decide) (sr_64_17 hS) ?_
          refine jx_cVEv (mi1 := mi_X1_places) (pc := 160) rfl dX1_laysPath_160 lk_X1_297 rfl fi_X1_places rfl rfl rfl (by decide) (is_64 hS) (t_X1_places hs hm2.2.1 hc3 h0 (by omega) (by decide) (ok_82 hS) (nn_82 hS)) (by first | decide | omega) rfl rfl (by decide) ?_
          refine jw_iconst (pc := 163) dX1_laysPath_163 ic_0 ?_
          refine jw_istore (pc := 164) dX1_laysPath_164 (Nat.le_of_ble_eq_true rfl) rfl ?_
          try dsimp only [jput1, jput2, jkill, jclr, jis2_i, jis2_l, jis2_rs, jis2_rn, cond]
          refine lp_l166 (people := people) (goal := goal) (N := N) (i := i) (V := V) hXb hv9 hmb (by omega) (fun M3 q1 q2 q3 q4 q5 => ?_) (0, _) ⟨Nat.zero_le _, hf.tr (jsm.As (Or.inr (by unfold mvE; omega))), hS, fun j hj => plcG_r hj, fun k => (jA_rn (by decide)).trans (h86 k), fun idx hidx => (jA_rn (by decide)).trans (h87 idx hidx)⟩
          exact lp_l206 hXb hv9 hmb hN (by omega) hpt hHb q1 q2 q3 q4 q5 (ih (i + 1, M3) ⟨hkn, q1, q2, q4, q5⟩ (by dsimp only; omega))
      · have hk' : i = N + 1 := by omega
        subst hk'
        have hX3 := xplong hX2 hN
        refine jw_iload (pc := 148) dX1_laysPath_148 rfl ?_
        refine jw_iload_n (pc := 150) dX1_laysPath_150 rfl ?_
        first | refine jx_icmp_gt (pc := 151) (tgt := 231) dX1_laysPath_151 (by decide) (by omega) (by omega) ?_ ?_ | refine jw_icmp_gt (pc := 151) (tgt := 231) dX1_laysPath_151 (by decide) ?_ ?_
        · intro h_151
          refine jw_aload_n (pc := 231) dX1_laysPath_231 rfl ?_
          refine jw_iload_n (pc := 232) dX1_laysPath_232 rfl ?_
          refine jx_putI (pc := 233) jf_X1_71_0 rfl dX1_laysPath_233 rfl rfl (is_64 hS) (by decide) ?_
          refine jw_return (pc := 236) dX1_laysPath_236 rfl ?_
          exact ⟨rfl, hX3, ((hfb.wk (fun a q => xsa_E (mvE_x q))).tr (hf.wk (fun a q => by rcases q with q | q; exact ⟨by omega, by omega⟩; exact xsa_E (mvE_x q)))).tr (jsm.I (by decide))⟩
        · intro h_151
          omega
    have hX2 := xpth hXb hf1 hS1 (f := fun _ => -1) h871
    have hm2 := hmb.fr2 hXb.1 hf1 (by unfold mvE; omega) (by unfold mvE; omega)
    have hS := hS1
    refine jw_aload_n (pc := 140) dX1_laysPath_140 rfl ?_
    refine jx_cVE (mi1 := mi_X1_nowState) (pc := 141) rfl dX1_laysPath_141 lk_X1_304 rfl fi_X1_nowState rfl rfl rfl (by decide) (is_64 hS) (t_X1_nowState hX2 hv9 hm2) (by first | decide | omega) rfl rfl (by decide) ?_
    refine jw_istore_n (pc := 144) dX1_laysPath_144 (Nat.le_of_ble_eq_true rfl) rfl ?_
    try dsimp only [jput1, jput2, jkill, jclr, jis2_i, jis2_l, jis2_rs, jis2_rn, cond]
    refine jw_iconst (pc := 145) dX1_laysPath_145 ic_0 ?_
    refine jw_istore (pc := 146) dX1_laysPath_146 (Nat.le_of_ble_eq_true rfl) rfl ?_
    try dsimp only [jput1, jput2, jkill, jclr, jis2_i, jis2_l, jis2_rs, jis2_rn, cond]
    refine jW.sub ?_ (K (0, _) ⟨Nat.zero_le _, hf1.tr (jsm.As (Or.inr (by unfold mvE; omega))), hS1, fun k => (jA_rn (by decide)).trans (h861 k), fun idx hidx => by rw [pfl_0]; exact (jA_rn (by decide)).trans (h871 idx hidx)⟩)
    exact ⟨rfl, rfl, rfl, by rw [Nat.zero_min]; rfl, rfl, trivial⟩
  have L118 : ∀ Mb, jsm mvE M Mb → jXx Mb σ → jMv Mb V people → jHm Mb V σ people goal N 0 0 → ∀ k : Nat, k ≤ 155 → jW G mi_X1_laysPath 7 M 118 [some (jr (some 64)), some (.int (nI goal)), some (.int (nI N)), some (.int (nI k)), none, none] [] (js_As Mb 87 (fun j => if j < k then -1 else jm_A Mb 87 j)) (jPv (fun M' => jXx M' (sgP V σ people goal N) ∧ jfx M M')) := by
    intro Mb hfb hXb hmb hHb
    have hS := hXb.1
    refine jW.loop _ (fun k => 155 - k) _ (fun _ => []) (fun k => js_As Mb 87 (fun j => if j < k then -1 else jm_A Mb 87 j)) (fun k hk ih => ?_)
    by_cases hkn : k < 155
    ·
      refine jw_iload_n (pc := 118) dX1_laysPath_118 rfl ?_
      refine jw_aload_n (pc := 119) dX1_laysPath_119 rfl ?_
      refine jx_getRs (pc := 120) (jf_X1_68_0.r) rfl dX1_laysPath_120 rfl (is_64 hS) (by decide) (sr_64_24 hS) ?_
      refine jw_alen (pc := 123) (by decide) dX1_laysPath_123 rfl (ok_87 hS) ?_
      rw [show jm_N (js_As Mb 87 (fun j => if j < k then -1 else jm_A Mb 87 j)) 87 = 155 from nn_87 hS]
      first | refine jx_icmp_ge (pc := 124) (tgt := 140) dX1_laysPath_124 (by decide) (by omega) (by omega) ?_ ?_ | refine jw_icmp_ge (pc := 124) (tgt := 140) dX1_laysPath_124 (by decide) ?_ ?_
      · intro h_124
        omega
      · intro h_124
        refine jw_aload_n (pc := 127) dX1_laysPath_127 rfl ?_
        refine jx_getRs (pc := 128) (jf_X1_68_0.r) rfl dX1_laysPath_128 rfl (is_64 hS) (by decide) (sr_64_24 hS) ?_
        refine jw_iload_n (pc := 131) dX1_laysPath_131 rfl ?_
        refine jw_iconst (pc := 132) dX1_laysPath_132 ic_m1 ?_
        refine jx_iast (pc := 133) dX1_laysPath_133 (by decide) (ok_87 hS) (nn_87 hS) rfl (by omega) ?_
        first | refine jx_iinc (pc := 134) dX1_laysPath_134 rfl rfl ?_ | refine jw_iinc (pc := 134) dX1_laysPath_134 rfl rfl rfl ?_
        try dsimp only [jput1, jkill, jclr, jis2_i, jis2_l, jis2_rs, jis2_rn, cond]
        refine jw_goto (pc := 137) (tgt := 118) dX1_laysPath_137 (by decide) ?_
        refine jW.eq rfl rfl ?_ (ih (k + 1) hkn (by omega))
        rw [jAs_A]
        refine jAs_cg (fun i => ?_)
        by_cases e : i = k
        · rw [if_pos e, if_pos (by omega)]
        · rw [if_neg e]
          by_cases e2 : i < k
          · rw [if_pos e2, if_pos (by omega)]
          · rw [if_neg e2, if_neg (by omega)]
    · have hk' : k = 155 := by omega
      subst hk'
      refine jw_iload_n (pc := 118) dX1_laysPath_118 rfl ?_
      refine jw_aload_n (pc := 119) dX1_laysPath_119 rfl ?_
      refine jx_getRs (pc := 120) (jf_X1_68_0.r) rfl dX1_laysPath_120 rfl (is_64 hS) (by decide) (sr_64_24 hS) ?_
      refine jw_alen (pc := 123) (by decide) dX1_laysPath_123 rfl (ok_87 hS) ?_
      rw [show jm_N (js_As Mb 87 (fun j => if j < 155 then -1 else jm_A Mb 87 j)) 87 = 155 from nn_87 hS]
      first | refine jx_icmp_ge (pc := 124) (tgt := 140) dX1_laysPath_124 (by decide) (by omega) (by omega) ?_ ?_ | refine jw_icmp_ge (pc := 124) (tgt := 140) dX1_laysPath_124 (by decide) ?_ ?_
      · intro h_124
        refine jW.sub ?_ (L140 Mb hfb hXb hmb hHb _ (jsm.As (Or.inl rfl)) hS (fun k => jA_rn (by decide)) (fun idx hidx => by rw [jA_rd, if_pos hidx]))
        exact ⟨rfl, rfl, rfl, trivial⟩
      · intro h_124
        omega
  have J0 : ∀ x : Nat × Mm, (x.1 ≤ N + 1 ∧ jsm mvE M x.2 ∧ jXx x.2 σ ∧ jMv x.2 V people ∧ jRw x.2 84 (V 0 0 ^ cnt people) (lawR V σ people) ∧ jHm x.2 V σ people goal N x.1 0) → jW G mi_X1_laysPath 7 M 2 [some (jr (some 64)), some (.int (nI goal)), some (.int (nI N)), some (.int (nI x.1 - nI 1)), none, none] [] x.2 (jPv (fun M' => jXx M' (sgP V σ people goal N) ∧ jfx M M')) := by
    refine jW.loop (σ := Nat × Mm) _ (fun x => x.1) _ (fun _ => []) (fun x => x.2) (fun x hI ih => ?_)
    obtain ⟨c, M1⟩ := x
    obtain ⟨hc, hf, hX, hm1, hL1, hH1⟩ := hI
    dsimp only at hc hf hX hm1 hL1 hH1 ih ⊢
    have hS := hX.1
    by_cases hkn : 1 ≤ c
    · rw [sub1 hkn]
      refine jw_iload_n (pc := 2) dX1_laysPath_2 rfl ?_
      refine jw_if_lt (pc := 3) (tgt := 116) dX1_laysPath_3 (by decide) ?_ ?_
      · intro h_3
        exact absurd h_3 (nI_nn (by omega))
      · intro h_3
        refine jw_iconst (pc := 6) dX1_laysPath_6 ic_0 ?_
        refine jw_istore (pc := 7) dX1_laysPath_7 (Nat.le_of_ble_eq_true rfl) rfl ?_
        try dsimp only [jput1, jput2, jkill, jclr, jis2_i, jis2_l, jis2_rs, jis2_rn, cond]
        refine lp_l9 (people := people) (i := c - 1) hv9 hN (by omega) hg M (fun M' q1 q2 q3 q4 q5 => ih (c - 1, M') ⟨by dsimp only; omega, q1, q2, q3, q4, q5⟩ (by dsimp only; omega)) (0, M1) ⟨Nat.zero_le _, hf, hX, hm1, hL1, ?_⟩
        rw [show c - 1 + 1 = c by omega]; exact hH1
    · have hk' : c = 0 := by omega
      subst hk'
      refine jw_iload_n (pc := 2) dX1_laysPath_2 rfl ?_
      refine jw_if_lt (pc := 3) (tgt := 116) dX1_laysPath_3 (by decide) ?_ ?_
      · intro h_3
        refine jw_iconst (pc := 116) dX1_laysPath_116 ic_0 ?_
        refine jw_istore_n (pc := 117) dX1_laysPath_117 (Nat.le_of_ble_eq_true rfl) rfl ?_
        try dsimp only [jput1, jput2, jkill, jclr, jis2_i, jis2_l, jis2_rs, jis2_rn, cond]
        refine jW.eq rfl rfl ?_ (L118 M1 hf hX hm1 hH1 0 (Nat.zero_le _))
        exact jAs_0 (fun i => by rw [if_neg (Nat.not_lt_zero _)])
      · intro h_3
        exact absurd (by decide +kernel) h_3
  refine jw_iload_n (pc := 0) dX1_laysPath_0 rfl ?_
  refine jw_istore_n (pc := 1) dX1_laysPath_1 (Nat.le_of_ble_eq_true rfl) rfl ?_
  try dsimp only [jput1, jput2, jkill, jclr, jis2_i, jis2_l, jis2_rs, jis2_rn, cond]
  refine jW.sub ?_ (J0 (N + 1, M) ⟨Nat.le_refl _, jsm.rf, h, hm, hL, fun i' s' _ hi' hc => by omega⟩)
  exact ⟨rfl, rfl, rfl, by dsimp only; rw [sub1 (by omega)]; rfl, trivial⟩
end JXP
