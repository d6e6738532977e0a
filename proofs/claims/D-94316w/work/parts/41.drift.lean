/-! ===== drift ===== -/
def lowB (s : Nat) : Nat := ((List.range 10).find? (fun i => s.testBit i)).getD 0
def clrK (s n : Nat) : Nat := match n with
  | 0 => s
  | n + 1 => clrK s n &&& (clrK s n - 1)
theorem clrK_s (s n : Nat) : clrK s (n + 1) = clrK s n &&& (clrK s n - 1) := rfl
def nthB (s k : Nat) : Nat := lowB (clrK s (k - 1))
theorem low_ok : ∀ s, s < 1024 → s ≠ 0 → lowB s < 10 ∧ s.testBit (lowB s) = true ∧ ∀ j, j < lowB s → s.testBit j = false := by decide +kernel
theorem clr_ok : ∀ s, s < 1024 → ∀ j, j < cnt s → clrK s j ≠ 0 ∧ clrK s j < 1024 := by decide +kernel
def cntN (s n : Nat) : Nat := ((List.range n).filter (fun k => s.testBit k)).length
theorem cntN_s (s n : Nat) : cntN s (n + 1) = cntN s n + (if s.testBit n then 1 else 0) := by
  unfold cntN
  rw [List.range_succ, List.filter_append, List.length_append]
  congr 1
  cases h : s.testBit n <;> simp [h]
theorem nth_ok : ∀ s, s < 1024 → ∀ k, k ≤ cnt s → 1 ≤ k → nthB s k < 10 ∧ s.testBit (nthB s k) = true ∧ cntN s (nthB s k) + 1 = k := by decide +kernel
theorem cntN_mono (s : Nat) {n m : Nat} (h : n ≤ m) : cntN s n ≤ cntN s m := by
  induction m with
  | zero => rw [show n = 0 by omega]; exact Nat.le_refl _
  | succ m ih =>
    by_cases e : n = m + 1
    · rw [e]; exact Nat.le_refl _
    · exact Nat.le_trans (ih (by omega)) (by rw [cntN_s]; omega)
def sgD (τ : Sg) (t s : Nat) (a : Nat → Nat) : Sg := (τ.1, fun k => if k = 0 then t else if k = 1 then s else sn τ k, τ.2.2.1, fun j k => if j = 0 then a k else sa τ j k, τ.2.2.2.2)
theorem sgD_A (τ : Sg) (t s : Nat) (a b : Nat → Nat) : sgA (sgD τ t s a) 0 b = sgD τ t s b := by
  refine Prod.ext rfl (Prod.ext rfl (Prod.ext rfl (Prod.ext (funext fun j => funext fun k => ?_) rfl)))
  show (if j = 0 then b k else sa (sgD τ t s a) j k) = if j = 0 then b k else sa τ j k
  by_cases e : j = 0
  · rw [if_pos e, if_pos e]
  · rw [if_neg e, if_neg e]
    exact if_neg e
theorem sgD_N (τ : Sg) (t s r : Nat) (a : Nat → Nat) : sgN (sgD τ t s a) 1 r = sgD τ t r a := by
  refine Prod.ext rfl (Prod.ext (funext fun k => ?_) rfl)
  show (if k = 1 then r else (if k = 0 then t else if k = 1 then s else sn τ k)) = (if k = 0 then t else if k = 1 then r else sn τ k)
  by_cases e : k = 0
  · subst e; rfl
  · by_cases e2 : k = 1
    · subst e2; rfl
    · rw [if_neg e2, if_neg e, if_neg e2, if_neg e, if_neg e2]
theorem sgD_0 (τ : Sg) (t : Nat) : sgN τ 0 t = sgD τ t (sn τ 1) (sa τ 0) := by
  refine Prod.ext rfl (Prod.ext (funext fun k => ?_) (Prod.ext rfl (Prod.ext (funext fun j => funext fun k => ?_) rfl)))
  · show (if k = 0 then t else sn τ k) = (if k = 0 then t else if k = 1 then sn τ 1 else sn τ k)
    by_cases e : k = 0
    · rw [if_pos e, if_pos e]
    · rw [if_neg e, if_neg e]
      by_cases e2 : k = 1
      · rw [if_pos e2, e2]
      · rw [if_neg e2]
  · show sa τ j k = if j = 0 then sa τ 0 k else sa τ j k
    by_cases e : j = 0
    · rw [if_pos e, e]
    · rw [if_neg e]
def drS (s : Nat) : Nat := (75 * s + 74) % 65537
def drN (V : Vt) (s p : Nat) (a : Nat → Nat) : Nat := drS s % (1 + cnt (V 3 (a p)))
def drA (V : Vt) (s p : Nat) (a : Nat → Nat) : Nat → Nat := fun q => if q = p then nthB (V 3 (a p)) (drN V s p a) else a q
def drP (V : Vt) (t : Nat) (x : Nat × (Nat → Nat) × Nat) (p : Nat) : Nat × (Nat → Nat) × Nat :=
  if drN V x.1 p x.2.1 = 0 then (drS x.1, x.2.1, x.2.2)
  else if lawfulV V (drA V x.1 p x.2.1) t then (drS x.1, drA V x.1 p x.2.1, x.2.2 + 1) else (drS x.1, x.2.1, x.2.2)
def drK (V : Vt) (t : Nat) (x : Nat × (Nat → Nat) × Nat) (n : Nat) : Nat × (Nat → Nat) × Nat := match n with
  | 0 => x
  | n + 1 => drP V t (drK V t x n) n
theorem drK_s (V : Vt) (t : Nat) (x : Nat × (Nat → Nat) × Nat) (n : Nat) : drK V t x (n + 1) = drP V t (drK V t x n) n := rfl
theorem drP_0 {V : Vt} {t p : Nat} {x : Nat × (Nat → Nat) × Nat} (h : drN V x.1 p x.2.1 = 0) : drP V t x p = (drS x.1, x.2.1, x.2.2) := by unfold drP; rw [if_pos h]
theorem drP_1 {V : Vt} {t p : Nat} {x : Nat × (Nat → Nat) × Nat} (h : ¬ drN V x.1 p x.2.1 = 0) (h2 : lawfulV V (drA V x.1 p x.2.1) t = true) : drP V t x p = (drS x.1, drA V x.1 p x.2.1, x.2.2 + 1) := by unfold drP; rw [if_neg h, if_pos h2]
theorem drP_2 {V : Vt} {t p : Nat} {x : Nat × (Nat → Nat) × Nat} (h : ¬ drN V x.1 p x.2.1 = 0) (h2 : lawfulV V (drA V x.1 p x.2.1) t = false) : drP V t x p = (drS x.1, x.2.1, x.2.2) := by unfold drP; rw [if_neg h, h2]; rfl
theorem drP_c (V : Vt) (t : Nat) (x : Nat × (Nat → Nat) × Nat) (p : Nat) : (drP V t x p).2.2 ≤ x.2.2 + 1 := by
  unfold drP; split
  · show x.2.2 ≤ _; omega
  · split
    · exact Nat.le_refl _
    · show x.2.2 ≤ _; omega
theorem drK_c (V : Vt) (t : Nat) (x : Nat × (Nat → Nat) × Nat) (n : Nat) : (drK V t x n).2.2 ≤ x.2.2 + n := by
  induction n with
  | zero => exact Nat.le_refl _
  | succ n ih => have := drP_c V t (drK V t x n) n; rw [drK_s]; omega
def drT (σ : Sg) : Nat := (sn σ 0 + 1) % 100
def drR (V : Vt) (σ : Sg) : Nat × (Nat → Nat) × Nat := drK V (drT σ) (sn σ 1, sa σ 0, 0) (V 0 1)
def o_drift (σ : Sg) : Int32 × Sg := match sv σ with
  | none => (-1, sgT σ 1 (-1))
  | some V => if lawfulV V (sa σ 0) (sn σ 0) then (nI (drR V σ).2.2, sgD (sgT σ 0 (-1)) (drT σ) (drR V σ).1 (drR V σ).2.1) else (-1, sgT σ 5 (-1))
theorem drA_back {V : Vt} {s p : Nat} {a : Nat → Nat} : (fun q => if q = p then a p else drA V s p a q) = a := by
  funext q
  by_cases e : q = p
  · rw [if_pos e, e]
  · rw [if_neg e]; unfold drA; rw [if_neg e]
theorem xput1 {M : Mm} {σ : Sg} {p z : Nat} {V : Vt} (h : jXx M σ) (hv9 : sv σ = some V) (hz : z < V 0 0) : jXx (js_A M 78 p (nI z)) (sgA σ 0 (fun q => if q = p then z else sa σ 0 q)) := by
  refine xput h (jsm.A rfl) h.1 (fun _ => rfl) (fun _ => rfl) (fun k => jA_oth2 (by decide)) (fun k => jA_oth2 (by decide)) (fun W hW q hq => ?_)
  have e : W = V := by rw [hv9] at hW; exact (Option.some.inj hW).symm
  subst e
  obtain ⟨v, hs, hN⟩ := h.so hW
  obtain ⟨o1, o2, o3⟩ := h.2.1.2 W hW
  by_cases e : q = p
  · subst e; rw [if_pos rfl]; exact ⟨jA_same, hz⟩
  · rw [if_neg e]; exact ⟨(jA_oth e).trans (hN.2.2.2.1 q hq), o2 q hq⟩
theorem mput1 {M : Mm} {σ : Sg} {p z : Nat} {V : Vt} (h : jMm M σ) (hv9 : sv σ = some V) (hz : z < V 0 0) : jMm (js_A M 92 p (nI z)) (sgA σ 0 (fun q => if q = p then z else sa σ 0 q)) := by
  refine mput h (jsm.A rfl) h.1 (fun _ => rfl) (fun _ => rfl) (fun k => jA_oth2 (by decide)) (fun k => jA_oth2 (by decide)) (fun W hW q hq => ?_)
  have e : W = V := by rw [hv9] at hW; exact (Option.some.inj hW).symm
  subst e
  obtain ⟨v, hs, hN⟩ := h.so hW
  obtain ⟨o1, o2, o3⟩ := h.2.1.2 W hW
  by_cases e : q = p
  · subst e; rw [if_pos rfl]; exact ⟨jA_same, hz⟩
  · rw [if_neg e]; exact ⟨(jA_oth e).trans (hN.2.2.2.1 q hq), o2 q hq⟩
section JDR
variable {G : Gh} {M : Mm} {σ : Sg}
theorem t_X1_neighbour {v a k : Nat} {V : Vt} (hs : jXs M v V) (ha : a < V 0 0) (hk1 : 1 ≤ k) (hk : k ≤ cnt (V 3 a)) : jE G mi_X1_neighbour 2 [jr (some 64), .int (nI a), .int (nI k)] M (some (.int (nI (nthB (V 3 a) k)))) M := by
  have hS := hs.1
  have hv := hs.s
  have hn := wf_np hs.w
  have hw3 : V 3 a < 1024 := by have := (wf_pl hs.w ha).2.2.1; have := p10 hn; omega
  obtain ⟨p, c1, c2, c3, c4, c5⟩ := pl_x hs.V ha
  obtain ⟨n1, n2, n3⟩ := nth_ok _ hw3 k hk hk1
  have hc9 := cnt_le (V 3 a)
  refine jE.of (by decide) rfl (Nat.le_of_ble_eq_true rfl) ?_
  have J : ∀ q : Nat, q ≤ nthB (V 3 a) k + 1 → jW G mi_X1_neighbour 2 M 5 [some (jr (some 64)), some (.int (nI a)), some (.int (nI k)), some (.int (nI (cntN (V 3 a) q))), some (.int (nI q - nI 1))] [] M (fun r M' => r = .inl (some (.int (nI (nthB (V 3 a) k)))) ∧ M' = M) := by
    refine jW.loop _ (fun q => nthB (V 3 a) k + 1 - q) _ (fun _ => []) (fun _ => M) (fun q hq ih => ?_)
    have hs1 := cntN_s (V 3 a) q
    by_cases hkn : q < nthB (V 3 a) k + 1
    · have hm := cntN_mono (V 3 a) (show q ≤ nthB (V 3 a) k by omega)
      have e9 : nI q - nI 1 + Int32.ofInt 1 = nI q := by rw [show Int32.ofInt 1 = nI 1 from rfl, Int32.sub_add_cancel]
      generalize nI q - nI 1 = z at e9 ⊢
      refine jw_iload_n (pc := 5) dX1_neighbour_5 rfl ?_
      refine jw_iload_n (pc := 6) dX1_neighbour_6 rfl ?_
      first | refine jx_icmp_ge (pc := 7) (tgt := 44) dX1_neighbour_7 (by decide) (by omega) (by omega) ?_ ?_ | refine jw_icmp_ge (pc := 7) (tgt := 44) dX1_neighbour_7 (by decide) ?_ ?_
      · intro h_7
        omega
      · intro h_7
        first | refine jx_iinc (pc := 10) dX1_neighbour_10 rfl rfl ?_ | refine jw_iinc (pc := 10) dX1_neighbour_10 rfl rfl rfl ?_
        try dsimp only [jput1, jkill, jclr, jis2_i, jis2_l, jis2_rs, jis2_rn, cond]
        rw [e9]
        refine jw_iload_n (pc := 13) dX1_neighbour_13 rfl ?_
        refine jw_aload_n (pc := 14) dX1_neighbour_14 rfl ?_
        refine jx_getRs (pc := 15) (jf_X1_109_0.r) rfl dX1_neighbour_15 rfl (is_64 hS) (by decide) (hs.r) ?_
        refine jx_getRs (pc := 18) jg_X1_418_5 rfl dX1_neighbour_18 rfl (vis hv) (by decide) (vr_1 hv) ?_
        refine jw_iload_n (pc := 21) dX1_neighbour_21 rfl ?_
        refine jx_aalds (pc := 22) (by decide) (by decide) dX1_neighbour_22 (vok_1 hv) (vnn_1 hv) rfl (by omega) (c1) ?_
        refine jx_getIs (pc := 23) (jf_X1_421_6.r) rfl dX1_neighbour_23 rfl (c2) (by decide) (c5) ?_
        refine jw_iload (pc := 26) dX1_neighbour_26 rfl ?_
        refine jx_cSE (mi1 := mi_X1_lies) (pc := 28) rfl dX1_neighbour_28 lk_X1_189 rfl fi_X1_lies (t_X1_lies (by omega) (by omega)) (by first | decide | omega) rfl rfl (by simp only [List.map_cons, List.map_nil, List.sum_cons, List.sum_nil, Value.category]; decide) ?_
        first | refine jx_ifb_eq (pc := 31) (tgt := 38) dX1_neighbour_31 (by decide) ?_ ?_ | refine jx_if_eq (pc := 31) (tgt := 38) dX1_neighbour_31 (by decide) (by omega) ?_ ?_ | refine jw_if_eq (pc := 31) (tgt := 38) dX1_neighbour_31 (by decide) ?_ ?_
        · intro h_31
          refine jw_iconst (pc := 38) dX1_neighbour_38 ic_0 ?_
          first | refine jx_iadd (pc := 39) dX1_neighbour_39 ?_ | refine jw_iadd (pc := 39) dX1_neighbour_39 ?_
          refine jw_istore_n (pc := 40) dX1_neighbour_40 (Nat.le_of_ble_eq_true rfl) rfl ?_
          try dsimp only [jput1, jput2, jkill, jclr, jis2_i, jis2_l, jis2_rs, jis2_rn, cond]
          refine jw_goto (pc := 41) (tgt := 5) dX1_neighbour_41 (by decide) ?_
          refine jW.eq ?_ rfl rfl (ih (q + 1) hkn (by omega))
          rw [hs1, h_31, sub1 (by omega)]; rfl
        · intro h_31
          refine jw_iconst (pc := 34) dX1_neighbour_34 ic_1 ?_
          refine jw_goto (pc := 35) (tgt := 39) dX1_neighbour_35 (by decide) ?_
          first | refine jx_iadd (pc := 39) dX1_neighbour_39 ?_ | refine jw_iadd (pc := 39) dX1_neighbour_39 ?_
          refine jw_istore_n (pc := 40) dX1_neighbour_40 (Nat.le_of_ble_eq_true rfl) rfl ?_
          try dsimp only [jput1, jput2, jkill, jclr, jis2_i, jis2_l, jis2_rs, jis2_rn, cond]
          refine jw_goto (pc := 41) (tgt := 5) dX1_neighbour_41 (by decide) ?_
          refine jW.eq ?_ rfl rfl (ih (q + 1) hkn (by omega))
          rw [hs1, h_31, sub1 (by omega)]; rfl
    · have hk' : q = nthB (V 3 a) k + 1 := by omega
      subst hk'
      have hs2 := cntN_s (V 3 a) (nthB (V 3 a) k)
      rw [n2, if_pos rfl] at hs2
      refine jw_iload_n (pc := 5) dX1_neighbour_5 rfl ?_
      refine jw_iload_n (pc := 6) dX1_neighbour_6 rfl ?_
      first | refine jx_icmp_ge (pc := 7) (tgt := 44) dX1_neighbour_7 (by decide) (by omega) (by omega) ?_ ?_ | refine jw_icmp_ge (pc := 7) (tgt := 44) dX1_neighbour_7 (by decide) ?_ ?_
      · intro h_7
        refine jw_iload (pc := 44) dX1_neighbour_44 rfl ?_
        refine jw_ireturn (pc := 46) dX1_neighbour_46 rfl (rfl) ?_
        refine ⟨?_, rfl⟩
        rw [sub1 (by omega)]; rfl
      · intro h_7
        omega
  refine jw_iconst (pc := 0) dX1_neighbour_0 ic_0 ?_
  refine jw_istore_n (pc := 1) dX1_neighbour_1 (Nat.le_of_ble_eq_true rfl) rfl ?_
  try dsimp only [jput1, jput2, jkill, jclr, jis2_i, jis2_l, jis2_rs, jis2_rn, cond]
  refine jw_iconst (pc := 2) dX1_neighbour_2 ic_m1 ?_
  refine jw_istore (pc := 3) dX1_neighbour_3 (Nat.le_of_ble_eq_true rfl) rfl ?_
  try dsimp only [jput1, jput2, jkill, jclr, jis2_i, jis2_l, jis2_rs, jis2_rn, cond]
  refine jW.eq ?_ rfl rfl (J 0 (Nat.zero_le _))
  rfl
theorem t_X1_drift (h : jXx M σ) : jT G mi_X1_drift 9 [jr (some 64)] M (jOx M (o_drift σ)) := by
  have hS := h.1
  refine jT.of (by decide) rfl (Nat.le_of_ble_eq_true rfl) ?_
  cases hv9 : sv σ with
  | none =>
    refine jw_aload_n (pc := 0) dX1_drift_0 rfl ?_
    refine jx_cVv (mi1 := mi_X1_anew) (pc := 1) rfl dX1_drift_1 lk_X1_84 rfl fi_X1_anew rfl rfl rfl (by decide) (is_64 hS) (t_X1_anew h) (by first | decide | omega) rfl rfl (by decide) ?_
    intro M_1 q_1
    obtain ⟨hX, hf⟩ := q_1
    have hS := hX.1
    refine jw_aload_n (pc := 4) dX1_drift_4 rfl ?_
    refine jx_getRs (pc := 5) (jf_X1_109_0.r) rfl dX1_drift_5 rfl (is_64 hS) (by decide) (hX.no hv9) ?_
    refine jw_ifnonnull (pc := 8) (tgt := 17) dX1_drift_8 (by decide) (fun ax h => by cases h) (fun h => ?_)
    clear h
    refine jw_aload_n (pc := 11) dX1_drift_11 rfl ?_
    refine jw_iconst (pc := 12) dX1_drift_12 ic_1 ?_
    refine jx_cVi (mi1 := mi_X1_no) (pc := 13) rfl dX1_drift_13 lk_X1_98 rfl fi_X1_no rfl rfl rfl (by decide) (is_64 hS) (t_X1_no hX (by decide)) (by first | decide | omega) rfl rfl (by decide) ?_
    intro x_13 M_13 q_13
    refine jw_ireturn (pc := 16) dX1_drift_16 rfl (rfl) ?_
    obtain ⟨e1, hX2, hf2⟩ := q_13
    have e : o_drift σ = (-1, sgT σ 1 (-1)) := by unfold o_drift; rw [hv9]
    rw [e]; exact ⟨_, rfl, e1, hX2, hf.tr hf2⟩
  | some V =>
    have hw9 := (h.2.1.2 V hv9).1
    have ht9 : drT σ < 100 := Nat.mod_lt _ (by decide)
    have hst := (h.2.1.2 V hv9).2.2.2.1
    have hn := wf_nq hw9
    have hnp := wf_np hw9
    have hp9 := p10 hnp
    have J : lawfulV V (sa σ 0) (sn σ 0) = true → ∀ x : Nat × Mm, (x.1 ≤ V 0 1 ∧ jXx x.2 (sgD (sgT σ 0 (-1)) (drT σ) (drK V (drT σ) (sn σ 1, sa σ 0, 0) x.1).1 (drK V (drT σ) (sn σ 1, sa σ 0, 0) x.1).2.1) ∧ jfx M x.2) → jW G mi_X1_drift 9 M 55 [some (jr (some 64)), some (.int (nI (drK V (drT σ) (sn σ 1, sa σ 0, 0) x.1).2.2)), some (.int (nI x.1)), none, none] [] x.2 (jOx M (o_drift σ)) := by
      intro hlaw
      refine jW.loop (σ := Nat × Mm) _ (fun x => V 0 1 - x.1) _ (fun _ => []) (fun x => x.2) (fun x hI ih => ?_)
      obtain ⟨p, M1⟩ := x
      obtain ⟨hp, hX, hf⟩ := hI
      dsimp only at hp hX hf ih ⊢
      have hS := hX.1
      have hc := drK_c V (drT σ) (sn σ 1, sa σ 0, 0) p
      by_cases hkn : p < V 0 1
      · have L164 : ∀ (y : Nat × (Nat → Nat) × Nat) (M' : Mm) (x3 x4 : Option Value), drP V (drT σ) (drK V (drT σ) (sn σ 1, sa σ 0, 0) p) p = y → jXx M' (sgD (sgT σ 0 (-1)) (drT σ) y.1 y.2.1) → jfx M M' → jW G mi_X1_drift 9 M 164 [some (jr (some 64)), some (.int (nI y.2.2)), some (.int (nI p)), x3, x4] [] M' (jOx M (o_drift σ)) := by
          intro y M' x3 x4 hy hX2 hf2
          have ih2 := ih (p + 1, M') ⟨hkn, by rw [drK_s, hy]; exact hX2, hf2⟩ (by dsimp only; omega)
          dsimp only at ih2
          rw [drK_s, hy] at ih2
          have hS := hX2.1
          first | refine jx_iinc (pc := 164) dX1_drift_164 rfl rfl ?_ | refine jw_iinc (pc := 164) dX1_drift_164 rfl rfl rfl ?_
          try dsimp only [jput1, jkill, jclr, jis2_i, jis2_l, jis2_rs, jis2_rn, cond]
          refine jw_goto (pc := 167) (tgt := 55) dX1_drift_167 (by decide) ?_
          refine jW.sub ?_ ih2
          exact ⟨rfl, rfl, rfl, trivial⟩
        generalize drK V (drT σ) (sn σ 1, sa σ 0, 0) p = x at hX hc L164 ⊢
        obtain ⟨s, a, c⟩ := x
        dsimp only at hX hc L164 ⊢
        obtain ⟨o1, o2, o3, o4, o5, o6⟩ := hX.2.1.2 V hv9
        have o2 : ∀ q, q < V 0 1 → a q < V 0 0 := o2
        have o5 : s < 65537 := o5
        have ha := o2 p hkn
        have h3 := (wf_pl hw9 ha).2.2.1
        have hsr : drS s < 65537 := Nat.mod_lt _ (by decide)
        have hcn := cnt_le (V 3 (a p))
        obtain ⟨v, hs, hN⟩ := hX.so hv9
        have hv := hs.s
        have hN1 : jm_I M1 64 14 = nI s := hN.2.1
        have hmod : drS s % (1 + cnt (V 3 (a p))) < 1 + cnt (V 3 (a p)) := Nat.mod_lt _ (by omega)
        refine jw_iload_n (pc := 55) dX1_drift_55 rfl ?_
        refine jw_aload_n (pc := 56) dX1_drift_56 rfl ?_
        refine jx_getRs (pc := 57) (jf_X1_109_0.r) rfl dX1_drift_57 rfl (is_64 hS) (by decide) (hs.r) ?_
        refine jx_getIs (pc := 60) (jf_X1_137_5.r) rfl dX1_drift_60 rfl (vis hv) (by decide) (xi_nq hs.V) ?_
        first | refine jx_icmp_ge (pc := 63) (tgt := 170) dX1_drift_63 (by decide) (by omega) (by omega) ?_ ?_ | refine jw_icmp_ge (pc := 63) (tgt := 170) dX1_drift_63 (by decide) ?_ ?_
        · intro h_63
          omega
        · intro h_63
          refine jw_aload_n (pc := 66) dX1_drift_66 rfl ?_
          refine jw_bipush (pc := 67) dX1_drift_67 bp_75 ?_
          refine jw_aload_n (pc := 69) dX1_drift_69 rfl ?_
          refine jx_getIs (pc := 70) (jf_X1_134_0.r) rfl dX1_drift_70 rfl (is_64 hS) (by decide) (hN1) ?_
          first | refine jx_imul (pc := 73) dX1_drift_73 ?_ | refine jw_imul (pc := 73) dX1_drift_73 ?_
          refine jw_bipush (pc := 74) dX1_drift_74 bp_74 ?_
          first | refine jx_iadd (pc := 76) dX1_drift_76 ?_ | refine jw_iadd (pc := 76) dX1_drift_76 ?_
          refine jw_ldcw (pc := 77) q1368 rfl (w := nI 65537) rfl dX1_drift_77 ?_
          refine jw_irem (pc := 80) dX1_drift_80 (by decide +kernel) ?_
          rw [i_rem (by omega) (by decide) (by decide), show (75 * s + 74) % 65537 = drS s from rfl]
          refine jx_putI (pc := 81) jf_X1_134_0 rfl dX1_drift_81 rfl rfl (is_64 hS) (by decide) ?_
          have hX2 := xseed hX hsr
          rw [sgD_N] at hX2
          have hf2 : jfx M (js_I M1 64 14 (nI (drS s))) := hf.tr (jsm.I (by decide))
          generalize js_I M1 64 14 (nI (drS s)) = M2 at hX2 hf2 ⊢
          clear hS hs hN hv hN1
          have hS := hX2.1
          obtain ⟨v, hs, hN⟩ := hX2.so hv9
          have hv := hs.s
          have hN1 : jm_I M2 64 14 = nI (drS s) := hN.2.1
          have hNa : jm_A M2 78 p = nI (a p) := hN.2.2.2.1 p hkn
          have hNt : jm_I M2 64 13 = nI (drT σ) := hN.1
          obtain ⟨pp, c1, c2, c3, c4, c5⟩ := pl_x hs.V ha
          refine jw_aload_n (pc := 84) dX1_drift_84 rfl ?_
          refine jx_getRs (pc := 85) (jf_X1_39_0.r) rfl dX1_drift_85 rfl (is_64 hS) (by decide) (sr_64_10 hS) ?_
          refine jw_iload_n (pc := 88) dX1_drift_88 rfl ?_
          refine jx_ialds (pc := 89) dX1_drift_89 (ok_78 hS) (nn_78 hS) rfl (by omega) (hNa) ?_
          refine jw_istore_n (pc := 90) dX1_drift_90 (Nat.le_of_ble_eq_true rfl) rfl ?_
          try dsimp only [jput1, jput2, jkill, jclr, jis2_i, jis2_l, jis2_rs, jis2_rn, cond]
          refine jw_aload_n (pc := 91) dX1_drift_91 rfl ?_
          refine jx_getIs (pc := 92) (jf_X1_134_0.r) rfl dX1_drift_92 rfl (is_64 hS) (by decide) (hN1) ?_
          refine jw_iconst (pc := 95) dX1_drift_95 ic_1 ?_
          refine jw_aload_n (pc := 96) dX1_drift_96 rfl ?_
          refine jx_getRs (pc := 97) (jf_X1_109_0.r) rfl dX1_drift_97 rfl (is_64 hS) (by decide) (hs.r) ?_
          refine jx_getRs (pc := 100) jg_X1_418_5 rfl dX1_drift_100 rfl (vis hv) (by decide) (vr_1 hv) ?_
          refine jw_iload_n (pc := 103) dX1_drift_103 rfl ?_
          refine jx_aalds (pc := 104) (by decide) (by decide) dX1_drift_104 (vok_1 hv) (vnn_1 hv) rfl (by omega) (c1) ?_
          refine jx_getIs (pc := 105) (jf_X1_421_6.r) rfl dX1_drift_105 rfl (c2) (by decide) (c5) ?_
          refine jx_cSE (mi1 := mi_X1_ones) (pc := 108) rfl dX1_drift_108 lk_X1_273 rfl fi_X1_ones (t_X1_ones (by omega)) (by first | decide | omega) rfl rfl (by simp only [List.map_cons, List.map_nil, List.sum_cons, List.sum_nil, Value.category]; decide) ?_
          first | refine jx_iadd (pc := 111) dX1_drift_111 ?_ | refine jw_iadd (pc := 111) dX1_drift_111 ?_
          refine jw_irem (pc := 112) dX1_drift_112 (ne_nI (by omega) (by omega)) ?_
          rw [i_rem (by omega) (by omega) (by omega)]
          refine jw_istore (pc := 113) dX1_drift_113 (Nat.le_of_ble_eq_true rfl) rfl ?_
          try dsimp only [jput1, jput2, jkill, jclr, jis2_i, jis2_l, jis2_rs, jis2_rn, cond]
          refine jw_iload (pc := 115) dX1_drift_115 rfl ?_
          refine jx_if_ne (pc := 117) (tgt := 123) dX1_drift_117 (by decide) (by omega) ?_ ?_
          · intro h_117
            refine jw_aload_n (pc := 123) dX1_drift_123 rfl ?_
            refine jx_getRs (pc := 124) (jf_X1_39_0.r) rfl dX1_drift_124 rfl (is_64 hS) (by decide) (sr_64_10 hS) ?_
            refine jw_iload_n (pc := 127) dX1_drift_127 rfl ?_
            refine jw_aload_n (pc := 128) dX1_drift_128 rfl ?_
            refine jw_iload_n (pc := 129) dX1_drift_129 rfl ?_
            refine jw_iload (pc := 130) dX1_drift_130 rfl ?_
            refine jx_cVE (mi1 := mi_X1_neighbour) (pc := 132) rfl dX1_drift_132 lk_X1_427 rfl fi_X1_neighbour rfl rfl rfl (by decide) (is_64 hS) (t_X1_neighbour hs ha (by omega) (by omega)) (by first | decide | omega) rfl rfl (by simp only [List.map_cons, List.map_nil, List.sum_cons, List.sum_nil, cat_i, cat_l, jr_cat]; decide) ?_
            refine jx_iast (pc := 135) dX1_drift_135 (by decide) (ok_78 hS) (nn_78 hS) rfl (by omega) ?_
            have hk0 : ¬ drN V s p a = 0 := h_117
            have hz : nthB (V 3 (a p)) (drN V s p a) < V 0 0 := bit_lt h3 (nth_ok _ (by omega) _ (by show drS s % _ ≤ _; omega) (by omega)).2.1
            have hX3 := xput1 (p := p) hX2 hv9 hz
            rw [sgD_A, show (fun q => if q = p then nthB (V 3 (a p)) (drN V s p a) else sa (sgD (sgT σ 0 (-1)) (drT σ) (drS s) a) 0 q) = drA V s p a from rfl] at hX3
            have hf3 : jfx M (js_A M2 78 p (nI (nthB (V 3 (a p)) (drN V s p a)))) := hf2.tr (jsm.A (by decide))
            have hNt3 : jm_I (js_A M2 78 p (nI (nthB (V 3 (a p)) (drN V s p a)))) 64 13 = nI (drT σ) := hNt
            rw [show drS s % (1 + cnt (V 3 (a p))) = drN V s p a from rfl]
            generalize js_A M2 78 p (nI (nthB (V 3 (a p)) (drN V s p a))) = M3 at hX3 hf3 hNt3 ⊢
            clear hS hs hN hv hN1
            have hS := hX3.1
            obtain ⟨v, hs, hN⟩ := hX3.so hv9
            have hv := hs.s
            refine jw_aload_n (pc := 136) dX1_drift_136 rfl ?_
            refine jw_aload_n (pc := 137) dX1_drift_137 rfl ?_
            refine jx_getRs (pc := 138) (jf_X1_39_0.r) rfl dX1_drift_138 rfl (is_64 hS) (by decide) (sr_64_10 hS) ?_
            refine jw_aload_n (pc := 141) dX1_drift_141 rfl ?_
            refine jx_getIs (pc := 142) (jf_X1_131_0.r) rfl dX1_drift_142 rfl (is_64 hS) (by decide) (hNt3) ?_
            refine jx_cVE (mi1 := mi_X1_isLawfulAt) (pc := 145) rfl dX1_drift_145 lk_X1_221 rfl fi_X1_isLawfulAt rfl rfl rfl (by decide) (is_64 hS) (t_X1_isLawfulAt (t := drT σ) (pl := drA V s p a) hs (r_at hS hX3.2.1 hv9 hN) (by omega)) (by first | decide | omega) rfl rfl (by decide) ?_
            first | refine jx_ifb_eq (pc := 148) (tgt := 157) dX1_drift_148 (by decide) ?_ ?_ | refine jx_if_eq (pc := 148) (tgt := 157) dX1_drift_148 (by decide) (by omega) ?_ ?_ | refine jw_if_eq (pc := 148) (tgt := 157) dX1_drift_148 (by decide) ?_ ?_
            · intro h_148
              refine jw_aload_n (pc := 157) dX1_drift_157 rfl ?_
              refine jx_getRs (pc := 158) (jf_X1_39_0.r) rfl dX1_drift_158 rfl (is_64 hS) (by decide) (sr_64_10 hS) ?_
              refine jw_iload_n (pc := 161) dX1_drift_161 rfl ?_
              refine jw_iload_n (pc := 162) dX1_drift_162 rfl ?_
              refine jx_iast (pc := 163) dX1_drift_163 (by decide) (ok_78 hS) (nn_78 hS) rfl (by omega) ?_
              first
                | exact L164 (drS s, a, c) _ _ _ (drP_0 h_117) hX2 hf2
                | exact L164 (drS s, drA V s p a, c + 1) _ _ _ (drP_1 hk0 h_148) hX3 hf3
                | (have hX4 := xput1 (p := p) hX3 hv9 ha
                   rw [sgD_A, show (fun q => if q = p then a p else sa (sgD (sgT σ 0 (-1)) (drT σ) (drS s) (drA V s p a)) 0 q) = a from drA_back] at hX4
                   exact L164 (drS s, a, c) _ _ _ (drP_2 hk0 h_148) hX4 (hf3.tr (jsm.A (by decide))))
            · intro h_148
              first | refine jx_iinc (pc := 151) dX1_drift_151 rfl rfl ?_ | refine jw_iinc (pc := 151) dX1_drift_151 rfl rfl rfl ?_
              try dsimp only [jput1, jkill, jclr, jis2_i, jis2_l, jis2_rs, jis2_rn, cond]
              refine jw_goto (pc := 154) (tgt := 164) dX1_drift_154 (by decide) ?_
              first
                | exact L164 (drS s, a, c) _ _ _ (drP_0 h_117) hX2 hf2
                | exact L164 (drS s, drA V s p a, c + 1) _ _ _ (drP_1 hk0 h_148) hX3 hf3
                | (have hX4 := xput1 (p := p) hX3 hv9 ha
                   rw [sgD_A, show (fun q => if q = p then a p else sa (sgD (sgT σ 0 (-1)) (drT σ) (drS s) (drA V s p a)) 0 q) = a from drA_back] at hX4
                   exact L164 (drS s, a, c) _ _ _ (drP_2 hk0 h_148) hX4 (hf3.tr (jsm.A (by decide))))
          · intro h_117
            refine jw_goto (pc := 120) (tgt := 164) dX1_drift_120 (by decide) ?_
            first
              | exact L164 (drS s, a, c) _ _ _ (drP_0 h_117) hX2 hf2
              | exact L164 (drS s, drA V s p a, c + 1) _ _ _ (drP_1 hk0 h_148) hX3 hf3
              | (have hX4 := xput1 (p := p) hX3 hv9 ha
                 rw [sgD_A, show (fun q => if q = p then a p else sa (sgD (sgT σ 0 (-1)) (drT σ) (drS s) (drA V s p a)) 0 q) = a from drA_back] at hX4
                 exact L164 (drS s, a, c) _ _ _ (drP_2 hk0 h_148) hX4 (hf3.tr (jsm.A (by decide))))
      · have hk' : p = V 0 1 := by omega
        subst hk'
        obtain ⟨v, hs, hN⟩ := hX.so hv9
        have hv := hs.s
        refine jw_iload_n (pc := 55) dX1_drift_55 rfl ?_
        refine jw_aload_n (pc := 56) dX1_drift_56 rfl ?_
        refine jx_getRs (pc := 57) (jf_X1_109_0.r) rfl dX1_drift_57 rfl (is_64 hS) (by decide) (hs.r) ?_
        refine jx_getIs (pc := 60) (jf_X1_137_5.r) rfl dX1_drift_60 rfl (vis hv) (by decide) (xi_nq hs.V) ?_
        first | refine jx_icmp_ge (pc := 63) (tgt := 170) dX1_drift_63 (by decide) (by omega) (by omega) ?_ ?_ | refine jw_icmp_ge (pc := 63) (tgt := 170) dX1_drift_63 (by decide) ?_ ?_
        · intro h_63
          refine jw_iload_n (pc := 170) dX1_drift_170 rfl ?_
          refine jw_ireturn (pc := 171) dX1_drift_171 rfl (rfl) ?_
          have e : o_drift σ = (nI (drR V σ).2.2, sgD (sgT σ 0 (-1)) (drT σ) (drR V σ).1 (drR V σ).2.1) := by unfold o_drift; rw [hv9]; simp only [hlaw]; rfl
          rw [e]; exact ⟨_, rfl, rfl, hX, hf⟩
        · intro h_63
          omega
    refine jw_aload_n (pc := 0) dX1_drift_0 rfl ?_
    refine jx_cVv (mi1 := mi_X1_anew) (pc := 1) rfl dX1_drift_1 lk_X1_84 rfl fi_X1_anew rfl rfl rfl (by decide) (is_64 hS) (t_X1_anew h) (by first | decide | omega) rfl rfl (by decide) ?_
    intro M_1 q_1
    obtain ⟨hX, hf⟩ := q_1
    have hS := hX.1
    obtain ⟨v, hs, hN⟩ := hX.so hv9
    have hv := hs.s
    refine jw_aload_n (pc := 4) dX1_drift_4 rfl ?_
    refine jx_getRs (pc := 5) (jf_X1_109_0.r) rfl dX1_drift_5 rfl (is_64 hS) (by decide) (hs.r) ?_
    refine jw_ifnonnull (pc := 8) (tgt := 17) dX1_drift_8 (by decide) (fun ax h => ?_) (fun h => by cases h)
    clear h
    refine jw_aload_n (pc := 17) dX1_drift_17 rfl ?_
    refine jw_aload_n (pc := 18) dX1_drift_18 rfl ?_
    refine jx_getRs (pc := 19) (jf_X1_39_0.r) rfl dX1_drift_19 rfl (is_64 hS) (by decide) (sr_64_10 hS) ?_
    refine jw_aload_n (pc := 22) dX1_drift_22 rfl ?_
    refine jx_getIs (pc := 23) (jf_X1_131_0.r) rfl dX1_drift_23 rfl (is_64 hS) (by decide) (hN.1) ?_
    refine jx_cVE (mi1 := mi_X1_isLawfulAt) (pc := 26) rfl dX1_drift_26 lk_X1_221 rfl fi_X1_isLawfulAt rfl rfl rfl (by decide) (is_64 hS) (t_X1_isLawfulAt (t := sn σ 0) (pl := sa σ 0) hs (r_at hS hX.2.1 hv9 hN) (by omega)) (by first | decide | omega) rfl rfl (by decide) ?_
    first | refine jx_ifb_ne (pc := 29) (tgt := 38) dX1_drift_29 (by decide) ?_ ?_ | refine jx_if_ne (pc := 29) (tgt := 38) dX1_drift_29 (by decide) (by omega) ?_ ?_ | refine jw_if_ne (pc := 29) (tgt := 38) dX1_drift_29 (by decide) ?_ ?_
    · intro h_29
      refine jw_aload_n (pc := 38) dX1_drift_38 rfl ?_
      refine jw_aload_n (pc := 39) dX1_drift_39 rfl ?_
      refine jx_getIs (pc := 40) (jf_X1_131_0.r) rfl dX1_drift_40 rfl (is_64 hS) (by decide) (hN.1) ?_
      refine jw_iconst (pc := 43) dX1_drift_43 ic_1 ?_
      first | refine jx_iadd (pc := 44) dX1_drift_44 ?_ | refine jw_iadd (pc := 44) dX1_drift_44 ?_
      refine jw_bipush (pc := 45) dX1_drift_45 bp_100 ?_
      refine jw_irem (pc := 47) dX1_drift_47 (by decide +kernel) ?_
      rw [show sn (sgT σ 0 (-1)) 0 = sn σ 0 from rfl, i_rem (by omega) (by decide) (by decide), show (sn σ 0 + 1) % 100 = drT σ from rfl]
      refine jx_putI (pc := 48) jf_X1_131_0 rfl dX1_drift_48 rfl rfl (is_64 hS) (by decide) ?_
      have hX2 := xstep hX ht9
      rw [sgD_0] at hX2
      have hf2 : jfx M (js_I M_1 64 13 (nI (drT σ))) := hf.tr (jsm.I (by decide))
      generalize js_I M_1 64 13 (nI (drT σ)) = M2 at hX2 hf2 ⊢
      clear hS
      have hS := hX2.1
      refine jw_iconst (pc := 51) dX1_drift_51 ic_0 ?_
      refine jw_istore_n (pc := 52) dX1_drift_52 (Nat.le_of_ble_eq_true rfl) rfl ?_
      try dsimp only [jput1, jput2, jkill, jclr, jis2_i, jis2_l, jis2_rs, jis2_rn, cond]
      refine jw_iconst (pc := 53) dX1_drift_53 ic_0 ?_
      refine jw_istore_n (pc := 54) dX1_drift_54 (Nat.le_of_ble_eq_true rfl) rfl ?_
      try dsimp only [jput1, jput2, jkill, jclr, jis2_i, jis2_l, jis2_rs, jis2_rn, cond]
      refine jW.sub ?_ (J h_29 (0, M2) ⟨Nat.zero_le _, hX2, hf2⟩)
      exact ⟨rfl, rfl, rfl, trivial⟩
    · intro h_29
      refine jw_aload_n (pc := 32) dX1_drift_32 rfl ?_
      refine jw_iconst (pc := 33) dX1_drift_33 ic_5 ?_
      refine jx_cVi (mi1 := mi_X1_no) (pc := 34) rfl dX1_drift_34 lk_X1_98 rfl fi_X1_no rfl rfl rfl (by decide) (is_64 hS) (t_X1_no hX (by decide)) (by first | decide | omega) rfl rfl (by decide) ?_
      intro x_34 M_34 q_34
      refine jw_ireturn (pc := 37) dX1_drift_37 rfl (rfl) ?_
      obtain ⟨e1, hX2, hf2⟩ := q_34
      have e : o_drift σ = (-1, sgT σ 5 (-1)) := by unfold o_drift; rw [hv9]; simp only [h_29]; rfl
      rw [e]; exact ⟨_, rfl, e1, hX2, hf.tr hf2⟩
end JDR
