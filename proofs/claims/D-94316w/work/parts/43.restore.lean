/-! ===== restore ===== -/
theorem nI_nn {n : Nat} (h : n < 2 ^ 31) : ¬ nI n < 0 := fun q => by
  have e := Int32.lt_iff_toInt_lt.mp q
  rw [nI_toInt h] at e
  have : (0 : Int32).toInt = 0 := rfl
  omega
theorem cmp_ge {x y : Int64} : 0 ≤ lg_cmp x y ↔ ¬ x < y := by
  unfold lg_cmp
  by_cases h1 : x > y
  · rw [if_pos h1]
    refine ⟨fun _ q => ?_, fun _ => by decide⟩
    have a := Int64.lt_iff_toInt_lt.mp h1
    have b := Int64.lt_iff_toInt_lt.mp q
    omega
  · rw [if_neg h1]
    by_cases h2 : x = y
    · rw [if_pos h2]
      refine ⟨fun _ q => ?_, fun _ => by decide⟩
      have b := Int64.lt_iff_toInt_lt.mp q
      rw [h2] at b; omega
    · rw [if_neg h2]
      refine ⟨fun q => absurd q (by decide), fun q => absurd ?_ h2⟩
      have a : ¬ y.toInt < x.toInt := fun e => h1 (Int64.lt_iff_toInt_lt.mpr e)
      have b : ¬ x.toInt < y.toInt := fun e => q (Int64.lt_iff_toInt_lt.mpr e)
      exact Int64.toInt_inj.mp (by omega)
theorem cmp_lt {x y : Int64} : lg_cmp x y < 0 ↔ x < y := by
  have h := cmp_ge (x := x) (y := y)
  constructor
  · intro q
    refine Classical.byContradiction (fun c => ?_)
    exact absurd (h.mpr c) (i_nle.mpr q)
  · intro q
    exact i_nle.mp (fun c => h.mp c q)
def uL (x : Int64) : Nat := x.toInt.toNat
theorem uL_n {n : Nat} (h : n < 2 ^ 63) : uL (lN n) = n := by unfold uL; rw [pk_lT h]; rfl
def digR (V : Vt) (n i : Nat) : Bool := decide (n / 10 ^ i % 10 < V 0 0)
def resA (V : Vt) (n p : Nat) : Nat := n / 10 ^ (V 0 1 - 1 - p) % 10
def resL (V : Vt) (n : Nat) : Nat := n / 10 ^ V 0 1
def o_restore (σ : Sg) (x : Int64) : Int32 × Sg := match sv σ with
  | none => (0, sgT σ 1 (-1))
  | some V => if x < 0 then (0, sgT σ 2 (-1)) else if allB (V 0 1) (digR V (uL x)) && decide (resL V (uL x) / 100 < 65537) then (1, sgD (sgT σ 0 (-1)) (resL V (uL x) % 100) (resL V (uL x) / 100) (resA V (uL x))) else (0, sgT σ 2 (-1))
theorem dv10 (n j : Nat) : n / 10 ^ j / 10 = n / 10 ^ (j + 1) := by rw [Nat.div_div_eq_div_mul, Nat.pow_succ]
theorem ores_2 {σ : Sg} {V : Vt} {n : Nat} (hv9 : sv σ = some V) (hn : n < 2 ^ 63) (h : (allB (V 0 1) (digR V n) && decide (resL V n / 100 < 65537)) = false) : o_restore σ (lN n) = (0, sgT σ 2 (-1)) := by
  have hnn : ¬ lN n < 0 := fun q => by have e := Int64.lt_iff_toInt_lt.mp q; rw [pk_lT hn] at e; have : (0 : Int64).toInt = 0 := rfl; omega
  unfold o_restore
  rw [hv9]
  show (if lN n < 0 then _ else if (allB (V 0 1) (digR V (uL (lN n))) && decide (resL V (uL (lN n)) / 100 < 65537)) = true then _ else _) = _
  rw [if_neg hnn, uL_n hn, h]; rfl
theorem ores_1 {σ : Sg} {V : Vt} {n : Nat} (hv9 : sv σ = some V) (hn : n < 2 ^ 63) (h : (allB (V 0 1) (digR V n) && decide (resL V n / 100 < 65537)) = true) : o_restore σ (lN n) = (1, sgD (sgT σ 0 (-1)) (resL V n % 100) (resL V n / 100) (resA V n)) := by
  have hnn : ¬ lN n < 0 := fun q => by have e := Int64.lt_iff_toInt_lt.mp q; rw [pk_lT hn] at e; have : (0 : Int64).toInt = 0 := rfl; omega
  unfold o_restore
  rw [hv9]
  show (if lN n < 0 then _ else if (allB (V 0 1) (digR V (uL (lN n))) && decide (resL V (uL (lN n)) / 100 < 65537)) = true then _ else _) = _
  rw [if_neg hnn, uL_n hn, h]; rfl
theorem ores_n {σ : Sg} {V : Vt} {x : Int64} (hv9 : sv σ = some V) (h : x < 0) : o_restore σ x = (0, sgT σ 2 (-1)) := by
  unfold o_restore
  rw [hv9]
  exact if_pos h
theorem zdec {a : Nat} (h : 1 ≤ a) : nI a - nI 1 + Int32.ofInt (-1) = nI (a - 1) - nI 1 := by
  rw [sub1 h, show Int32.ofInt (-1) = -nI 1 by decide +kernel, ← Int32.sub_eq_add_neg]
theorem xyes {M : Mm} {σ : Sg} {why : Int32} (h : jXx M σ) (hy : why ≠ 4) : jXx (js_I (js_I (js_I M 64 4 (nI 0)) 64 6 (-1)) 64 4 why) (sgT σ why (-1)) := by
  obtain ⟨h3, h4, h5, h6, h7⟩ := h.2.2.1
  exact h.up (E := fun a => a = 64) (((jsm.I (E := fun a => a = 64) rfl).tr (jsm.I rfl)).tr (jsm.I rfl)) h.1 (fun a q1 q2 => by omega) (h.2.1.T _ _) rfl rfl rfl ⟨h3, rfl, h5, fun q => absurd q hy, fun q => rfl⟩ (fun V hV q => q)
theorem fyes {M : Mm} {why : Int32} : jfx M (js_I (js_I (js_I M 64 4 (nI 0)) 64 6 (-1)) 64 4 why) := ((jsm.I (by decide)).tr (jsm.I (by decide))).tr (jsm.I (by decide))
section JRS
variable {G : Gh} {M : Mm} {σ : Sg}
theorem t_X1_anewE (hS : jSh M) : jE G mi_X1_anew 1 [jr (some 64)] M none (js_I (js_I M 64 4 (nI 0)) 64 6 (-1)) := by
  refine jE.of (by decide) rfl (Nat.le_of_ble_eq_true rfl) ?_
  refine jw_aload_n (pc := 0) dX1_anew_0 rfl ?_
  refine jw_iconst (pc := 1) dX1_anew_1 ic_0 ?_
  refine jx_putI (pc := 2) jf_X1_81_0 rfl dX1_anew_2 rfl rfl (is_64 hS) (by decide) ?_
  refine jw_aload_n (pc := 5) dX1_anew_5 rfl ?_
  refine jw_iconst (pc := 6) dX1_anew_6 ic_m1 ?_
  refine jx_putI (pc := 7) jf_X1_22_0 rfl dX1_anew_7 rfl rfl (is_64 hS) (by decide) ?_
  refine jw_return (pc := 10) dX1_anew_10 rfl ?_
  exact ⟨rfl, rfl⟩
theorem t_X1_yesE {why : Int32} (hS : jSh M) : jE G mi_X1_yes 2 [jr (some 64), .int why] M (some (.int (jb (decide (why = 0))))) (js_I (js_I (js_I M 64 4 (nI 0)) 64 6 (-1)) 64 4 why) := by
  refine jE.of (by decide) rfl (Nat.le_of_ble_eq_true rfl) ?_
  refine jw_aload_n (pc := 0) dX1_yes_0 rfl ?_
  refine jx_cVEv (mi1 := mi_X1_anew) (pc := 1) rfl dX1_yes_1 lk_X1_84 rfl fi_X1_anew rfl rfl rfl (by decide) (is_64 hS) (t_X1_anewE hS) (by first | decide | omega) rfl rfl (by decide) ?_
  refine jw_aload_n (pc := 4) dX1_yes_4 rfl ?_
  refine jw_iload_n (pc := 5) dX1_yes_5 rfl ?_
  refine jx_putI (pc := 6) jf_X1_81_0 rfl dX1_yes_6 rfl rfl (is_64 hS) (by decide) ?_
  refine jw_iload_n (pc := 9) dX1_yes_9 rfl ?_
  refine jw_if_ne (pc := 10) (tgt := 17) dX1_yes_10 (by decide) ?_ ?_
  · intro h_10
    refine jw_iconst (pc := 17) dX1_yes_17 ic_0 ?_
    refine jw_ireturn (pc := 18) dX1_yes_18 rfl (by first | exact jnar_b _ | exact jnar_0 | exact jnar_1 | decide +kernel) ?_
    refine ⟨jret_f ?_, rfl⟩
    exact decide_eq_false h_10
  · intro h_10
    refine jw_iconst (pc := 13) dX1_yes_13 ic_1 ?_
    refine jw_goto (pc := 14) (tgt := 18) dX1_yes_14 (by decide) ?_
    refine jw_ireturn (pc := 18) dX1_yes_18 rfl (by first | exact jnar_b _ | exact jnar_0 | exact jnar_1 | decide +kernel) ?_
    refine ⟨jret_t ?_, rfl⟩
    exact decide_eq_true h_10
theorem lp_ry2 {M9 : Mm} {P : Rs → Mm → Prop} {x1 x2 x3 x4 x5 x6 : Option Value} {τ : Sg} (hX : jXx M τ) (h : ∀ M', jXx M' (sgT τ 2 (-1)) → jfx M M' → P (.inl (some (.int 0))) M') : jW G mi_X1_restore 9 M9 129 [some (jr (some 64)), x1, x2, x3, x4, x5, x6] [.int (nI 2), jr (some 64)] M P := by
  have hS := hX.1
  refine jx_cVE (mi1 := mi_X1_yes) (pc := 129) rfl dX1_restore_129 lk_X1_218 rfl fi_X1_yes rfl rfl rfl (by decide) (is_64 hS) (t_X1_yesE hS) (by first | decide | omega) rfl rfl (by decide) ?_
  first | refine jx_ifb_ne (pc := 132) (tgt := 137) dX1_restore_132 (by decide) ?_ ?_ | refine jx_if_ne (pc := 132) (tgt := 137) dX1_restore_132 (by decide) (by omega) ?_ ?_ | refine jw_if_ne (pc := 132) (tgt := 137) dX1_restore_132 (by decide) ?_ ?_
  · intro h_132
    exact absurd h_132 (by decide +kernel)
  · intro h_132
    refine jw_iconst (pc := 135) dX1_restore_135 ic_0 ?_
    refine jw_ireturn (pc := 136) dX1_restore_136 rfl (by first | exact jnar_b _ | exact jnar_0 | exact jnar_1 | decide +kernel) ?_
    exact h _ (xyes hX (by decide)) fyes
theorem lp_ry0 {M9 : Mm} {n : Nat} {V : Vt} {P : Rs → Mm → Prop} {x1 x2 x5 x6 : Option Value} {τ : Sg} (hX : jXx M τ) (hv9 : sv τ = some V) (hn : n < 2 ^ 63) (hl : n / 100 < 65537) {f : Nat → Nat} (hf9 : ∀ p, p < V 0 1 → jm_A M 79 p = nI (f p) ∧ f p < V 0 0) (h : ∀ M', jXx M' (sgD (sgT τ 0 (-1)) (n % 100) (n / 100) f) → jfx M M' → P (.inl (some (.int 1))) M') : jW G mi_X1_restore 9 M9 129 [some (jr (some 64)), x1, x2, some (.long (lN n)), none, x5, x6] [.int (nI 0), jr (some 64)] M P := by
  have hS := hX.1
  have hnq := wf_nq (hX.2.1.2 V hv9).1
  have ht : n % 100 < 100 := Nat.mod_lt _ (by decide)
  refine jx_cVE (mi1 := mi_X1_yes) (pc := 129) rfl dX1_restore_129 lk_X1_218 rfl fi_X1_yes rfl rfl rfl (by decide) (is_64 hS) (t_X1_yesE hS) (by first | decide | omega) rfl rfl (by decide) ?_
  first | refine jx_ifb_ne (pc := 132) (tgt := 137) dX1_restore_132 (by decide) ?_ ?_ | refine jx_if_ne (pc := 132) (tgt := 137) dX1_restore_132 (by decide) (by omega) ?_ ?_ | refine jw_if_ne (pc := 132) (tgt := 137) dX1_restore_132 (by decide) ?_ ?_
  · intro h_132
    refine jw_aload_n (pc := 137) dX1_restore_137 rfl ?_
    refine jw_lload_n (pc := 138) dX1_restore_138 rfl ?_
    refine jw_ldc2 (pc := 139) q1377 rfl dX1_restore_139 ?_
    refine jw_lrem (pc := 142) dX1_restore_142 (by decide +kernel) ?_
    rw [show (100 : Int64) = lN 100 from rfl, pk_lRem hn (by decide) (by decide)]
    refine jw_l2i (pc := 143) dX1_restore_143 (lN_i _) ?_
    refine jx_putI (pc := 144) jf_X1_131_0 rfl dX1_restore_144 rfl rfl (is_64 hS) (by decide) ?_
    refine jw_aload_n (pc := 147) dX1_restore_147 rfl ?_
    refine jw_lload_n (pc := 148) dX1_restore_148 rfl ?_
    refine jw_ldc2 (pc := 149) q1377 rfl dX1_restore_149 ?_
    refine jw_ldiv (pc := 152) dX1_restore_152 (by decide +kernel) ?_
    rw [show (100 : Int64) = lN 100 from rfl, pk_lDiv hn (by decide) (by decide)]
    refine jw_l2i (pc := 153) dX1_restore_153 (lN_i _) ?_
    refine jx_putI (pc := 154) jf_X1_134_0 rfl dX1_restore_154 rfl rfl (is_64 hS) (by decide) ?_
    have hX3 := xseed (xstep (xyes (why := nI 0) hX (by decide)) ht) hl
    rw [sgD_0, sgD_N] at hX3
    have hf3 : jfx M (js_I (js_I (js_I (js_I (js_I M 64 4 (nI 0)) 64 6 (-1)) 64 4 (nI 0)) 64 13 (nI (n % 100))) 64 14 (nI (n / 100))) := (fyes.tr (jsm.I (by decide))).tr (jsm.I (by decide))
    have ha3 : ∀ p, p < V 0 1 → jm_A (js_I (js_I (js_I (js_I (js_I M 64 4 (nI 0)) 64 6 (-1)) 64 4 (nI 0)) 64 13 (nI (n % 100))) 64 14 (nI (n / 100))) 79 p = nI (f p) ∧ f p < V 0 0 := hf9
    generalize js_I (js_I (js_I (js_I (js_I M 64 4 (nI 0)) 64 6 (-1)) 64 4 (nI 0)) 64 13 (nI (n % 100))) 64 14 (nI (n / 100)) = M3 at hX3 hf3 ha3 ⊢
    clear hS
    have hS := hX3.1
    obtain ⟨v, hs, hN⟩ := hX3.so hv9
    have hv := hs.s
    refine jw_aload_n (pc := 157) dX1_restore_157 rfl ?_
    refine jx_getRs (pc := 158) (jf_X1_43_0.r) rfl dX1_restore_158 rfl (is_64 hS) (by decide) (sr_64_11 hS) ?_
    refine jw_iconst (pc := 161) dX1_restore_161 ic_0 ?_
    refine jw_aload_n (pc := 162) dX1_restore_162 rfl ?_
    refine jx_getRs (pc := 163) (jf_X1_39_0.r) rfl dX1_restore_163 rfl (is_64 hS) (by decide) (sr_64_10 hS) ?_
    refine jw_iconst (pc := 166) dX1_restore_166 ic_0 ?_
    refine jw_aload_n (pc := 167) dX1_restore_167 rfl ?_
    refine jx_getRs (pc := 168) (jf_X1_109_0.r) rfl dX1_restore_168 rfl (is_64 hS) (by decide) (hs.r) ?_
    refine jx_getIs (pc := 171) (jf_X1_137_5.r) rfl dX1_restore_171 rfl (vis hv) (by decide) (xi_nq hs.V) ?_
    refine jw_copy (t := 0) (i' := 0) (j' := 0) (n' := V 0 1) (a := 79) (b := 78) (pc := 174) rfl q1265 q1267 q1266 q175 dX1_restore_174 rfl rfl (by decide) (by decide) (ok_79 hS) (ok_78 hS) rfl rfl rfl (by rw [nn_79 hS]; omega) (by rw [nn_78 hS]; omega) (fun ty hty k _ => by cases hty; rfl) (by decide) (by decide) ?_
    refine jw_iconst (pc := 177) dX1_restore_177 ic_1 ?_
    refine jw_ireturn (pc := 178) dX1_restore_178 rfl (by first | exact jnar_b _ | exact jnar_0 | exact jnar_1 | decide +kernel) ?_
    have hX4 := xput (f := f) hX3 (M1 := js_As M3 78 (fun q => if 0 ≤ q ∧ q < 0 + V 0 1 then jm_A M3 79 (0 + (q - 0)) else jm_A M3 78 q)) (jsm.As rfl) hS (fun _ => rfl) (fun _ => rfl) (fun k => jA_rn (by decide)) (fun k => jA_rn (by decide)) (fun W hW p hp => by
      have e : W = V := Option.some.inj ((show sv τ = some W from hW).symm.trans hv9)
      subst e
      rw [jA_rd, if_pos ⟨Nat.zero_le _, by omega⟩, Nat.zero_add, Nat.sub_zero]
      exact ha3 p hp)
    rw [sgD_A] at hX4
    exact h _ hX4 (hf3.tr (jsm.As (by decide)))
  · intro h_132
    exact absurd h_132 (by decide +kernel)
theorem lp_rj98 {M9 M2 : Mm} {q : Nat} {z : Int32} {P : Rs → Mm → Prop} {x1 : Value} {l : Int64} {b1 b2 : Bool} (hj : 1 ≤ q) (hq : q ≤ 5) (hz : z = nI q - nI 1) (ih : jW G mi_X1_restore 9 M9 47 [some (jr (some 64)), some x1, none, some (.long l), none, some (.int (jb b2)), some (.int (nI (q - 1) - nI 1))] [] M2 P) : jW G mi_X1_restore 9 M9 98 [some (jr (some 64)), some x1, none, some (.long l), none, some (.int (jb b1)), some (.int z)] [.int (jb b2)] M2 P := by
  subst hz
  have e := zdec hj
  generalize nI q - nI 1 = z at e ⊢
  refine jw_istore (pc := 98) dX1_restore_98 (Nat.le_of_ble_eq_true rfl) rfl ?_
  try dsimp only [jput1, jput2, jkill, jclr, jis2_i, jis2_l, jis2_rs, jis2_rn, cond]
  refine jw_iinc (pc := 100) dX1_restore_100 rfl rfl rfl ?_
  try dsimp only [jput1, jkill, jclr, jis2_i, jis2_l, jis2_rs, jis2_rn, cond]
  refine jw_goto (pc := 103) (tgt := 47) dX1_restore_103 (by decide) ?_
  refine jW.eq ?_ rfl rfl ih
  rw [e]
theorem lp_rloop {M9 M0 : Mm} {n : Nat} {V : Vt} {τ : Sg} {P : Rs → Mm → Prop} {x1 : Value} (hv9 : sv τ = some V) (hn : n < 2 ^ 63)
    (h1 : ∀ M', jXx M' τ → jfx M0 M' → (∀ p, p < V 0 1 → jm_A M' 79 p = nI (resA V n p)) → jW G mi_X1_restore 9 M9 106 [some (jr (some 64)), some x1, none, some (.long (lN (resL V n))), none, some (.int (jb (allB (V 0 1) (digR V n)))), none] [] M' P) :
    ∀ x : Nat × Mm, (x.1 ≤ V 0 1 ∧ jXx x.2 τ ∧ jfx M0 x.2 ∧ ∀ p, p < V 0 1 → V 0 1 - x.1 ≤ p → jm_A x.2 79 p = nI (resA V n p)) → jW G mi_X1_restore 9 M9 47 [some (jr (some 64)), some x1, none, some (.long (lN (n / 10 ^ x.1))), none, some (.int (jb (allB x.1 (digR V n)))), some (.int (nI (V 0 1 - x.1) - nI 1))] [] x.2 P := by
  refine jW.loop (σ := Nat × Mm) _ (fun x => V 0 1 - x.1) _ (fun _ => []) (fun x => x.2) (fun x hI ih => ?_)
  obtain ⟨j, M1⟩ := x
  obtain ⟨hj, hX, hf, ha⟩ := hI
  dsimp only at hj hX hf ha ih ⊢
  have hS := hX.1
  obtain ⟨v, hs, hN⟩ := hX.so hv9
  have hv := hs.s
  have hnq := wf_nq hs.w
  have hnp := wf_np hs.w
  have hl : n / 10 ^ j < 2 ^ 63 := Nat.lt_of_le_of_lt (Nat.div_le_self _ _) hn
  by_cases hkn : j < V 0 1
  · have hdl : n / 10 ^ j % 10 < 10 := Nat.mod_lt _ (by decide)
    have er : resA V n (V 0 1 - j - 1) = n / 10 ^ j % 10 := by unfold resA; rw [show V 0 1 - 1 - (V 0 1 - j - 1) = j by omega]
    have hX2 : jXx (js_A M1 79 (V 0 1 - j - 1) (nI (n / 10 ^ j % 10))) τ := xA hX (by unfold xsa; omega)
    have hf2 : jfx M0 (js_A M1 79 (V 0 1 - j - 1) (nI (n / 10 ^ j % 10))) := hf.tr (jsm.A (by decide))
    have ha2 : ∀ p, p < V 0 1 → V 0 1 - (j + 1) ≤ p → jm_A (js_A M1 79 (V 0 1 - j - 1) (nI (n / 10 ^ j % 10))) 79 p = nI (resA V n p) := fun p hp hp2 => by
      by_cases e : p = V 0 1 - j - 1
      · subst e; rw [jA_same, er]
      · exact (jA_oth e).trans (ha p hp (by omega))
    have ih2 := ih (j + 1, js_A M1 79 (V 0 1 - j - 1) (nI (n / 10 ^ j % 10))) ⟨hkn, hX2, hf2, ha2⟩ (by dsimp only; omega)
    dsimp only at ih2
    rw [show V 0 1 - (j + 1) = V 0 1 - j - 1 by omega, ← dv10] at ih2
    rw [sub1 (show 1 ≤ V 0 1 - j by omega)]
    refine jw_iload (pc := 47) dX1_restore_47 rfl ?_
    refine jw_if_lt (pc := 49) (tgt := 106) dX1_restore_49 (by decide) ?_ ?_
    · intro h_49
      exact absurd h_49 (nI_nn (by omega))
    · intro h_49
      refine jw_aload_n (pc := 52) dX1_restore_52 rfl ?_
      refine jx_getRs (pc := 53) (jf_X1_43_0.r) rfl dX1_restore_53 rfl (is_64 hS) (by decide) (sr_64_11 hS) ?_
      refine jw_iload (pc := 56) dX1_restore_56 rfl ?_
      refine jw_lload_n (pc := 58) dX1_restore_58 rfl ?_
      refine jw_ldc2 (pc := 59) q1378 rfl dX1_restore_59 ?_
      refine jw_lrem (pc := 62) dX1_restore_62 (by decide +kernel) ?_
      rw [show (10 : Int64) = lN 10 from rfl, pk_lRem hl (by decide) (by decide)]
      refine jw_l2i (pc := 63) dX1_restore_63 (lN_i _) ?_
      refine jx_iast (pc := 64) dX1_restore_64 (by decide) (ok_79 hS) (nn_79 hS) rfl (by omega) ?_
      obtain ⟨v, hs, hN⟩ := hX2.so hv9
      have hv := hs.s
      refine jw_lload_n (pc := 65) dX1_restore_65 rfl ?_
      refine jw_ldc2 (pc := 66) q1378 rfl dX1_restore_66 ?_
      refine jw_ldiv (pc := 69) dX1_restore_69 (by decide +kernel) ?_
      rw [show (10 : Int64) = lN 10 from rfl, pk_lDiv hl (by decide) (by decide)]
      refine jw_lstore_n (pc := 70) dX1_restore_70 (Nat.le_of_ble_eq_true rfl) rfl ?_
      try dsimp only [jput1, jput2, jkill, jclr, jis2_i, jis2_l, jis2_rs, jis2_rn, cond]
      refine jw_iload (pc := 71) dX1_restore_71 rfl ?_
      first | refine jx_ifb_eq (pc := 73) (tgt := 97) dX1_restore_73 (by decide) ?_ ?_ | refine jx_if_eq (pc := 73) (tgt := 97) dX1_restore_73 (by decide) (by omega) ?_ ?_ | refine jw_if_eq (pc := 73) (tgt := 97) dX1_restore_73 (by decide) ?_ ?_
      · intro h_73
        refine jw_iconst (pc := 97) dX1_restore_97 ic_0 ?_
        refine jw_ff (b := allB (j + 1) (digR V n)) ?_ (lp_rj98 (q := V 0 1 - j) (by omega) (by omega) (sub1 (by omega)).symm ih2)
        rw [allB_s]
        first
          | (rw [h_73]; rfl)
          | (rw [show digR V n j = false from decide_eq_false (by omega), Bool.and_false])
      · intro h_73
        refine jw_aload_n (pc := 76) dX1_restore_76 rfl ?_
        refine jx_getRs (pc := 77) (jf_X1_43_0.r) rfl dX1_restore_77 rfl (is_64 hS) (by decide) (sr_64_11 hS) ?_
        refine jw_iload (pc := 80) dX1_restore_80 rfl ?_
        refine jx_ialds (pc := 82) dX1_restore_82 (ok_79 hS) (nn_79 hS) rfl (by omega) (jA_same) ?_
        refine jw_aload_n (pc := 83) dX1_restore_83 rfl ?_
        refine jx_getRs (pc := 84) (jf_X1_109_0.r) rfl dX1_restore_84 rfl (is_64 hS) (by decide) (hs.r) ?_
        refine jx_getIs (pc := 87) (jf_X1_150_5.r) rfl dX1_restore_87 rfl (vis hv) (by decide) (xi_np hs.V) ?_
        first | refine jx_icmp_ge (pc := 90) (tgt := 97) dX1_restore_90 (by decide) (by omega) (by omega) ?_ ?_ | refine jw_icmp_ge (pc := 90) (tgt := 97) dX1_restore_90 (by decide) ?_ ?_
        · intro h_90
          refine jw_iconst (pc := 97) dX1_restore_97 ic_0 ?_
          refine jw_ff (b := allB (j + 1) (digR V n)) ?_ (lp_rj98 (q := V 0 1 - j) (by omega) (by omega) (sub1 (by omega)).symm ih2)
          rw [allB_s]
          first
            | (rw [h_73]; rfl)
            | (rw [show digR V n j = false from decide_eq_false (by omega), Bool.and_false])
        · intro h_90
          refine jw_iconst (pc := 93) dX1_restore_93 ic_1 ?_
          refine jw_goto (pc := 94) (tgt := 98) dX1_restore_94 (by decide) ?_
          refine jw_tt (b := allB (j + 1) (digR V n)) ?_ (lp_rj98 (q := V 0 1 - j) (by omega) (by omega) (sub1 (by omega)).symm ih2)
          rw [allB_s, h_73]; exact decide_eq_true h_90
  · have hk' : j = V 0 1 := by omega
    subst hk'
    refine jw_iload (pc := 47) dX1_restore_47 rfl ?_
    refine jw_if_lt (pc := 49) (tgt := 106) dX1_restore_49 (by decide) ?_ ?_
    · intro h_49
      refine jW.sub ?_ (h1 M1 hX hf (fun p hp => ha p hp (by omega)))
      exact ⟨rfl, rfl, rfl, rfl, trivial⟩
    · intro h_49
      exact absurd (by rw [Nat.sub_self]; decide +kernel) h_49
theorem t_X1_restore {x : Int64} (h : jXx M σ) : jT G mi_X1_restore 9 [jr (some 64), .long x] M (jOx M (o_restore σ x)) := by
  have hS := h.1
  refine jT.of (by decide) rfl (Nat.le_of_ble_eq_true rfl) ?_
  cases hv9 : sv σ with
  | none =>
    refine jw_aload_n (pc := 0) dX1_restore_0 rfl ?_
    refine jw_aload_n (pc := 1) dX1_restore_1 rfl ?_
    refine jx_getRs (pc := 2) (jf_X1_109_0.r) rfl dX1_restore_2 rfl (is_64 hS) (by decide) (h.no hv9) ?_
    refine jw_ifnonnull (pc := 5) (tgt := 12) dX1_restore_5 (by decide) (fun ax h => by cases h) (fun h => ?_)
    clear h
    refine jw_iconst (pc := 8) dX1_restore_8 ic_1 ?_
    refine jw_goto (pc := 9) (tgt := 23) dX1_restore_9 (by decide) ?_
    refine jx_cVE (mi1 := mi_X1_yes) (pc := 23) rfl dX1_restore_23 lk_X1_218 rfl fi_X1_yes rfl rfl rfl (by decide) (is_64 hS) (t_X1_yesE hS) (by first | decide | omega) rfl rfl (by decide) ?_
    first | refine jx_ifb_ne (pc := 26) (tgt := 31) dX1_restore_26 (by decide) ?_ ?_ | refine jx_if_ne (pc := 26) (tgt := 31) dX1_restore_26 (by decide) (by omega) ?_ ?_ | refine jw_if_ne (pc := 26) (tgt := 31) dX1_restore_26 (by decide) ?_ ?_
    · intro h_26
      exact absurd h_26 (by decide +kernel)
    · intro h_26
      refine jw_iconst (pc := 29) dX1_restore_29 ic_0 ?_
      refine jw_ireturn (pc := 30) dX1_restore_30 rfl (by first | exact jnar_b _ | exact jnar_0 | exact jnar_1 | decide +kernel) ?_
      have e : o_restore σ x = (0, sgT σ 1 (-1)) := by unfold o_restore; rw [hv9]
      rw [e]; exact ⟨_, rfl, rfl, xyes h (by decide), fyes⟩
  | some V =>
    obtain ⟨v, hs, hN⟩ := h.so hv9
    have L23n : x < 0 → jW G mi_X1_restore 9 M 23 [some (jr (some 64)), some (.long x), none, none, none, none, none] [.int (nI 2), jr (some 64)] M (jOx M (o_restore σ x)) := by
      intro hx
      refine jx_cVE (mi1 := mi_X1_yes) (pc := 23) rfl dX1_restore_23 lk_X1_218 rfl fi_X1_yes rfl rfl rfl (by decide) (is_64 hS) (t_X1_yesE hS) (by first | decide | omega) rfl rfl (by decide) ?_
      first | refine jx_ifb_ne (pc := 26) (tgt := 31) dX1_restore_26 (by decide) ?_ ?_ | refine jx_if_ne (pc := 26) (tgt := 31) dX1_restore_26 (by decide) (by omega) ?_ ?_ | refine jw_if_ne (pc := 26) (tgt := 31) dX1_restore_26 (by decide) ?_ ?_
      · intro h_26
        exact absurd h_26 (by decide +kernel)
      · intro h_26
        refine jw_iconst (pc := 29) dX1_restore_29 ic_0 ?_
        refine jw_ireturn (pc := 30) dX1_restore_30 rfl (by first | exact jnar_b _ | exact jnar_0 | exact jnar_1 | decide +kernel) ?_
        rw [ores_n hv9 hx]; exact ⟨_, rfl, rfl, xyes h (by decide), fyes⟩
    have L23 : ∀ n : Nat, n < 2 ^ 63 → jW G mi_X1_restore 9 M 23 [some (jr (some 64)), some (.long (lN n)), none, none, none, none, none] [.int (nI 0), jr (some 64)] M (jOx M (o_restore σ (lN n))) := by
      intro n hn
      have hX0 := xyes (why := nI 0) h (by decide)
      have hf0 := fyes (M := M) (why := nI 0)
      have hrl : resL V n < 2 ^ 63 := Nat.lt_of_le_of_lt (Nat.div_le_self _ _) hn
      have hrl2 : resL V n / 100 < 2 ^ 63 := Nat.lt_of_le_of_lt (Nat.div_le_self _ _) hrl
      have L106 : ∀ M', jXx M' (sgT σ (nI 0) (-1)) → jfx M M' → (∀ p, p < V 0 1 → jm_A M' 79 p = nI (resA V n p)) → jW G mi_X1_restore 9 M 106 [some (jr (some 64)), some (.long (lN n)), none, some (.long (lN (resL V n))), none, some (.int (jb (allB (V 0 1) (digR V n)))), none] [] M' (jOx M (o_restore σ (lN n))) := by
        intro M' hX hf ha
        have hS := hX.1
        refine jw_aload_n (pc := 106) dX1_restore_106 rfl ?_
        refine jw_iload (pc := 107) dX1_restore_107 rfl ?_
        first | refine jx_ifb_eq (pc := 109) (tgt := 128) dX1_restore_109 (by decide) ?_ ?_ | refine jx_if_eq (pc := 109) (tgt := 128) dX1_restore_109 (by decide) (by omega) ?_ ?_ | refine jw_if_eq (pc := 109) (tgt := 128) dX1_restore_109 (by decide) ?_ ?_
        · intro h_109
          refine jw_iconst (pc := 128) dX1_restore_128 ic_2 ?_
          first
            | (have h9 : (allB (V 0 1) (digR V n) && decide (resL V n / 100 < 65537)) = false := by rw [h_109]; rfl
               refine lp_ry2 hX (fun M2 q1 q2 => ?_)
               rw [ores_2 hv9 hn h9]
               rw [sgTT] at q1
               exact ⟨_, rfl, rfl, q1, hf.tr q2⟩)
            | (have h8 : ¬ lN (resL V n / 100) < lN 65537 := cmp_ge.mp h_121
               rw [pk_lLT hrl2 (by decide)] at h8
               have h9 : (allB (V 0 1) (digR V n) && decide (resL V n / 100 < 65537)) = false := by rw [decide_eq_false h8, Bool.and_false]
               refine lp_ry2 hX (fun M2 q1 q2 => ?_)
               rw [ores_2 hv9 hn h9]
               rw [sgTT] at q1
               exact ⟨_, rfl, rfl, q1, hf.tr q2⟩)
            | (have h8 : lN (resL V n / 100) < lN 65537 := Classical.byContradiction (fun c => h_121 (cmp_ge.mpr c))
               rw [pk_lLT hrl2 (by decide)] at h8
               have h9 : (allB (V 0 1) (digR V n) && decide (resL V n / 100 < 65537)) = true := by rw [h_109, decide_eq_true h8]; rfl
               have hdg : ∀ p, p < V 0 1 → resA V n p < V 0 0 := fun p hp => of_decide_eq_true (allB_iff.mp h_109 (V 0 1 - 1 - p) (by omega))
               refine lp_ry0 (V := V) (f := resA V n) hX hv9 hrl h8 (fun p hp => ⟨ha p hp, hdg p hp⟩) (fun M2 q1 q2 => ?_)
               rw [ores_1 hv9 hn h9]
               rw [sgTT] at q1
               exact ⟨_, rfl, rfl, q1, hf.tr q2⟩)
        · intro h_109
          refine jw_lload_n (pc := 112) dX1_restore_112 rfl ?_
          refine jw_ldc2 (pc := 113) q1377 rfl dX1_restore_113 ?_
          refine jw_ldiv (pc := 116) dX1_restore_116 (by decide +kernel) ?_
          rw [show (100 : Int64) = lN 100 from rfl, pk_lDiv hrl (by decide) (by decide)]
          refine jw_ldc2 (pc := 117) q1383 rfl dX1_restore_117 ?_
          refine jw_lcmp (pc := 120) dX1_restore_120 ?_
          refine jw_if_ge (pc := 121) (tgt := 128) dX1_restore_121 (by decide) ?_ ?_
          · intro h_121
            refine jw_iconst (pc := 128) dX1_restore_128 ic_2 ?_
            first
              | (have h9 : (allB (V 0 1) (digR V n) && decide (resL V n / 100 < 65537)) = false := by rw [h_109]; rfl
                 refine lp_ry2 hX (fun M2 q1 q2 => ?_)
                 rw [ores_2 hv9 hn h9]
                 rw [sgTT] at q1
                 exact ⟨_, rfl, rfl, q1, hf.tr q2⟩)
              | (have h8 : ¬ lN (resL V n / 100) < lN 65537 := cmp_ge.mp h_121
                 rw [pk_lLT hrl2 (by decide)] at h8
                 have h9 : (allB (V 0 1) (digR V n) && decide (resL V n / 100 < 65537)) = false := by rw [decide_eq_false h8, Bool.and_false]
                 refine lp_ry2 hX (fun M2 q1 q2 => ?_)
                 rw [ores_2 hv9 hn h9]
                 rw [sgTT] at q1
                 exact ⟨_, rfl, rfl, q1, hf.tr q2⟩)
              | (have h8 : lN (resL V n / 100) < lN 65537 := Classical.byContradiction (fun c => h_121 (cmp_ge.mpr c))
                 rw [pk_lLT hrl2 (by decide)] at h8
                 have h9 : (allB (V 0 1) (digR V n) && decide (resL V n / 100 < 65537)) = true := by rw [h_109, decide_eq_true h8]; rfl
                 have hdg : ∀ p, p < V 0 1 → resA V n p < V 0 0 := fun p hp => of_decide_eq_true (allB_iff.mp h_109 (V 0 1 - 1 - p) (by omega))
                 refine lp_ry0 (V := V) (f := resA V n) hX hv9 hrl h8 (fun p hp => ⟨ha p hp, hdg p hp⟩) (fun M2 q1 q2 => ?_)
                 rw [ores_1 hv9 hn h9]
                 rw [sgTT] at q1
                 exact ⟨_, rfl, rfl, q1, hf.tr q2⟩)
          · intro h_121
            refine jw_iconst (pc := 124) dX1_restore_124 ic_0 ?_
            refine jw_goto (pc := 125) (tgt := 129) dX1_restore_125 (by decide) ?_
            first
              | (have h9 : (allB (V 0 1) (digR V n) && decide (resL V n / 100 < 65537)) = false := by rw [h_109]; rfl
                 refine lp_ry2 hX (fun M2 q1 q2 => ?_)
                 rw [ores_2 hv9 hn h9]
                 rw [sgTT] at q1
                 exact ⟨_, rfl, rfl, q1, hf.tr q2⟩)
              | (have h8 : ¬ lN (resL V n / 100) < lN 65537 := cmp_ge.mp h_121
                 rw [pk_lLT hrl2 (by decide)] at h8
                 have h9 : (allB (V 0 1) (digR V n) && decide (resL V n / 100 < 65537)) = false := by rw [decide_eq_false h8, Bool.and_false]
                 refine lp_ry2 hX (fun M2 q1 q2 => ?_)
                 rw [ores_2 hv9 hn h9]
                 rw [sgTT] at q1
                 exact ⟨_, rfl, rfl, q1, hf.tr q2⟩)
              | (have h8 : lN (resL V n / 100) < lN 65537 := Classical.byContradiction (fun c => h_121 (cmp_ge.mpr c))
                 rw [pk_lLT hrl2 (by decide)] at h8
                 have h9 : (allB (V 0 1) (digR V n) && decide (resL V n / 100 < 65537)) = true := by rw [h_109, decide_eq_true h8]; rfl
                 have hdg : ∀ p, p < V 0 1 → resA V n p < V 0 0 := fun p hp => of_decide_eq_true (allB_iff.mp h_109 (V 0 1 - 1 - p) (by omega))
                 refine lp_ry0 (V := V) (f := resA V n) hX hv9 hrl h8 (fun p hp => ⟨ha p hp, hdg p hp⟩) (fun M2 q1 q2 => ?_)
                 rw [ores_1 hv9 hn h9]
                 rw [sgTT] at q1
                 exact ⟨_, rfl, rfl, q1, hf.tr q2⟩)
      refine jx_cVE (mi1 := mi_X1_yes) (pc := 23) rfl dX1_restore_23 lk_X1_218 rfl fi_X1_yes rfl rfl rfl (by decide) (is_64 hS) (t_X1_yesE hS) (by first | decide | omega) rfl rfl (by decide) ?_
      first | refine jx_ifb_ne (pc := 26) (tgt := 31) dX1_restore_26 (by decide) ?_ ?_ | refine jx_if_ne (pc := 26) (tgt := 31) dX1_restore_26 (by decide) (by omega) ?_ ?_ | refine jw_if_ne (pc := 26) (tgt := 31) dX1_restore_26 (by decide) ?_ ?_
      · intro h_26
        refine jw_lload_n (pc := 31) dX1_restore_31 rfl ?_
        refine jw_lstore_n (pc := 32) dX1_restore_32 (Nat.le_of_ble_eq_true rfl) rfl ?_
        try dsimp only [jput1, jput2, jkill, jclr, jis2_i, jis2_l, jis2_rs, jis2_rn, cond]
        refine jw_iconst (pc := 33) dX1_restore_33 ic_1 ?_
        refine jw_istore (pc := 34) dX1_restore_34 (Nat.le_of_ble_eq_true rfl) rfl ?_
        try dsimp only [jput1, jput2, jkill, jclr, jis2_i, jis2_l, jis2_rs, jis2_rn, cond]
        generalize js_I (js_I (js_I M 64 4 (nI 0)) 64 6 (-1)) 64 4 (nI 0) = M2 at hX0 hf0 ⊢
        clear hS
        have hS := hX0.1
        obtain ⟨v, hs, hN⟩ := hX0.so hv9
        have hv := hs.s
        refine jw_aload_n (pc := 36) dX1_restore_36 rfl ?_
        refine jx_getRs (pc := 37) (jf_X1_109_0.r) rfl dX1_restore_37 rfl (is_64 hS) (by decide) (hs.r) ?_
        refine jx_getIs (pc := 40) (jf_X1_137_5.r) rfl dX1_restore_40 rfl (vis hv) (by decide) (xi_nq hs.V) ?_
        refine jw_iconst (pc := 43) dX1_restore_43 ic_1 ?_
        refine jw_isub (pc := 44) dX1_restore_44 ?_
        refine jw_istore (pc := 45) dX1_restore_45 (Nat.le_of_ble_eq_true rfl) rfl ?_
        try dsimp only [jput1, jput2, jkill, jclr, jis2_i, jis2_l, jis2_rs, jis2_rn, cond]
        refine jW.sub ?_ (lp_rloop (M0 := M) (τ := sgT σ (nI 0) (-1)) (V := V) (n := n) hv9 hn L106 (0, M2) ⟨Nat.zero_le _, hX0, hf0, fun p hp hp2 => by omega⟩)
        exact ⟨rfl, rfl, by rw [Nat.pow_zero, Nat.div_one], rfl, rfl, trivial⟩
      · intro h_26
        exact absurd h_26 (by decide +kernel)
    refine jw_aload_n (pc := 0) dX1_restore_0 rfl ?_
    refine jw_aload_n (pc := 1) dX1_restore_1 rfl ?_
    refine jx_getRs (pc := 2) (jf_X1_109_0.r) rfl dX1_restore_2 rfl (is_64 hS) (by decide) (hs.r) ?_
    refine jw_ifnonnull (pc := 5) (tgt := 12) dX1_restore_5 (by decide) (fun ax h => ?_) (fun h => by cases h)
    clear h
    refine jw_lload_n (pc := 12) dX1_restore_12 rfl ?_
    refine jw_lconst (pc := 13) dX1_restore_13 rfl ?_
    refine jw_lcmp (pc := 14) dX1_restore_14 ?_
    refine jw_if_ge (pc := 15) (tgt := 22) dX1_restore_15 (by decide) ?_ ?_
    · intro h_15
      refine jw_iconst (pc := 22) dX1_restore_22 ic_0 ?_
      first
        | exact L23n (Classical.byContradiction (fun c => h_15 (cmp_ge.mpr c)))
        | (obtain ⟨n, hn, e⟩ := pk_lOf (show ¬ x < 0 from cmp_ge.mp h_15)
           subst e
           exact L23 n hn)
    · intro h_15
      refine jw_iconst (pc := 18) dX1_restore_18 ic_2 ?_
      refine jw_goto (pc := 19) (tgt := 23) dX1_restore_19 (by decide) ?_
      first
        | exact L23n (Classical.byContradiction (fun c => h_15 (cmp_ge.mpr c)))
        | (obtain ⟨n, hn, e⟩ := pk_lOf (show ¬ x < 0 from cmp_ge.mp h_15)
           subst e
           exact L23 n hn)
end JRS
