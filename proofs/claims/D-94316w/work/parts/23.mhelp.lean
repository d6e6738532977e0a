/-! ===== m's small helpers ===== -/
theorem ix_neg {n : Nat} {a : Int32} (h : a < 0) : isIx n a = false := by
  unfold isIx
  rw [Int32.lt_iff_toInt_lt] at h
  have : (0 : Int32).toInt = 0 := by decide +kernel
  simp; omega
theorem ix_ge {n : Nat} {a : Int32} (hn : n < 2 ^ 31) (h : nI n ≤ a) : isIx n a = false := by
  unfold isIx
  rw [Int32.le_iff_toInt_le, nI_toInt hn] at h
  simp; omega
theorem ix_in {n : Nat} {a : Int32} (hn : n < 2 ^ 31) (h0 : ¬ a < 0) (h : ¬ nI n ≤ a) : isIx n a = true := by
  unfold isIx
  rw [Int32.le_iff_toInt_le, nI_toInt hn] at h
  rw [Int32.lt_iff_toInt_lt] at h0
  have : (0 : Int32).toInt = 0 := by decide +kernel
  simp; omega
theorem i_neg {r : Nat} (hr : r < 2 ^ 30) : (-(nI r)).toInt = -(r : Int) := by
  have h : -(nI r) = nI 0 - nI r := by
    rw [show nI 0 = (0 : Int32) from rfl, Int32.zero_sub]
  rw [h, i_sub (by decide) hr]; omega
theorem inb_d {a b r : Nat} (ha : a < 2 ^ 30) (hb : b < 2 ^ 30) (hr : r < 2 ^ 30) : inb (nI a - nI b) (-(nI r)) (nI r) = decide (adist a b ≤ r) := by
  rw [Bool.eq_iff_iff, inb_iff, i_sub ha hb, i_neg hr, nI_toInt (by omega), decide_eq_true_eq]
  unfold adist
  omega
theorem le0 {x : Nat} (hx : x < 2 ^ 31) : nI x ≤ 0 ↔ x = 0 := by
  rw [Int32.le_iff_toInt_le, nI_toInt hx]
  have : (0 : Int32).toInt = 0 := by decide +kernel
  omega
theorem dist_le (V : Vt) (a b r : Nat) : decide (distV V a b ≤ r) = (decide (adist (V 1 a) (V 1 b) ≤ r) && decide (adist (V 2 a) (V 2 b) ≤ r)) := by
  unfold distV
  rw [Bool.eq_iff_iff, Bool.and_eq_true, decide_eq_true_eq, decide_eq_true_eq, decide_eq_true_eq]
  exact Nat.max_le
/-! who sees whom is symmetric -/
theorem adist_sym (a b : Nat) : adist a b = adist b a := by unfold adist; omega
theorem wallB_sym (V : Vt) (op a b k : Nat) : wallB V op a b k = wallB V op b a k := by unfold wallB; rw [Bool.or_comm]
theorem walled_sym (V : Vt) (op a b : Nat) : walledB V op a b = walledB V op b a := anyB_congr (fun k _ => wallB_sym V op a b k)
theorem plain_sym (V : Vt) (r op fg a b : Nat) : plainB V r op fg a b = plainB V r op fg b a := by
  unfold plainB
  rw [walled_sym V op a b, show distV V a b = distV V b a by unfold distV; rw [adist_sym (V 1 a), adist_sym (V 2 a)], show decide (a ≠ b) = decide (b ≠ a) by rw [decide_eq_decide]; exact ne_comm]
  cases fg.testBit a <;> cases fg.testBit b <;> simp
theorem sees_sym (V : Vt) (r op fg a b : Nat) : seesB V r op fg a b = seesB V r op fg b a := by
  unfold seesB
  rw [plain_sym V r op fg a b, show decide (a = b) = decide (b = a) by rw [decide_eq_decide]; exact eq_comm]
  congr 1
  refine anyB_congr (fun k _ => ?_)
  rw [plain_sym V r op fg a, plain_sym V r op fg b, Bool.and_comm]
theorem seesS_bit (V : Vt) (r op fg a b : Nat) : (seesS V r op fg a).testBit b = (decide (b < V 0 0) && seesB V r op fg a b) := msk_bit _ _ _
theorem seesS_sym {V : Vt} {r op fg a b : Nat} (ha : a < V 0 0) (hb : b < V 0 0) : (seesS V r op fg a).testBit b = (seesS V r op fg b).testBit a := by
  rw [seesS_bit, seesS_bit, sees_sym]; simp [ha, hb]
/-! m's valley -/
theorem ma_p {M : Mm} {w : Nat} {V : Vt} (h : jVm M w V) {k : Nat} (hk : k < V 0 0) : jm_A M (w + 1) k = nI (V 1 k) ∧ jm_A M (w + 2) k = nI (V 2 k) := h.2.2.1 k hk
theorem ma_w {M : Mm} {w : Nat} {V : Vt} (h : jVm M w V) {k : Nat} (hk : k < V 0 3) : jm_A M (w + 3) k = nI (V 4 k) ∧ jm_A M (w + 4) k = nI (V 5 k) := h.2.2.2.1 k hk
theorem ma_y {M : Mm} {w : Nat} {V : Vt} (h : jVm M w V) {k : Nat} (hk : k < V 0 4) : jm_A M (w + 5) k = nI (V 21 k) ∧ jm_A M (w + 6) k = nI (V 22 k) := h.2.2.2.2.1 k hk
theorem ma_m {M : Mm} {w : Nat} {V : Vt} (h : jVm M w V) {k : Nat} (hk : k < V 0 5) : jm_A M (w + 7) k = nI (V 6 k) := h.2.2.2.2.2.1 k hk
theorem ma_q {M : Mm} {w : Nat} {V : Vt} (h : jVm M w V) {k : Nat} (hk : k < V 0 1) : jm_A M (w + 8) k = nI (V 11 k) ∧ jm_A M (w + 9) k = nI (V 13 k) ∧ jm_A M (w + 10) k = nI (V 14 k) ∧ jm_A M (w + 11) k = nI (V 15 k) ∧ jm_A M (w + 14) k = nI (V 12 k) := h.2.2.2.2.2.2.1 k hk
theorem ma_r {M : Mm} {w : Nat} {V : Vt} (h : jVm M w V) {k : Nat} (hk : k < V 0 6) : jm_A M (w + 12) k = nI (V 7 k) ∧ jm_A M (w + 13) k = nI (V 8 k) := h.2.2.2.2.2.2.2.1 k hk
theorem ma_e {M : Mm} {w : Nat} {V : Vt} (h : jVm M w V) {k : Nat} (hk : k < V 0 2) : jm_A M (w + 15) k = nI (V 16 k) ∧ jm_A M (w + 16) k = nI (V 17 k) ∧ jm_A M (w + 17) k = nI (V 18 k) ∧ jm_A M (w + 18) k = nI (V 19 k) ∧ jm_A M (w + 19) k = nI (V 20 k) := h.2.2.2.2.2.2.2.2.1 k hk
theorem ma_f {M : Mm} {w : Nat} {V : Vt} (h : jVm M w V) {k : Nat} (hk : k < V 0 7) : jm_A M (w + 20) k = nI (V 9 k) ∧ jm_A M (w + 21) k = nI (V 10 k) := h.2.2.2.2.2.2.2.2.2 k hk
theorem jMm.no {M : Mm} {σ : Sg} (h : jMm M σ) (hv : sv σ = none) : jm_R M 90 52 = none := h.2.2.2.2.2.1 hv
theorem jMm.so {M : Mm} {σ : Sg} (h : jMm M σ) {V : Vt} (hv : sv σ = some V) : ∃ w, jMs M w V 0 0 ∧ jMn M V σ := h.2.2.2.2.2.2 V hv
theorem jMs.r {M : Mm} {w : Nat} {V : Vt} {op fg : Nat} (h : jMs M w V op fg) : jm_R M 90 52 = some w := h.2.1
theorem jMs.V {M : Mm} {w : Nat} {V : Vt} {op fg : Nat} (h : jMs M w V op fg) : jVm M w V := h.2.2.1
theorem jMs.s {M : Mm} {w : Nat} {V : Vt} {op fg : Nat} (h : jMs M w V op fg) : jWs M w := h.2.2.1.1
theorem jMs.w {M : Mm} {w : Nat} {V : Vt} {op fg : Nat} (h : jMs M w V op fg) : jWf V := h.2.2.2.1
theorem jMs.o {M : Mm} {w : Nat} {V : Vt} {op fg : Nat} (h : jMs M w V op fg) : jm_I M 90 66 = nI op := h.2.2.2.2.1
theorem jMs.f {M : Mm} {w : Nat} {V : Vt} {op fg : Nat} (h : jMs M w V op fg) : jm_I M 90 67 = nI fg := h.2.2.2.2.2
theorem jMm.up {E : Nat → Prop} {M M1 : Mm} {σ τ : Sg} (h : jMm M σ) (g : jsm E M M1) (hS : jSh M1) (hE : ∀ a, a = 91 ∨ 104 ≤ a → ¬ E a) (ho : jSo τ) (hv : sv τ = sv σ) (hb : sb τ 0 = sb σ 0) (hR : jm_R M1 90 52 = jm_R M 90 52)
    (hI : jm_I M1 90 55 = nI (sn τ 2) ∧ jm_I M1 90 50 = si τ 0 ∧ jm_I M1 90 62 = si τ 1 ∧ jm_I M1 90 51 = si τ 2) (hof : jm_I M1 90 66 = nI 0 ∧ jm_I M1 90 67 = nI 0) (hn : ∀ V, sv σ = some V → jMn M V σ → jMn M1 V τ) : jMm M1 τ := by
  obtain ⟨h1, h2, h3, h4, h8, h9, h10⟩ := h
  have hz := h1.2.2.2
  refine ⟨hS, ho, hI, hof, fun k hk => ?_, fun q => hR.trans (h9 (hv ▸ q)), fun V hV => ?_⟩
  · rw [(g.2.2 91 (by omega) (hE _ (by decide))).2.2.2.2.2.1, hb]; exact h8 k hk
  · obtain ⟨w, ⟨q1, q2, q3, q4, q5, q6⟩, q7⟩ := h10 V (hv ▸ hV)
    exact ⟨w, ⟨hS, hR.trans q2, q3.sm g (fun a ha => hE a (by omega)), q4, hof.1, hof.2⟩, hn V (hv ▸ hV) q7⟩
section JM1
variable {G : Gh} {M : Mm} {σ : Sg} {w op fg : Nat} {V : Vt}
theorem t_X5_refused {why : Int32} (h : jMm M σ) : jT G mi_X5_refused 1 [jr (some 90), .int why] M (jPi (fun r M' => r = -1 ∧ jMm M' (sgT σ why (-1)) ∧ jfm M M')) := by
  have hS := h.1
  refine jT.of (by decide) rfl (Nat.le_of_ble_eq_true rfl) ?_
  refine jw_aload_n (pc := 0) dX5_refused_0 rfl ?_
  refine jw_iload_n (pc := 1) dX5_refused_1 rfl ?_
  refine jx_putI (pc := 2) jf_X5_59_4 rfl dX5_refused_2 rfl rfl (is_90 hS) (by decide) ?_
  refine jw_aload_n (pc := 5) dX5_refused_5 rfl ?_
  refine jw_iconst (pc := 6) dX5_refused_6 ic_m1 ?_
  refine jx_putI (pc := 7) jf_X5_9_4 rfl dX5_refused_7 rfl rfl (is_90 hS) (by decide) ?_
  refine jw_iconst (pc := 10) dX5_refused_10 ic_m1 ?_
  refine jw_ireturn (pc := 11) dX5_refused_11 rfl (rfl) ?_
  refine ⟨_, rfl, rfl, ?_, (jsm.I (by decide)).tr (jsm.I (by decide))⟩
  obtain ⟨h3, h4, h5, h6⟩ := h.2.2.1
  exact h.up (E := fun a => a = 90) ((jsm.I (E := fun a => a = 90) rfl).tr (jsm.I rfl)) hS (fun a q1 q2 => by omega) (h.2.1.T _ _) rfl rfl rfl ⟨h3, rfl, h5, rfl⟩ h.2.2.2.1 (fun V hV q => q)
theorem t_X5_told0 {x : Int32} (h : jMm M σ) : jT G mi_X5_told 2 [jr (some 90), .int x, .int (nI 0)] M (jPi (fun r M' => r = x ∧ jMm M' (sgT σ 0 (-1)) ∧ jfm M M')) := by
  have hS := h.1
  refine jT.of (by decide) rfl (Nat.le_of_ble_eq_true rfl) ?_
  refine jw_iload_n (pc := 0) dX5_told_0 rfl ?_
  refine jw_if_le (pc := 1) (tgt := 10) dX5_told_1 (by decide) ?_ ?_
  · intro h_1
    refine jw_aload_n (pc := 10) dX5_told_10 rfl ?_
    refine jw_iconst (pc := 11) dX5_told_11 ic_0 ?_
    refine jx_putI (pc := 12) jf_X5_59_4 rfl dX5_told_12 rfl rfl (is_90 hS) (by decide) ?_
    refine jw_aload_n (pc := 15) dX5_told_15 rfl ?_
    refine jw_iconst (pc := 16) dX5_told_16 ic_m1 ?_
    refine jx_putI (pc := 17) jf_X5_9_4 rfl dX5_told_17 rfl rfl (is_90 hS) (by decide) ?_
    refine jw_iload_n (pc := 20) dX5_told_20 rfl ?_
    refine jw_ireturn (pc := 21) dX5_told_21 rfl (rfl) ?_
    refine ⟨_, rfl, rfl, ?_, (jsm.I (by decide)).tr (jsm.I (by decide))⟩
    obtain ⟨h3, h4, h5, h6⟩ := h.2.2.1
    exact h.up (E := fun a => a = 90) ((jsm.I (E := fun a => a = 90) rfl).tr (jsm.I rfl)) hS (fun a q1 q2 => by omega) (h.2.1.T _ _) rfl rfl rfl ⟨h3, rfl, h5, rfl⟩ h.2.2.2.1 (fun V hV q => q)
  · intro h_1
    exact absurd (by decide +kernel) h_1
theorem t_X5_denied {why : Int32} (h : jMm M σ) : jT G mi_X5_denied 2 [jr (some 90), .int why] M (jPi (fun r M' => r = 0 ∧ jMm M' (sgT σ why (-1)) ∧ jfm M M')) := by
  have hS := h.1
  refine jT.of (by decide) rfl (Nat.le_of_ble_eq_true rfl) ?_
  refine jw_aload_n (pc := 0) dX5_denied_0 rfl ?_
  refine jw_iload_n (pc := 1) dX5_denied_1 rfl ?_
  refine jx_cVi (mi1 := mi_X5_refused) (pc := 2) rfl dX5_denied_2 lk_X5_62 rfl fi_X5_refused rfl rfl rfl (by decide) (is_90 hS) (t_X5_refused h) (by first | decide | omega) rfl rfl (by decide) ?_
  intro x_2 M_2 q_2
  refine jw_pop (pc := 5) dX5_denied_5 (rfl) ?_
  refine jw_iconst (pc := 6) dX5_denied_6 ic_0 ?_
  refine jw_ireturn (pc := 7) dX5_denied_7 rfl (by first | exact jnar_b _ | exact jnar_0 | exact jnar_1 | decide +kernel) ?_
  exact ⟨_, rfl, rfl, q_2.2⟩
theorem t_X5_granted (h : jMm M σ) : jT G mi_X5_granted 3 [jr (some 90)] M (jPi (fun r M' => r = 1 ∧ jMm M' (sgT σ 0 (-1)) ∧ jfm M M')) := by
  have hS := h.1
  refine jT.of (by decide) rfl (Nat.le_of_ble_eq_true rfl) ?_
  refine jw_aload_n (pc := 0) dX5_granted_0 rfl ?_
  refine jw_iconst (pc := 1) dX5_granted_1 ic_0 ?_
  refine jw_iconst (pc := 2) dX5_granted_2 ic_0 ?_
  refine jx_cVi (mi1 := mi_X5_told) (pc := 3) rfl dX5_granted_3 lk_X5_66 rfl fi_X5_told rfl rfl rfl (by decide) (is_90 hS) (t_X5_told0 h) (by first | decide | omega) rfl rfl (by decide) ?_
  intro x_3 M_3 q_3
  refine jw_pop (pc := 6) dX5_granted_6 (rfl) ?_
  refine jw_iconst (pc := 7) dX5_granted_7 ic_1 ?_
  refine jw_ireturn (pc := 8) dX5_granted_8 rfl (by first | exact jnar_b _ | exact jnar_0 | exact jnar_1 | decide +kernel) ?_
  exact ⟨_, rfl, rfl, q_3.2⟩
theorem t_X5_isStep {t : Int32} : jE G mi_X5_isStep 2 [.int t] M (some (.int (jb (isIx 200 t)))) M := by
  refine jE.of (by decide) rfl (Nat.le_of_ble_eq_true rfl) ?_
  refine jw_iload_n (pc := 0) dX5_isStep_0 rfl ?_
  refine jw_iconst (pc := 1) dX5_isStep_1 ic_0 ?_
  refine jw_sipush (pc := 2) dX5_isStep_2 sp_199 ?_
  refine jx_cSE (mi1 := mi_X5_in) (pc := 5) rfl dX5_isStep_5 lk_X5_135 rfl fi_X5_in (t_X5_in) (by first | decide | omega) rfl rfl (by decide) ?_
  refine jw_ireturn (pc := 8) dX5_isStep_8 rfl (by first | exact jnar_b _ | exact jnar_0 | exact jnar_1 | decide +kernel) ?_
  exact ⟨by rw [inb_200], rfl⟩
theorem t_X5_isPlace {a : Int32} {o : Option Vt} (h : jMm M σ) (ho : sv σ = o) : jE G mi_X5_isPlace 2 [jr (some 90), .int a] M (some (.int (jb (ixV o 0 a)))) M := by
  have hS := h.1
  refine jE.of (by decide) rfl (Nat.le_of_ble_eq_true rfl) ?_
  subst ho
  cases hv9 : sv σ with
  | none =>
    have hn := h.no hv9
    refine jw_aload_n (pc := 0) dX5_isPlace_0 rfl ?_
    refine jx_getRs (pc := 1) (jf_X5_380_4.r) rfl dX5_isPlace_1 rfl (is_90 hS) (by decide) (hn) ?_
    refine jw_ifnull (pc := 4) (tgt := 26) dX5_isPlace_4 (by decide) (fun h => ?_) (fun ax h => by cases h)
    clear h
    refine jw_iconst (pc := 26) dX5_isPlace_26 ic_0 ?_
    refine jw_ireturn (pc := 27) dX5_isPlace_27 rfl (by first | exact jnar_b _ | exact jnar_0 | exact jnar_1 | decide +kernel) ?_
    refine ⟨jret_f ?_, rfl⟩
    rfl
  | some V =>
    obtain ⟨w, hs, -⟩ := h.so hv9
    have hw := hs.s
    have hn := wf_np hs.w
    refine jw_aload_n (pc := 0) dX5_isPlace_0 rfl ?_
    refine jx_getRs (pc := 1) (jf_X5_380_4.r) rfl dX5_isPlace_1 rfl (is_90 hS) (by decide) (hs.r) ?_
    refine jw_ifnull (pc := 4) (tgt := 26) dX5_isPlace_4 (by decide) (fun h => by cases h) (fun ax h => ?_)
    clear h
    refine jw_iload_n (pc := 7) dX5_isPlace_7 rfl ?_
    refine jw_if_lt (pc := 8) (tgt := 26) dX5_isPlace_8 (by decide) ?_ ?_
    · intro h_8
      refine jw_iconst (pc := 26) dX5_isPlace_26 ic_0 ?_
      refine jw_ireturn (pc := 27) dX5_isPlace_27 rfl (by first | exact jnar_b _ | exact jnar_0 | exact jnar_1 | decide +kernel) ?_
      refine ⟨jret_f ?_, rfl⟩
      first | exact ix_neg h_8 | exact ix_ge (by omega) h_19
    · intro h_8
      refine jw_iload_n (pc := 11) dX5_isPlace_11 rfl ?_
      refine jw_aload_n (pc := 12) dX5_isPlace_12 rfl ?_
      refine jx_getRs (pc := 13) (jf_X5_380_4.r) rfl dX5_isPlace_13 rfl (is_90 hS) (by decide) (hs.r) ?_
      refine jx_getIs (pc := 16) (jf_X5_218_12.r) rfl dX5_isPlace_16 rfl (wis hw) (by decide) (mi_np hs.V) ?_
      refine jw_icmp_ge (pc := 19) (tgt := 26) dX5_isPlace_19 (by decide) ?_ ?_
      · intro h_19
        refine jw_iconst (pc := 26) dX5_isPlace_26 ic_0 ?_
        refine jw_ireturn (pc := 27) dX5_isPlace_27 rfl (by first | exact jnar_b _ | exact jnar_0 | exact jnar_1 | decide +kernel) ?_
        refine ⟨jret_f ?_, rfl⟩
        first | exact ix_neg h_8 | exact ix_ge (by omega) h_19
      · intro h_19
        refine jw_iconst (pc := 22) dX5_isPlace_22 ic_1 ?_
        refine jw_goto (pc := 23) (tgt := 27) dX5_isPlace_23 (by decide) ?_
        refine jw_ireturn (pc := 27) dX5_isPlace_27 rfl (by first | exact jnar_b _ | exact jnar_0 | exact jnar_1 | decide +kernel) ?_
        refine ⟨jret_t ?_, rfl⟩
        exact ix_in (by omega) h_8 h_19
theorem t_X5_isPerson {a : Int32} {o : Option Vt} (h : jMm M σ) (ho : sv σ = o) : jE G mi_X5_isPerson 2 [jr (some 90), .int a] M (some (.int (jb (ixV o 1 a)))) M := by
  have hS := h.1
  refine jE.of (by decide) rfl (Nat.le_of_ble_eq_true rfl) ?_
  subst ho
  cases hv9 : sv σ with
  | none =>
    have hn := h.no hv9
    refine jw_aload_n (pc := 0) dX5_isPerson_0 rfl ?_
    refine jx_getRs (pc := 1) (jf_X5_380_4.r) rfl dX5_isPerson_1 rfl (is_90 hS) (by decide) (hn) ?_
    refine jw_ifnull (pc := 4) (tgt := 26) dX5_isPerson_4 (by decide) (fun h => ?_) (fun ax h => by cases h)
    clear h
    refine jw_iconst (pc := 26) dX5_isPerson_26 ic_0 ?_
    refine jw_ireturn (pc := 27) dX5_isPerson_27 rfl (by first | exact jnar_b _ | exact jnar_0 | exact jnar_1 | decide +kernel) ?_
    refine ⟨jret_f ?_, rfl⟩
    rfl
  | some V =>
    obtain ⟨w, hs, -⟩ := h.so hv9
    have hw := hs.s
    have hn := wf_nq hs.w
    refine jw_aload_n (pc := 0) dX5_isPerson_0 rfl ?_
    refine jx_getRs (pc := 1) (jf_X5_380_4.r) rfl dX5_isPerson_1 rfl (is_90 hS) (by decide) (hs.r) ?_
    refine jw_ifnull (pc := 4) (tgt := 26) dX5_isPerson_4 (by decide) (fun h => by cases h) (fun ax h => ?_)
    clear h
    refine jw_iload_n (pc := 7) dX5_isPerson_7 rfl ?_
    refine jw_if_lt (pc := 8) (tgt := 26) dX5_isPerson_8 (by decide) ?_ ?_
    · intro h_8
      refine jw_iconst (pc := 26) dX5_isPerson_26 ic_0 ?_
      refine jw_ireturn (pc := 27) dX5_isPerson_27 rfl (by first | exact jnar_b _ | exact jnar_0 | exact jnar_1 | decide +kernel) ?_
      refine ⟨jret_f ?_, rfl⟩
      first | exact ix_neg h_8 | exact ix_ge (by omega) h_19
    · intro h_8
      refine jw_iload_n (pc := 11) dX5_isPerson_11 rfl ?_
      refine jw_aload_n (pc := 12) dX5_isPerson_12 rfl ?_
      refine jx_getRs (pc := 13) (jf_X5_380_4.r) rfl dX5_isPerson_13 rfl (is_90 hS) (by decide) (hs.r) ?_
      refine jx_getIs (pc := 16) (jf_X5_221_12.r) rfl dX5_isPerson_16 rfl (wis hw) (by decide) (mi_nq hs.V) ?_
      refine jw_icmp_ge (pc := 19) (tgt := 26) dX5_isPerson_19 (by decide) ?_ ?_
      · intro h_19
        refine jw_iconst (pc := 26) dX5_isPerson_26 ic_0 ?_
        refine jw_ireturn (pc := 27) dX5_isPerson_27 rfl (by first | exact jnar_b _ | exact jnar_0 | exact jnar_1 | decide +kernel) ?_
        refine ⟨jret_f ?_, rfl⟩
        first | exact ix_neg h_8 | exact ix_ge (by omega) h_19
      · intro h_19
        refine jw_iconst (pc := 22) dX5_isPerson_22 ic_1 ?_
        refine jw_goto (pc := 23) (tgt := 27) dX5_isPerson_23 (by decide) ?_
        refine jw_ireturn (pc := 27) dX5_isPerson_27 rfl (by first | exact jnar_b _ | exact jnar_0 | exact jnar_1 | decide +kernel) ?_
        refine ⟨jret_t ?_, rfl⟩
        exact ix_in (by omega) h_8 h_19
theorem t_X5_refusesSteps {t : Int32} {o : Option Vt} (h : jMm M σ) (ho : sv σ = o) : jE G mi_X5_refusesSteps 3 [jr (some 90), .int t] M (some (.int (stepW o t))) M := by
  have hS := h.1
  refine jE.of (by decide) rfl (Nat.le_of_ble_eq_true rfl) ?_
  subst ho
  cases hv9 : sv σ with
  | none =>
    have hn := h.no hv9
    refine jw_aload_n (pc := 0) dX5_refusesSteps_0 rfl ?_
    refine jx_getRs (pc := 1) (jf_X5_380_4.r) rfl dX5_refusesSteps_1 rfl (is_90 hS) (by decide) (hn) ?_
    refine jw_ifnonnull (pc := 4) (tgt := 11) dX5_refusesSteps_4 (by decide) (fun ax h => by cases h) (fun h => ?_)
    clear h
    refine jw_iconst (pc := 7) dX5_refusesSteps_7 ic_1 ?_
    refine jw_goto (pc := 8) (tgt := 23) dX5_refusesSteps_8 (by decide) ?_
    refine jw_ireturn (pc := 23) dX5_refusesSteps_23 rfl (rfl) ?_
    exact ⟨rfl, rfl⟩
  | some V =>
    obtain ⟨w, hs, -⟩ := h.so hv9
    have hw := hs.s
    refine jw_aload_n (pc := 0) dX5_refusesSteps_0 rfl ?_
    refine jx_getRs (pc := 1) (jf_X5_380_4.r) rfl dX5_refusesSteps_1 rfl (is_90 hS) (by decide) (hs.r) ?_
    refine jw_ifnonnull (pc := 4) (tgt := 11) dX5_refusesSteps_4 (by decide) (fun ax h => ?_) (fun h => by cases h)
    clear h
    refine jw_iload_n (pc := 11) dX5_refusesSteps_11 rfl ?_
    refine jx_cSE (mi1 := mi_X5_isStep) (pc := 12) rfl dX5_refusesSteps_12 lk_X5_411 rfl fi_X5_isStep (t_X5_isStep) (by first | decide | omega) rfl rfl (by decide) ?_
    first | refine jx_ifb_eq (pc := 15) (tgt := 22) dX5_refusesSteps_15 (by decide) ?_ ?_ | refine jx_if_eq (pc := 15) (tgt := 22) dX5_refusesSteps_15 (by decide) (by omega) ?_ ?_ | refine jw_if_eq (pc := 15) (tgt := 22) dX5_refusesSteps_15 (by decide) ?_ ?_
    · intro h_15
      refine jw_iconst (pc := 22) dX5_refusesSteps_22 ic_2 ?_
      refine jw_ireturn (pc := 23) dX5_refusesSteps_23 rfl (rfl) ?_
      exact ⟨by simp only [stepW, h_15]; rfl, rfl⟩
    · intro h_15
      refine jw_iconst (pc := 18) dX5_refusesSteps_18 ic_0 ?_
      refine jw_goto (pc := 19) (tgt := 23) dX5_refusesSteps_19 (by decide) ?_
      refine jw_ireturn (pc := 23) dX5_refusesSteps_23 rfl (rfl) ?_
      exact ⟨by simp only [stepW, h_15]; rfl, rfl⟩
theorem t_X5_rangeIn {t : Nat} (hs : jMs M w V op fg) (ht : t < 2 ^ 30) : jE G mi_X5_rangeIn 1 [jr (some 90), .int (nI t)] M (some (.int (nI (rangeV V t)))) M := by
  have hS := hs.1
  have hw := hs.s
  obtain ⟨d1, d2, d3, d4, d5⟩ := wf_d hs.w
  refine jE.of (by decide) rfl (Nat.le_of_ble_eq_true rfl) ?_
  refine jw_iload_n (pc := 0) dX5_rangeIn_0 rfl ?_
  refine jw_aload_n (pc := 1) dX5_rangeIn_1 rfl ?_
  refine jx_getRs (pc := 2) (jf_X5_380_4.r) rfl dX5_rangeIn_2 rfl (is_90 hS) (by decide) (hs.r) ?_
  refine jx_getIs (pc := 5) (jf_X5_265_12.r) rfl dX5_rangeIn_5 rfl (wis hw) (by decide) (mi_from hs.V) ?_
  first | refine jx_icmp_lt (pc := 8) (tgt := 32) dX5_rangeIn_8 (by decide) (by omega) (by omega) ?_ ?_ | refine jw_icmp_lt (pc := 8) (tgt := 32) dX5_rangeIn_8 (by decide) ?_ ?_
  · intro h_8
    refine jw_aload_n (pc := 32) dX5_rangeIn_32 rfl ?_
    refine jx_getRs (pc := 33) (jf_X5_380_4.r) rfl dX5_rangeIn_33 rfl (is_90 hS) (by decide) (hs.r) ?_
    refine jx_getIs (pc := 36) (jf_X5_257_12.r) rfl dX5_rangeIn_36 rfl (wis hw) (by decide) (mi_day hs.V) ?_
    refine jw_ireturn (pc := 39) dX5_rangeIn_39 rfl (rfl) ?_
    refine ⟨?_, rfl⟩
    unfold rangeV nightB
    first
      | rw [decide_eq_false (by omega), Bool.false_and]; rfl
      | rw [decide_eq_true (show V 0 10 ≤ t by omega), decide_eq_false (by omega)]; rfl
      | rw [decide_eq_true (show V 0 10 ≤ t by omega), decide_eq_true (show t < V 0 11 by omega)]; rfl
  · intro h_8
    refine jw_iload_n (pc := 11) dX5_rangeIn_11 rfl ?_
    refine jw_aload_n (pc := 12) dX5_rangeIn_12 rfl ?_
    refine jx_getRs (pc := 13) (jf_X5_380_4.r) rfl dX5_rangeIn_13 rfl (is_90 hS) (by decide) (hs.r) ?_
    refine jx_getIs (pc := 16) (jf_X5_269_12.r) rfl dX5_rangeIn_16 rfl (wis hw) (by decide) (mi_to hs.V) ?_
    first | refine jx_icmp_ge (pc := 19) (tgt := 32) dX5_rangeIn_19 (by decide) (by omega) (by omega) ?_ ?_ | refine jw_icmp_ge (pc := 19) (tgt := 32) dX5_rangeIn_19 (by decide) ?_ ?_
    · intro h_19
      refine jw_aload_n (pc := 32) dX5_rangeIn_32 rfl ?_
      refine jx_getRs (pc := 33) (jf_X5_380_4.r) rfl dX5_rangeIn_33 rfl (is_90 hS) (by decide) (hs.r) ?_
      refine jx_getIs (pc := 36) (jf_X5_257_12.r) rfl dX5_rangeIn_36 rfl (wis hw) (by decide) (mi_day hs.V) ?_
      refine jw_ireturn (pc := 39) dX5_rangeIn_39 rfl (rfl) ?_
      refine ⟨?_, rfl⟩
      unfold rangeV nightB
      first
        | rw [decide_eq_false (by omega), Bool.false_and]; rfl
        | rw [decide_eq_true (show V 0 10 ≤ t by omega), decide_eq_false (by omega)]; rfl
        | rw [decide_eq_true (show V 0 10 ≤ t by omega), decide_eq_true (show t < V 0 11 by omega)]; rfl
    · intro h_19
      refine jw_aload_n (pc := 22) dX5_rangeIn_22 rfl ?_
      refine jx_getRs (pc := 23) (jf_X5_380_4.r) rfl dX5_rangeIn_23 rfl (is_90 hS) (by decide) (hs.r) ?_
      refine jx_getIs (pc := 26) (jf_X5_261_12.r) rfl dX5_rangeIn_26 rfl (wis hw) (by decide) (mi_night hs.V) ?_
      refine jw_goto (pc := 29) (tgt := 39) dX5_rangeIn_29 (by decide) ?_
      refine jw_ireturn (pc := 39) dX5_rangeIn_39 rfl (rfl) ?_
      refine ⟨?_, rfl⟩
      unfold rangeV nightB
      first
        | rw [decide_eq_false (by omega), Bool.false_and]; rfl
        | rw [decide_eq_true (show V 0 10 ≤ t by omega), decide_eq_false (by omega)]; rfl
        | rw [decide_eq_true (show V 0 10 ≤ t by omega), decide_eq_true (show t < V 0 11 by omega)]; rfl
theorem t_X5_isPlain {a b r : Nat} (hs : jMs M w V op fg) (ho : op < 2 ^ 31) (hf : fg < 2 ^ 31) (hr : r < 2 ^ 30) (ha : a < V 0 0) (hb : b < V 0 0) : jE G mi_X5_isPlain 2 [jr (some 90), .int (nI a), .int (nI b), .int (nI r)] M (some (.int (jb (plainB V r op fg a b)))) M := by
  have hS := hs.1
  have hw := hs.s
  have hn := wf_np hs.w
  have hnw := wf_nw hs.w
  obtain ⟨x1, x2, -⟩ := wf_pl hs.w ha
  obtain ⟨y1, y2, -⟩ := wf_pl hs.w hb
  obtain ⟨u1, u2⟩ := ma_p hs.V ha
  obtain ⟨z1, z2⟩ := ma_p hs.V hb
  refine jE.of (by decide) rfl (Nat.le_of_ble_eq_true rfl) ?_
  have J : (decide (a ≠ b) && !fg.testBit a && !fg.testBit b && decide (distV V a b ≤ r)) = true → ∀ k : Nat, (k ≤ V 0 3 ∧ anyB k (wallB V op a b) = false) → jW G mi_X5_isPlain 2 M 98 [some (jr (some 90)), some (.int (nI a)), some (.int (nI b)), some (.int (nI r)), none, none, some (.int (nI k)), none] [] M (fun r' M' => r' = .inl (some (.int (jb (plainB V r op fg a b)))) ∧ M' = M) := by
    intro hall
    refine jW.loop _ (fun k => V 0 3 - k) _ (fun _ => []) (fun _ => M) (fun k hk ih => ?_)
    obtain ⟨hk, hany⟩ := hk
    by_cases hkn : k < V 0 3
    · obtain ⟨w1, w2⟩ := ma_w hs.V hkn
      obtain ⟨c1, c2⟩ := wf_w hs.w hkn
      have J171 : jW G mi_X5_isPlain 2 M 171 [some (jr (some 90)), some (.int (nI a)), some (.int (nI b)), some (.int (nI r)), none, none, some (.int (nI k)), none] [.int (jb ((decide (V 4 k = a) && decide (V 5 k = b)) || (decide (V 4 k = b) && decide (V 5 k = a))))] M (fun r' M' => r' = .inl (some (.int (jb (plainB V r op fg a b)))) ∧ M' = M) := by
        refine jw_istore (pc := 171) dX5_isPlain_171 (Nat.le_of_ble_eq_true rfl) rfl ?_
        try dsimp only [jput1, jput2, jkill, jclr, jis2_i, jis2_l, jis2_rs, jis2_rn, cond]
        refine jw_iload (pc := 173) dX5_isPlain_173 rfl ?_
        first | refine jx_ifb_eq (pc := 175) (tgt := 192) dX5_isPlain_175 (by decide) ?_ ?_ | refine jx_if_eq (pc := 175) (tgt := 192) dX5_isPlain_175 (by decide) (by omega) ?_ ?_ | refine jw_if_eq (pc := 175) (tgt := 192) dX5_isPlain_175 (by decide) ?_ ?_
        · intro h_175
          first | refine jx_iinc (pc := 192) dX5_isPlain_192 rfl rfl ?_ | refine jw_iinc (pc := 192) dX5_isPlain_192 rfl rfl rfl ?_
          try dsimp only [jput1, jkill, jclr, jis2_i, jis2_l, jis2_rs, jis2_rn, cond]
          refine jw_goto (pc := 195) (tgt := 98) dX5_isPlain_195 (by decide) ?_
          refine jW.sub (by simp [jsub]) (ih (k + 1) ⟨hkn, ?_⟩ (by omega))
          show (anyB k (wallB V op a b) || wallB V op a b k) = false
          rw [hany, Bool.false_or]
          unfold wallB
          first | (rw [h_175, Bool.and_false]; done) | (rw [h_187]; rfl)
        · intro h_175
          refine jw_aload_n (pc := 178) dX5_isPlain_178 rfl ?_
          refine jx_getIs (pc := 179) (jf_X5_402_4.r) rfl dX5_isPlain_179 rfl (is_90 hS) (by decide) (hs.o) ?_
          refine jw_iload (pc := 182) dX5_isPlain_182 rfl ?_
          refine jx_cSE (mi1 := mi_X5_has) (pc := 184) rfl dX5_isPlain_184 lk_X5_398 rfl fi_X5_has (t_X5_has ho (by omega)) (by first | decide | omega) rfl rfl (by decide) ?_
          first | refine jx_ifb_ne (pc := 187) (tgt := 192) dX5_isPlain_187 (by decide) ?_ ?_ | refine jx_if_ne (pc := 187) (tgt := 192) dX5_isPlain_187 (by decide) (by omega) ?_ ?_ | refine jw_if_ne (pc := 187) (tgt := 192) dX5_isPlain_187 (by decide) ?_ ?_
          · intro h_187
            first | refine jx_iinc (pc := 192) dX5_isPlain_192 rfl rfl ?_ | refine jw_iinc (pc := 192) dX5_isPlain_192 rfl rfl rfl ?_
            try dsimp only [jput1, jkill, jclr, jis2_i, jis2_l, jis2_rs, jis2_rn, cond]
            refine jw_goto (pc := 195) (tgt := 98) dX5_isPlain_195 (by decide) ?_
            refine jW.sub (by simp [jsub]) (ih (k + 1) ⟨hkn, ?_⟩ (by omega))
            show (anyB k (wallB V op a b) || wallB V op a b k) = false
            rw [hany, Bool.false_or]
            unfold wallB
            first | (rw [h_175, Bool.and_false]; done) | (rw [h_187]; rfl)
          · intro h_187
            refine jw_iconst (pc := 190) dX5_isPlain_190 ic_0 ?_
            refine jw_ireturn (pc := 191) dX5_isPlain_191 rfl (by first | exact jnar_b _ | exact jnar_0 | exact jnar_1 | decide +kernel) ?_
            refine ⟨jret_f ?_, rfl⟩
            have hwl : walledB V op a b = true := by
              unfold walledB
              rw [anyB_iff]
              exact ⟨k, hkn, by unfold wallB; rw [h_175, h_187]; rfl⟩
            unfold plainB
            rw [hwl]; simp
      refine jw_iload (pc := 98) dX5_isPlain_98 rfl ?_
      refine jw_aload_n (pc := 100) dX5_isPlain_100 rfl ?_
      refine jx_getRs (pc := 101) (jf_X5_380_4.r) rfl dX5_isPlain_101 rfl (is_90 hS) (by decide) (hs.r) ?_
      refine jx_getIs (pc := 104) (jf_X5_289_12.r) rfl dX5_isPlain_104 rfl (wis hw) (by decide) (mi_nw hs.V) ?_
      first | refine jx_icmp_ge (pc := 107) (tgt := 198) dX5_isPlain_107 (by decide) (by omega) (by omega) ?_ ?_ | refine jw_icmp_ge (pc := 107) (tgt := 198) dX5_isPlain_107 (by decide) ?_ ?_
      · intro h_107
        omega
      · intro h_107
        refine jw_aload_n (pc := 110) dX5_isPlain_110 rfl ?_
        refine jx_getRs (pc := 111) (jf_X5_380_4.r) rfl dX5_isPlain_111 rfl (is_90 hS) (by decide) (hs.r) ?_
        refine jx_getRs (pc := 114) jg_X5_292_12 rfl dX5_isPlain_114 rfl (wis hw) (by decide) (wr_3 hw) ?_
        refine jw_iload (pc := 117) dX5_isPlain_117 rfl ?_
        refine jx_ialds (pc := 119) dX5_isPlain_119 (wok_3 hw) (wnn_3 hw) rfl (by omega) (w1) ?_
        refine jw_iload_n (pc := 120) dX5_isPlain_120 rfl ?_
        first | refine jx_icmp_ne (pc := 121) (tgt := 138) dX5_isPlain_121 (by decide) (by omega) (by omega) ?_ ?_ | refine jw_icmp_ne (pc := 121) (tgt := 138) dX5_isPlain_121 (by decide) ?_ ?_
        · intro h_121
          refine jw_aload_n (pc := 138) dX5_isPlain_138 rfl ?_
          refine jx_getRs (pc := 139) (jf_X5_380_4.r) rfl dX5_isPlain_139 rfl (is_90 hS) (by decide) (hs.r) ?_
          refine jx_getRs (pc := 142) jg_X5_292_12 rfl dX5_isPlain_142 rfl (wis hw) (by decide) (wr_3 hw) ?_
          refine jw_iload (pc := 145) dX5_isPlain_145 rfl ?_
          refine jx_ialds (pc := 147) dX5_isPlain_147 (wok_3 hw) (wnn_3 hw) rfl (by omega) (w1) ?_
          refine jw_iload_n (pc := 148) dX5_isPlain_148 rfl ?_
          first | refine jx_icmp_ne (pc := 149) (tgt := 170) dX5_isPlain_149 (by decide) (by omega) (by omega) ?_ ?_ | refine jw_icmp_ne (pc := 149) (tgt := 170) dX5_isPlain_149 (by decide) ?_ ?_
          · intro h_149
            refine jw_iconst (pc := 170) dX5_isPlain_170 ic_0 ?_
            refine jw_ff ?_ J171; simp_all
          · intro h_149
            refine jw_aload_n (pc := 152) dX5_isPlain_152 rfl ?_
            refine jx_getRs (pc := 153) (jf_X5_380_4.r) rfl dX5_isPlain_153 rfl (is_90 hS) (by decide) (hs.r) ?_
            refine jx_getRs (pc := 156) jg_X5_295_12 rfl dX5_isPlain_156 rfl (wis hw) (by decide) (wr_4 hw) ?_
            refine jw_iload (pc := 159) dX5_isPlain_159 rfl ?_
            refine jx_ialds (pc := 161) dX5_isPlain_161 (wok_4 hw) (wnn_4 hw) rfl (by omega) (w2) ?_
            refine jw_iload_n (pc := 162) dX5_isPlain_162 rfl ?_
            first | refine jx_icmp_ne (pc := 163) (tgt := 170) dX5_isPlain_163 (by decide) (by omega) (by omega) ?_ ?_ | refine jw_icmp_ne (pc := 163) (tgt := 170) dX5_isPlain_163 (by decide) ?_ ?_
            · intro h_163
              refine jw_iconst (pc := 170) dX5_isPlain_170 ic_0 ?_
              refine jw_ff ?_ J171; simp_all
            · intro h_163
              refine jw_iconst (pc := 166) dX5_isPlain_166 ic_1 ?_
              refine jw_goto (pc := 167) (tgt := 171) dX5_isPlain_167 (by decide) ?_
              refine jw_tt ?_ J171; simp_all
        · intro h_121
          refine jw_aload_n (pc := 124) dX5_isPlain_124 rfl ?_
          refine jx_getRs (pc := 125) (jf_X5_380_4.r) rfl dX5_isPlain_125 rfl (is_90 hS) (by decide) (hs.r) ?_
          refine jx_getRs (pc := 128) jg_X5_295_12 rfl dX5_isPlain_128 rfl (wis hw) (by decide) (wr_4 hw) ?_
          refine jw_iload (pc := 131) dX5_isPlain_131 rfl ?_
          refine jx_ialds (pc := 133) dX5_isPlain_133 (wok_4 hw) (wnn_4 hw) rfl (by omega) (w2) ?_
          refine jw_iload_n (pc := 134) dX5_isPlain_134 rfl ?_
          first | refine jx_icmp_eq (pc := 135) (tgt := 166) dX5_isPlain_135 (by decide) (by omega) (by omega) ?_ ?_ | refine jw_icmp_eq (pc := 135) (tgt := 166) dX5_isPlain_135 (by decide) ?_ ?_
          · intro h_135
            refine jw_iconst (pc := 166) dX5_isPlain_166 ic_1 ?_
            refine jw_goto (pc := 167) (tgt := 171) dX5_isPlain_167 (by decide) ?_
            refine jw_tt ?_ J171; simp_all
          · intro h_135
            refine jw_aload_n (pc := 138) dX5_isPlain_138 rfl ?_
            refine jx_getRs (pc := 139) (jf_X5_380_4.r) rfl dX5_isPlain_139 rfl (is_90 hS) (by decide) (hs.r) ?_
            refine jx_getRs (pc := 142) jg_X5_292_12 rfl dX5_isPlain_142 rfl (wis hw) (by decide) (wr_3 hw) ?_
            refine jw_iload (pc := 145) dX5_isPlain_145 rfl ?_
            refine jx_ialds (pc := 147) dX5_isPlain_147 (wok_3 hw) (wnn_3 hw) rfl (by omega) (w1) ?_
            refine jw_iload_n (pc := 148) dX5_isPlain_148 rfl ?_
            first | refine jx_icmp_ne (pc := 149) (tgt := 170) dX5_isPlain_149 (by decide) (by omega) (by omega) ?_ ?_ | refine jw_icmp_ne (pc := 149) (tgt := 170) dX5_isPlain_149 (by decide) ?_ ?_
            · intro h_149
              refine jw_iconst (pc := 170) dX5_isPlain_170 ic_0 ?_
              refine jw_ff ?_ J171; simp_all
            · intro h_149
              refine jw_aload_n (pc := 152) dX5_isPlain_152 rfl ?_
              refine jx_getRs (pc := 153) (jf_X5_380_4.r) rfl dX5_isPlain_153 rfl (is_90 hS) (by decide) (hs.r) ?_
              refine jx_getRs (pc := 156) jg_X5_295_12 rfl dX5_isPlain_156 rfl (wis hw) (by decide) (wr_4 hw) ?_
              refine jw_iload (pc := 159) dX5_isPlain_159 rfl ?_
              refine jx_ialds (pc := 161) dX5_isPlain_161 (wok_4 hw) (wnn_4 hw) rfl (by omega) (w2) ?_
              refine jw_iload_n (pc := 162) dX5_isPlain_162 rfl ?_
              first | refine jx_icmp_ne (pc := 163) (tgt := 170) dX5_isPlain_163 (by decide) (by omega) (by omega) ?_ ?_ | refine jw_icmp_ne (pc := 163) (tgt := 170) dX5_isPlain_163 (by decide) ?_ ?_
              · intro h_163
                refine jw_iconst (pc := 170) dX5_isPlain_170 ic_0 ?_
                refine jw_ff ?_ J171; simp_all
              · intro h_163
                refine jw_iconst (pc := 166) dX5_isPlain_166 ic_1 ?_
                refine jw_goto (pc := 167) (tgt := 171) dX5_isPlain_167 (by decide) ?_
                refine jw_tt ?_ J171; simp_all
    · have hk' : k = V 0 3 := by omega
      subst hk'
      refine jw_iload (pc := 98) dX5_isPlain_98 rfl ?_
      refine jw_aload_n (pc := 100) dX5_isPlain_100 rfl ?_
      refine jx_getRs (pc := 101) (jf_X5_380_4.r) rfl dX5_isPlain_101 rfl (is_90 hS) (by decide) (hs.r) ?_
      refine jx_getIs (pc := 104) (jf_X5_289_12.r) rfl dX5_isPlain_104 rfl (wis hw) (by decide) (mi_nw hs.V) ?_
      first | refine jx_icmp_ge (pc := 107) (tgt := 198) dX5_isPlain_107 (by decide) (by omega) (by omega) ?_ ?_ | refine jw_icmp_ge (pc := 107) (tgt := 198) dX5_isPlain_107 (by decide) ?_ ?_
      · intro h_107
        refine jw_iconst (pc := 198) dX5_isPlain_198 ic_1 ?_
        refine jw_ireturn (pc := 199) dX5_isPlain_199 rfl (by first | exact jnar_b _ | exact jnar_0 | exact jnar_1 | decide +kernel) ?_
        refine ⟨jret_t ?_, rfl⟩
        unfold plainB; rw [hall, show walledB V op a b = false from hany]; rfl
      · intro h_107
        omega
  refine jw_iload_n (pc := 0) dX5_isPlain_0 rfl ?_
  refine jw_iload_n (pc := 1) dX5_isPlain_1 rfl ?_
  first | refine jx_icmp_eq (pc := 2) (tgt := 27) dX5_isPlain_2 (by decide) (by omega) (by omega) ?_ ?_ | refine jw_icmp_eq (pc := 2) (tgt := 27) dX5_isPlain_2 (by decide) ?_ ?_
  · intro h_2
    refine jw_iconst (pc := 27) dX5_isPlain_27 ic_0 ?_
    refine jw_ireturn (pc := 28) dX5_isPlain_28 rfl (by first | exact jnar_b _ | exact jnar_0 | exact jnar_1 | decide +kernel) ?_
    refine ⟨jret_f ?_, rfl⟩
    unfold plainB
    first
      | (rw [decide_eq_false (by omega)]; rfl)
      | (rw [h_13]; simp; done)
      | (rw [h_24]; simp; done)
      | (rw [dist_le, h_79]; simp; done)
      | (rw [dist_le, h_90]; simp; done)
  · intro h_2
    refine jw_aload_n (pc := 5) dX5_isPlain_5 rfl ?_
    refine jx_getIs (pc := 6) (jf_X5_395_4.r) rfl dX5_isPlain_6 rfl (is_90 hS) (by decide) (hs.f) ?_
    refine jw_iload_n (pc := 9) dX5_isPlain_9 rfl ?_
    refine jx_cSE (mi1 := mi_X5_has) (pc := 10) rfl dX5_isPlain_10 lk_X5_398 rfl fi_X5_has (t_X5_has hf (by omega)) (by first | decide | omega) rfl rfl (by decide) ?_
    first | refine jx_ifb_ne (pc := 13) (tgt := 27) dX5_isPlain_13 (by decide) ?_ ?_ | refine jx_if_ne (pc := 13) (tgt := 27) dX5_isPlain_13 (by decide) (by omega) ?_ ?_ | refine jw_if_ne (pc := 13) (tgt := 27) dX5_isPlain_13 (by decide) ?_ ?_
    · intro h_13
      refine jw_iconst (pc := 27) dX5_isPlain_27 ic_0 ?_
      refine jw_ireturn (pc := 28) dX5_isPlain_28 rfl (by first | exact jnar_b _ | exact jnar_0 | exact jnar_1 | decide +kernel) ?_
      refine ⟨jret_f ?_, rfl⟩
      unfold plainB
      first
        | (rw [decide_eq_false (by omega)]; rfl)
        | (rw [h_13]; simp; done)
        | (rw [h_24]; simp; done)
        | (rw [dist_le, h_79]; simp; done)
        | (rw [dist_le, h_90]; simp; done)
    · intro h_13
      refine jw_aload_n (pc := 16) dX5_isPlain_16 rfl ?_
      refine jx_getIs (pc := 17) (jf_X5_395_4.r) rfl dX5_isPlain_17 rfl (is_90 hS) (by decide) (hs.f) ?_
      refine jw_iload_n (pc := 20) dX5_isPlain_20 rfl ?_
      refine jx_cSE (mi1 := mi_X5_has) (pc := 21) rfl dX5_isPlain_21 lk_X5_398 rfl fi_X5_has (t_X5_has hf (by omega)) (by first | decide | omega) rfl rfl (by decide) ?_
      first | refine jx_ifb_eq (pc := 24) (tgt := 29) dX5_isPlain_24 (by decide) ?_ ?_ | refine jx_if_eq (pc := 24) (tgt := 29) dX5_isPlain_24 (by decide) (by omega) ?_ ?_ | refine jw_if_eq (pc := 24) (tgt := 29) dX5_isPlain_24 (by decide) ?_ ?_
      · intro h_24
        refine jw_aload_n (pc := 29) dX5_isPlain_29 rfl ?_
        refine jx_getRs (pc := 30) (jf_X5_380_4.r) rfl dX5_isPlain_30 rfl (is_90 hS) (by decide) (hs.r) ?_
        refine jx_getRs (pc := 33) jg_X5_283_12 rfl dX5_isPlain_33 rfl (wis hw) (by decide) (wr_1 hw) ?_
        refine jw_iload_n (pc := 36) dX5_isPlain_36 rfl ?_
        refine jx_ialds (pc := 37) dX5_isPlain_37 (wok_1 hw) (wnn_1 hw) rfl (by omega) (u1) ?_
        refine jw_aload_n (pc := 38) dX5_isPlain_38 rfl ?_
        refine jx_getRs (pc := 39) (jf_X5_380_4.r) rfl dX5_isPlain_39 rfl (is_90 hS) (by decide) (hs.r) ?_
        refine jx_getRs (pc := 42) jg_X5_283_12 rfl dX5_isPlain_42 rfl (wis hw) (by decide) (wr_1 hw) ?_
        refine jw_iload_n (pc := 45) dX5_isPlain_45 rfl ?_
        refine jx_ialds (pc := 46) dX5_isPlain_46 (wok_1 hw) (wnn_1 hw) rfl (by omega) (z1) ?_
        refine jw_isub (pc := 47) dX5_isPlain_47 ?_
        refine jw_istore (pc := 48) dX5_isPlain_48 (Nat.le_of_ble_eq_true rfl) rfl ?_
        try dsimp only [jput1, jput2, jkill, jclr, jis2_i, jis2_l, jis2_rs, jis2_rn, cond]
        refine jw_aload_n (pc := 50) dX5_isPlain_50 rfl ?_
        refine jx_getRs (pc := 51) (jf_X5_380_4.r) rfl dX5_isPlain_51 rfl (is_90 hS) (by decide) (hs.r) ?_
        refine jx_getRs (pc := 54) jg_X5_286_12 rfl dX5_isPlain_54 rfl (wis hw) (by decide) (wr_2 hw) ?_
        refine jw_iload_n (pc := 57) dX5_isPlain_57 rfl ?_
        refine jx_ialds (pc := 58) dX5_isPlain_58 (wok_2 hw) (wnn_2 hw) rfl (by omega) (u2) ?_
        refine jw_aload_n (pc := 59) dX5_isPlain_59 rfl ?_
        refine jx_getRs (pc := 60) (jf_X5_380_4.r) rfl dX5_isPlain_60 rfl (is_90 hS) (by decide) (hs.r) ?_
        refine jx_getRs (pc := 63) jg_X5_286_12 rfl dX5_isPlain_63 rfl (wis hw) (by decide) (wr_2 hw) ?_
        refine jw_iload_n (pc := 66) dX5_isPlain_66 rfl ?_
        refine jx_ialds (pc := 67) dX5_isPlain_67 (wok_2 hw) (wnn_2 hw) rfl (by omega) (z2) ?_
        refine jw_isub (pc := 68) dX5_isPlain_68 ?_
        refine jw_istore (pc := 69) dX5_isPlain_69 (Nat.le_of_ble_eq_true rfl) rfl ?_
        try dsimp only [jput1, jput2, jkill, jclr, jis2_i, jis2_l, jis2_rs, jis2_rn, cond]
        refine jw_iload (pc := 71) dX5_isPlain_71 rfl ?_
        refine jw_iload_n (pc := 73) dX5_isPlain_73 rfl ?_
        refine jw_ineg (pc := 74) dX5_isPlain_74 ?_
        refine jw_iload_n (pc := 75) dX5_isPlain_75 rfl ?_
        refine jx_cSE (mi1 := mi_X5_in) (pc := 76) rfl dX5_isPlain_76 lk_X5_135 rfl fi_X5_in (t_X5_in) (by first | decide | omega) rfl rfl (by decide) ?_
        rw [inb_d (by omega) (by omega) hr]
        first | refine jx_ifb_eq (pc := 79) (tgt := 93) dX5_isPlain_79 (by decide) ?_ ?_ | refine jx_if_eq (pc := 79) (tgt := 93) dX5_isPlain_79 (by decide) (by omega) ?_ ?_ | refine jw_if_eq (pc := 79) (tgt := 93) dX5_isPlain_79 (by decide) ?_ ?_
        · intro h_79
          refine jw_iconst (pc := 93) dX5_isPlain_93 ic_0 ?_
          refine jw_ireturn (pc := 94) dX5_isPlain_94 rfl (by first | exact jnar_b _ | exact jnar_0 | exact jnar_1 | decide +kernel) ?_
          refine ⟨jret_f ?_, rfl⟩
          unfold plainB
          first
            | (rw [decide_eq_false (by omega)]; rfl)
            | (rw [h_13]; simp; done)
            | (rw [h_24]; simp; done)
            | (rw [dist_le, h_79]; simp; done)
            | (rw [dist_le, h_90]; simp; done)
        · intro h_79
          refine jw_iload (pc := 82) dX5_isPlain_82 rfl ?_
          refine jw_iload_n (pc := 84) dX5_isPlain_84 rfl ?_
          refine jw_ineg (pc := 85) dX5_isPlain_85 ?_
          refine jw_iload_n (pc := 86) dX5_isPlain_86 rfl ?_
          refine jx_cSE (mi1 := mi_X5_in) (pc := 87) rfl dX5_isPlain_87 lk_X5_135 rfl fi_X5_in (t_X5_in) (by first | decide | omega) rfl rfl (by decide) ?_
          rw [inb_d (by omega) (by omega) hr]
          first | refine jx_ifb_ne (pc := 90) (tgt := 95) dX5_isPlain_90 (by decide) ?_ ?_ | refine jx_if_ne (pc := 90) (tgt := 95) dX5_isPlain_90 (by decide) (by omega) ?_ ?_ | refine jw_if_ne (pc := 90) (tgt := 95) dX5_isPlain_90 (by decide) ?_ ?_
          · intro h_90
            refine jw_iconst (pc := 95) dX5_isPlain_95 ic_0 ?_
            refine jw_istore (pc := 96) dX5_isPlain_96 (Nat.le_of_ble_eq_true rfl) rfl ?_
            try dsimp only [jput1, jput2, jkill, jclr, jis2_i, jis2_l, jis2_rs, jis2_rn, cond]
            refine jW.sub ?_ (J (by rw [dist_le, h_79, h_90, h_13, h_24, decide_eq_true (show a ≠ b by omega)]; rfl) 0 ⟨Nat.zero_le _, rfl⟩)
            exact ⟨rfl, rfl, rfl, rfl, rfl, trivial⟩
          · intro h_90
            refine jw_iconst (pc := 93) dX5_isPlain_93 ic_0 ?_
            refine jw_ireturn (pc := 94) dX5_isPlain_94 rfl (by first | exact jnar_b _ | exact jnar_0 | exact jnar_1 | decide +kernel) ?_
            refine ⟨jret_f ?_, rfl⟩
            unfold plainB
            first
              | (rw [decide_eq_false (by omega)]; rfl)
              | (rw [h_13]; simp; done)
              | (rw [h_24]; simp; done)
              | (rw [dist_le, h_79]; simp; done)
              | (rw [dist_le, h_90]; simp; done)
      · intro h_24
        refine jw_iconst (pc := 27) dX5_isPlain_27 ic_0 ?_
        refine jw_ireturn (pc := 28) dX5_isPlain_28 rfl (by first | exact jnar_b _ | exact jnar_0 | exact jnar_1 | decide +kernel) ?_
        refine ⟨jret_f ?_, rfl⟩
        unfold plainB
        first
          | (rw [decide_eq_false (by omega)]; rfl)
          | (rw [h_13]; simp; done)
          | (rw [h_24]; simp; done)
          | (rw [dist_le, h_79]; simp; done)
          | (rw [dist_le, h_90]; simp; done)
/-- a number or none -/
def bsel (c : Bool) (y : Nat) : Nat := bif c then y else 0
theorem bsel_if (c : Bool) (y : Nat) : bsel c y = if c then y else 0 := by cases c <;> rfl
theorem bsel_or (X y : Nat) (c : Bool) : (X ||| bsel c y) ||| y = X ||| bsel true y := by
  cases c
  · show (X ||| 0) ||| y = X ||| y; simp
  · show (X ||| y) ||| y = X ||| y; rw [Nat.or_assoc, Nat.or_self]
theorem sf_end {V : Vt} {r op fg a b : Nat} : 2 ^ a ||| msk b (seesB V r op fg a) ||| bsel (plainB V r op fg a b || (decide (a ≠ b) && anyB (V 0 5) (fun k => plainB V r op fg a (V 6 k) && plainB V r op fg (V 6 k) b))) (2 ^ b) = 2 ^ a ||| msk (b + 1) (seesB V r op fg a) := by
  rw [msk_s, ← bsel_if, ← Nat.or_assoc]
  by_cases e : a = b
  · subst e
    rw [show plainB V r op fg a a = false by simp [plainB], show seesB V r op fg a a = true by simp [seesB], decide_eq_false (by simp), Bool.false_and, Bool.or_false]
    show _ ||| 0 = _ ||| 2 ^ a
    rw [Nat.or_zero, Nat.or_assoc, Nat.or_comm (msk a _), ← Nat.or_assoc, Nat.or_self]
  · unfold seesB
    rw [decide_eq_true e, decide_eq_false e, Bool.true_and, Bool.false_or]
theorem t_X5_seenFrom {a t : Nat} (hs : jMs M w V op fg) (ho : op < 2 ^ 31) (hf : fg < 2 ^ 31) (ht : t < 2 ^ 30) (ha : a < V 0 0) : jE G mi_X5_seenFrom 3 [jr (some 90), .int (nI a), .int (nI t)] M (some (.int (nI (seesS V (rangeV V t) op fg a)))) M := by
  have hS := hs.1
  have hw := hs.s
  have hn := wf_np hs.w
  have hnm := wf_nm hs.w
  have hr : rangeV V t ≤ 19 := by
    obtain ⟨d1, d2, d3, d4, d5⟩ := wf_d hs.w
    unfold rangeV; split <;> omega
  have hpow : ∀ k, k < V 0 0 → 2 ^ k < 1024 := fun k hk => Nat.lt_of_lt_of_le (Nat.pow_lt_pow_right (by decide) hk) (p10 hn)
  refine jE.of (by decide) rfl (Nat.le_of_ble_eq_true rfl) ?_
  generalize hR : rangeV V t = r
  rw [hR] at hr
  have J : ∀ b : Nat, b ≤ V 0 0 → jW G mi_X5_seenFrom 3 M 14 [some (jr (some 90)), some (.int (nI a)), none, some (.int (nI r)), some (.int (nI (2 ^ a ||| msk b (seesB V r op fg a)))), some (.int (nI b)), none] [] M (fun r' M' => r' = .inl (some (.int (nI (seesS V r op fg a)))) ∧ M' = M) := by
    refine jW.loop _ (fun b => V 0 0 - b) _ (fun _ => []) (fun _ => M) (fun b hb ih => ?_)
    by_cases hbn : b < V 0 0
    · have L : ∀ k : Nat, k ≤ V 0 5 → jW G mi_X5_seenFrom 3 M 49 [some (jr (some 90)), some (.int (nI a)), none, some (.int (nI r)), some (.int (nI (2 ^ a ||| msk b (seesB V r op fg a) ||| bsel (plainB V r op fg a b || (decide (a ≠ b) && anyB k (fun k => plainB V r op fg a (V 6 k) && plainB V r op fg (V 6 k) b))) (2 ^ b)))), some (.int (nI b)), some (.int (nI k))] [] M (fun r' M' => r' = .inl (some (.int (nI (seesS V r op fg a)))) ∧ M' = M) := by
        refine jW.loop _ (fun k => V 0 5 - k) _ (fun _ => []) (fun _ => M) (fun k hk ihk => ?_)
        by_cases hkn : k < V 0 5
        · have hm := wf_m hs.w hkn
          have hx := ma_m hs.V hkn
          refine jw_iload (pc := 49) dX5_seenFrom_49 rfl ?_
          refine jw_aload_n (pc := 51) dX5_seenFrom_51 rfl ?_
          refine jx_getRs (pc := 52) (jf_X5_380_4.r) rfl dX5_seenFrom_52 rfl (is_90 hS) (by decide) (hs.r) ?_
          refine jx_getIs (pc := 55) (jf_X5_311_12.r) rfl dX5_seenFrom_55 rfl (wis hw) (by decide) (mi_nm hs.V) ?_
          first | refine jx_icmp_ge (pc := 58) (tgt := 121) dX5_seenFrom_58 (by decide) (by omega) (by omega) ?_ ?_ | refine jw_icmp_ge (pc := 58) (tgt := 121) dX5_seenFrom_58 (by decide) ?_ ?_
          · intro h_58
            omega
          · intro h_58
            refine jw_iload_n (pc := 61) dX5_seenFrom_61 rfl ?_
            refine jw_iload (pc := 62) dX5_seenFrom_62 rfl ?_
            first | refine jx_icmp_eq (pc := 64) (tgt := 115) dX5_seenFrom_64 (by decide) (by omega) (by omega) ?_ ?_ | refine jw_icmp_eq (pc := 64) (tgt := 115) dX5_seenFrom_64 (by decide) ?_ ?_
            · intro h_64
              first | refine jx_iinc (pc := 115) dX5_seenFrom_115 rfl rfl ?_ | refine jw_iinc (pc := 115) dX5_seenFrom_115 rfl rfl rfl ?_
              try dsimp only [jput1, jkill, jclr, jis2_i, jis2_l, jis2_rs, jis2_rn, cond]
              refine jw_goto (pc := 118) (tgt := 49) dX5_seenFrom_118 (by decide) ?_
              refine jW.eq ?_ rfl rfl (ihk (k + 1) hkn (by omega))
              simp only [anyB]
              first
                | (subst h_64; rw [decide_eq_false (show ¬ a ≠ a by simp), Bool.false_and, Bool.false_and]; done)
                | (rw [h_83, Bool.false_and, Bool.or_false]; done)
                | (rw [h_103, Bool.and_false, Bool.or_false]; done)
                | (rw [h_83, h_103, bsel_or, decide_eq_true (show a ≠ b by omega), Bool.and_true, Bool.or_true, Bool.true_and, Bool.or_true]; done)
            · intro h_64
              refine jw_aload_n (pc := 67) dX5_seenFrom_67 rfl ?_
              refine jw_iload_n (pc := 68) dX5_seenFrom_68 rfl ?_
              refine jw_aload_n (pc := 69) dX5_seenFrom_69 rfl ?_
              refine jx_getRs (pc := 70) (jf_X5_380_4.r) rfl dX5_seenFrom_70 rfl (is_90 hS) (by decide) (hs.r) ?_
              refine jx_getRs (pc := 73) jg_X5_314_12 rfl dX5_seenFrom_73 rfl (wis hw) (by decide) (wr_7 hw) ?_
              refine jw_iload (pc := 76) dX5_seenFrom_76 rfl ?_
              refine jx_ialds (pc := 78) dX5_seenFrom_78 (wok_7 hw) (wnn_7 hw) rfl (by omega) (hx) ?_
              refine jw_iload_n (pc := 79) dX5_seenFrom_79 rfl ?_
              refine jx_cVE (mi1 := mi_X5_isPlain) (pc := 80) rfl dX5_seenFrom_80 lk_X5_408 rfl fi_X5_isPlain rfl rfl rfl (by decide) (is_90 hS) (t_X5_isPlain hs ho hf (by omega) ha hm) (by first | decide | omega) rfl rfl (by decide) ?_
              first | refine jx_ifb_eq (pc := 83) (tgt := 115) dX5_seenFrom_83 (by decide) ?_ ?_ | refine jx_if_eq (pc := 83) (tgt := 115) dX5_seenFrom_83 (by decide) (by omega) ?_ ?_ | refine jw_if_eq (pc := 83) (tgt := 115) dX5_seenFrom_83 (by decide) ?_ ?_
              · intro h_83
                first | refine jx_iinc (pc := 115) dX5_seenFrom_115 rfl rfl ?_ | refine jw_iinc (pc := 115) dX5_seenFrom_115 rfl rfl rfl ?_
                try dsimp only [jput1, jkill, jclr, jis2_i, jis2_l, jis2_rs, jis2_rn, cond]
                refine jw_goto (pc := 118) (tgt := 49) dX5_seenFrom_118 (by decide) ?_
                refine jW.eq ?_ rfl rfl (ihk (k + 1) hkn (by omega))
                simp only [anyB]
                first
                  | (subst h_64; rw [decide_eq_false (show ¬ a ≠ a by simp), Bool.false_and, Bool.false_and]; done)
                  | (rw [h_83, Bool.false_and, Bool.or_false]; done)
                  | (rw [h_103, Bool.and_false, Bool.or_false]; done)
                  | (rw [h_83, h_103, bsel_or, decide_eq_true (show a ≠ b by omega), Bool.and_true, Bool.or_true, Bool.true_and, Bool.or_true]; done)
              · intro h_83
                refine jw_aload_n (pc := 86) dX5_seenFrom_86 rfl ?_
                refine jw_aload_n (pc := 87) dX5_seenFrom_87 rfl ?_
                refine jx_getRs (pc := 88) (jf_X5_380_4.r) rfl dX5_seenFrom_88 rfl (is_90 hS) (by decide) (hs.r) ?_
                refine jx_getRs (pc := 91) jg_X5_314_12 rfl dX5_seenFrom_91 rfl (wis hw) (by decide) (wr_7 hw) ?_
                refine jw_iload (pc := 94) dX5_seenFrom_94 rfl ?_
                refine jx_ialds (pc := 96) dX5_seenFrom_96 (wok_7 hw) (wnn_7 hw) rfl (by omega) (hx) ?_
                refine jw_iload (pc := 97) dX5_seenFrom_97 rfl ?_
                refine jw_iload_n (pc := 99) dX5_seenFrom_99 rfl ?_
                refine jx_cVE (mi1 := mi_X5_isPlain) (pc := 100) rfl dX5_seenFrom_100 lk_X5_408 rfl fi_X5_isPlain rfl rfl rfl (by decide) (is_90 hS) (t_X5_isPlain hs ho hf (by omega) hm hbn) (by first | decide | omega) rfl rfl (by decide) ?_
                first | refine jx_ifb_eq (pc := 103) (tgt := 115) dX5_seenFrom_103 (by decide) ?_ ?_ | refine jx_if_eq (pc := 103) (tgt := 115) dX5_seenFrom_103 (by decide) (by omega) ?_ ?_ | refine jw_if_eq (pc := 103) (tgt := 115) dX5_seenFrom_103 (by decide) ?_ ?_
                · intro h_103
                  first | refine jx_iinc (pc := 115) dX5_seenFrom_115 rfl rfl ?_ | refine jw_iinc (pc := 115) dX5_seenFrom_115 rfl rfl rfl ?_
                  try dsimp only [jput1, jkill, jclr, jis2_i, jis2_l, jis2_rs, jis2_rn, cond]
                  refine jw_goto (pc := 118) (tgt := 49) dX5_seenFrom_118 (by decide) ?_
                  refine jW.eq ?_ rfl rfl (ihk (k + 1) hkn (by omega))
                  simp only [anyB]
                  first
                    | (subst h_64; rw [decide_eq_false (show ¬ a ≠ a by simp), Bool.false_and, Bool.false_and]; done)
                    | (rw [h_83, Bool.false_and, Bool.or_false]; done)
                    | (rw [h_103, Bool.and_false, Bool.or_false]; done)
                    | (rw [h_83, h_103, bsel_or, decide_eq_true (show a ≠ b by omega), Bool.and_true, Bool.or_true, Bool.true_and, Bool.or_true]; done)
                · intro h_103
                  refine jw_iload (pc := 106) dX5_seenFrom_106 rfl ?_
                  refine jw_iconst (pc := 108) dX5_seenFrom_108 ic_1 ?_
                  refine jw_iload (pc := 109) dX5_seenFrom_109 rfl ?_
                  refine jw_ishl (pc := 111) dX5_seenFrom_111 ?_
                  rw [shl1 (by omega)]
                  refine jw_ior (pc := 112) dX5_seenFrom_112 ?_
                  rw [nI_or']
                  refine jw_istore (pc := 113) dX5_seenFrom_113 (Nat.le_of_ble_eq_true rfl) rfl ?_
                  try dsimp only [jput1, jput2, jkill, jclr, jis2_i, jis2_l, jis2_rs, jis2_rn, cond]
                  first | refine jx_iinc (pc := 115) dX5_seenFrom_115 rfl rfl ?_ | refine jw_iinc (pc := 115) dX5_seenFrom_115 rfl rfl rfl ?_
                  try dsimp only [jput1, jkill, jclr, jis2_i, jis2_l, jis2_rs, jis2_rn, cond]
                  refine jw_goto (pc := 118) (tgt := 49) dX5_seenFrom_118 (by decide) ?_
                  refine jW.eq ?_ rfl rfl (ihk (k + 1) hkn (by omega))
                  simp only [anyB]
                  first
                    | (subst h_64; rw [decide_eq_false (show ¬ a ≠ a by simp), Bool.false_and, Bool.false_and]; done)
                    | (rw [h_83, Bool.false_and, Bool.or_false]; done)
                    | (rw [h_103, Bool.and_false, Bool.or_false]; done)
                    | (rw [h_83, h_103, bsel_or, decide_eq_true (show a ≠ b by omega), Bool.and_true, Bool.or_true, Bool.true_and, Bool.or_true]; done)
        · have hk' : k = V 0 5 := by omega
          subst hk'
          refine jw_iload (pc := 49) dX5_seenFrom_49 rfl ?_
          refine jw_aload_n (pc := 51) dX5_seenFrom_51 rfl ?_
          refine jx_getRs (pc := 52) (jf_X5_380_4.r) rfl dX5_seenFrom_52 rfl (is_90 hS) (by decide) (hs.r) ?_
          refine jx_getIs (pc := 55) (jf_X5_311_12.r) rfl dX5_seenFrom_55 rfl (wis hw) (by decide) (mi_nm hs.V) ?_
          first | refine jx_icmp_ge (pc := 58) (tgt := 121) dX5_seenFrom_58 (by decide) (by omega) (by omega) ?_ ?_ | refine jw_icmp_ge (pc := 58) (tgt := 121) dX5_seenFrom_58 (by decide) ?_ ?_
          · intro h_58
            first | refine jx_iinc (pc := 121) dX5_seenFrom_121 rfl rfl ?_ | refine jw_iinc (pc := 121) dX5_seenFrom_121 rfl rfl rfl ?_
            try dsimp only [jput1, jkill, jclr, jis2_i, jis2_l, jis2_rs, jis2_rn, cond]
            refine jw_goto (pc := 124) (tgt := 14) dX5_seenFrom_124 (by decide) ?_
            refine jW.sub ?_ (ih (b + 1) hbn (by omega))
            refine ⟨rfl, rfl, rfl, ?_, rfl, trivial⟩
            rw [sf_end]
          · intro h_58
            omega
      refine jw_iload (pc := 14) dX5_seenFrom_14 rfl ?_
      refine jw_aload_n (pc := 16) dX5_seenFrom_16 rfl ?_
      refine jx_getRs (pc := 17) (jf_X5_380_4.r) rfl dX5_seenFrom_17 rfl (is_90 hS) (by decide) (hs.r) ?_
      refine jx_getIs (pc := 20) (jf_X5_218_12.r) rfl dX5_seenFrom_20 rfl (wis hw) (by decide) (mi_np hs.V) ?_
      first | refine jx_icmp_ge (pc := 23) (tgt := 127) dX5_seenFrom_23 (by decide) (by omega) (by omega) ?_ ?_ | refine jw_icmp_ge (pc := 23) (tgt := 127) dX5_seenFrom_23 (by decide) ?_ ?_
      · intro h_23
        omega
      · intro h_23
        refine jw_aload_n (pc := 26) dX5_seenFrom_26 rfl ?_
        refine jw_iload_n (pc := 27) dX5_seenFrom_27 rfl ?_
        refine jw_iload (pc := 28) dX5_seenFrom_28 rfl ?_
        refine jw_iload_n (pc := 30) dX5_seenFrom_30 rfl ?_
        refine jx_cVE (mi1 := mi_X5_isPlain) (pc := 31) rfl dX5_seenFrom_31 lk_X5_408 rfl fi_X5_isPlain rfl rfl rfl (by decide) (is_90 hS) (t_X5_isPlain hs ho hf (by omega) ha hbn) (by first | decide | omega) rfl rfl (by decide) ?_
        first | refine jx_ifb_eq (pc := 34) (tgt := 46) dX5_seenFrom_34 (by decide) ?_ ?_ | refine jx_if_eq (pc := 34) (tgt := 46) dX5_seenFrom_34 (by decide) (by omega) ?_ ?_ | refine jw_if_eq (pc := 34) (tgt := 46) dX5_seenFrom_34 (by decide) ?_ ?_
        · intro h_34
          refine jw_iconst (pc := 46) dX5_seenFrom_46 ic_0 ?_
          refine jw_istore (pc := 47) dX5_seenFrom_47 (Nat.le_of_ble_eq_true rfl) rfl ?_
          try dsimp only [jput1, jput2, jkill, jclr, jis2_i, jis2_l, jis2_rs, jis2_rn, cond]
          refine jW.sub ?_ (L 0 (Nat.zero_le _))
          refine ⟨rfl, rfl, rfl, ?_, rfl, rfl, trivial⟩
          rw [h_34, show anyB 0 (fun k => plainB V r op fg a (V 6 k) && plainB V r op fg (V 6 k) b) = false from rfl, Bool.and_false]
          first | rfl | (show _ = some (Value.int (nI (_ ||| 0))); rw [Nat.or_zero]; done)
        · intro h_34
          refine jw_iload (pc := 37) dX5_seenFrom_37 rfl ?_
          refine jw_iconst (pc := 39) dX5_seenFrom_39 ic_1 ?_
          refine jw_iload (pc := 40) dX5_seenFrom_40 rfl ?_
          refine jw_ishl (pc := 42) dX5_seenFrom_42 ?_
          rw [shl1 (by omega)]
          refine jw_ior (pc := 43) dX5_seenFrom_43 ?_
          rw [nI_or']
          refine jw_istore (pc := 44) dX5_seenFrom_44 (Nat.le_of_ble_eq_true rfl) rfl ?_
          try dsimp only [jput1, jput2, jkill, jclr, jis2_i, jis2_l, jis2_rs, jis2_rn, cond]
          refine jw_iconst (pc := 46) dX5_seenFrom_46 ic_0 ?_
          refine jw_istore (pc := 47) dX5_seenFrom_47 (Nat.le_of_ble_eq_true rfl) rfl ?_
          try dsimp only [jput1, jput2, jkill, jclr, jis2_i, jis2_l, jis2_rs, jis2_rn, cond]
          refine jW.sub ?_ (L 0 (Nat.zero_le _))
          refine ⟨rfl, rfl, rfl, ?_, rfl, rfl, trivial⟩
          rw [h_34, show anyB 0 (fun k => plainB V r op fg a (V 6 k) && plainB V r op fg (V 6 k) b) = false from rfl, Bool.and_false]
          first | rfl | (show _ = some (Value.int (nI (_ ||| 0))); rw [Nat.or_zero]; done)
    · have hk' : b = V 0 0 := by omega
      subst hk'
      refine jw_iload (pc := 14) dX5_seenFrom_14 rfl ?_
      refine jw_aload_n (pc := 16) dX5_seenFrom_16 rfl ?_
      refine jx_getRs (pc := 17) (jf_X5_380_4.r) rfl dX5_seenFrom_17 rfl (is_90 hS) (by decide) (hs.r) ?_
      refine jx_getIs (pc := 20) (jf_X5_218_12.r) rfl dX5_seenFrom_20 rfl (wis hw) (by decide) (mi_np hs.V) ?_
      first | refine jx_icmp_ge (pc := 23) (tgt := 127) dX5_seenFrom_23 (by decide) (by omega) (by omega) ?_ ?_ | refine jw_icmp_ge (pc := 23) (tgt := 127) dX5_seenFrom_23 (by decide) ?_ ?_
      · intro h_23
        refine jw_iload (pc := 127) dX5_seenFrom_127 rfl ?_
        refine jw_ireturn (pc := 129) dX5_seenFrom_129 rfl (rfl) ?_
        refine ⟨?_, rfl⟩
        rw [show 2 ^ a ||| msk (V 0 0) (seesB V r op fg a) = seesS V r op fg a by
          apply Nat.eq_of_testBit_eq
          intro i
          rw [Nat.testBit_or, Nat.testBit_two_pow]
          show (decide (a = i) || (seesS V r op fg a).testBit i) = _
          rw [seesS_bit]
          by_cases e : a = i
          · subst e; simp [ha, seesB]
          · simp [e]]
      · intro h_23
        omega
  refine jw_aload_n (pc := 0) dX5_seenFrom_0 rfl ?_
  refine jw_iload_n (pc := 1) dX5_seenFrom_1 rfl ?_
  refine jx_cVE (mi1 := mi_X5_rangeIn) (pc := 2) rfl dX5_seenFrom_2 lk_X5_405 rfl fi_X5_rangeIn rfl rfl rfl (by decide) (is_90 hS) (t_X5_rangeIn hs ht) (by first | decide | omega) rfl rfl (by decide) ?_
  rw [hR]
  refine jw_istore_n (pc := 5) dX5_seenFrom_5 (Nat.le_of_ble_eq_true rfl) rfl ?_
  try dsimp only [jput1, jput2, jkill, jclr, jis2_i, jis2_l, jis2_rs, jis2_rn, cond]
  refine jw_iconst (pc := 6) dX5_seenFrom_6 ic_1 ?_
  refine jw_iload_n (pc := 7) dX5_seenFrom_7 rfl ?_
  refine jw_ishl (pc := 8) dX5_seenFrom_8 ?_
  rw [shl1 (by omega)]
  refine jw_istore (pc := 9) dX5_seenFrom_9 (Nat.le_of_ble_eq_true rfl) rfl ?_
  try dsimp only [jput1, jput2, jkill, jclr, jis2_i, jis2_l, jis2_rs, jis2_rn, cond]
  refine jw_iconst (pc := 11) dX5_seenFrom_11 ic_0 ?_
  refine jw_istore (pc := 12) dX5_seenFrom_12 (Nat.le_of_ble_eq_true rfl) rfl ?_
  try dsimp only [jput1, jput2, jkill, jclr, jis2_i, jis2_l, jis2_rs, jis2_rn, cond]
  refine jW.sub ?_ (J 0 (Nat.zero_le _))
  refine ⟨rfl, rfl, rfl, ?_, rfl, trivial⟩
  rw [msk_0, Nat.or_zero]; rfl
theorem lt0 {x : Nat} (hx : x < 2 ^ 31) : 0 < nI x ↔ 0 < x := by
  rw [Int32.lt_iff_toInt_lt, nI_toInt hx]
  have : (0 : Int32).toInt = 0 := by decide +kernel
  omega
theorem t_X5_hasEyes {q t : Nat} (hs : jMs M w V op fg) (ht : t < 2 ^ 30) (hq : q < V 0 1) : jE G mi_X5_hasEyes 2 [jr (some 90), .int (nI q), .int (nI t)] M (some (.int (jb (eyesB V q t)))) M := by
  have hS := hs.1
  have hw := hs.s
  have hn := wf_nq hs.w
  obtain ⟨a1, a2, a3, a4, a5⟩ := ma_q hs.V hq
  obtain ⟨b1, b2, b3, b4, b5, b6⟩ := wf_q hs.w hq
  refine jE.of (by decide) rfl (Nat.le_of_ble_eq_true rfl) ?_
  have J65 : ∀ b : Bool, b = sleepB V q t → jW G mi_X5_hasEyes 2 M 65 [some (jr (some 90)), some (.int (nI q)), some (.int (nI t)), some (.int (jb b)), none] [.int (jb (awayB V q t))] M (fun r M' => r = .inl (some (.int (jb (eyesB V q t)))) ∧ M' = M) := by
    intro b hb
    refine jw_istore (pc := 65) dX5_hasEyes_65 (Nat.le_of_ble_eq_true rfl) rfl ?_
    try dsimp only [jput1, jput2, jkill, jclr, jis2_i, jis2_l, jis2_rs, jis2_rn, cond]
    refine jw_aload_n (pc := 67) dX5_hasEyes_67 rfl ?_
    refine jx_getRs (pc := 68) (jf_X5_380_4.r) rfl dX5_hasEyes_68 rfl (is_90 hS) (by decide) (hs.r) ?_
    refine jx_getRs (pc := 71) jg_X5_325_12 rfl dX5_hasEyes_71 rfl (wis hw) (by decide) (wr_14 hw) ?_
    refine jw_iload_n (pc := 74) dX5_hasEyes_74 rfl ?_
    refine jx_zalds (pc := 75) dX5_hasEyes_75 (wok_14 hw) (wnn_14 hw) rfl (by omega) (a5) ?_
    refine jw_if_ne (pc := 76) (tgt := 92) dX5_hasEyes_76 (by decide) ?_ ?_
    · intro h_76
      refine jw_iconst (pc := 92) dX5_hasEyes_92 ic_0 ?_
      refine jw_ireturn (pc := 93) dX5_hasEyes_93 rfl (by first | exact jnar_b _ | exact jnar_0 | exact jnar_1 | decide +kernel) ?_
      refine ⟨jret_f ?_, rfl⟩
      unfold eyesB
      first
        | (rw [← hb, h_80]; simp; done)
        | (rw [h_85]; simp; done)
        | (rw [decide_eq_false (fun e => h_76 (by rw [e]; rfl))]; rfl)
    · intro h_76
      refine jw_iload_n (pc := 79) dX5_hasEyes_79 rfl ?_
      first | refine jx_ifb_ne (pc := 80) (tgt := 92) dX5_hasEyes_80 (by decide) ?_ ?_ | refine jx_if_ne (pc := 80) (tgt := 92) dX5_hasEyes_80 (by decide) (by omega) ?_ ?_ | refine jw_if_ne (pc := 80) (tgt := 92) dX5_hasEyes_80 (by decide) ?_ ?_
      · intro h_80
        refine jw_iconst (pc := 92) dX5_hasEyes_92 ic_0 ?_
        refine jw_ireturn (pc := 93) dX5_hasEyes_93 rfl (by first | exact jnar_b _ | exact jnar_0 | exact jnar_1 | decide +kernel) ?_
        refine ⟨jret_f ?_, rfl⟩
        unfold eyesB
        first
          | (rw [← hb, h_80]; simp; done)
          | (rw [h_85]; simp; done)
          | (rw [decide_eq_false (fun e => h_76 (by rw [e]; rfl))]; rfl)
      · intro h_80
        refine jw_iload (pc := 83) dX5_hasEyes_83 rfl ?_
        first | refine jx_ifb_ne (pc := 85) (tgt := 92) dX5_hasEyes_85 (by decide) ?_ ?_ | refine jx_if_ne (pc := 85) (tgt := 92) dX5_hasEyes_85 (by decide) (by omega) ?_ ?_ | refine jw_if_ne (pc := 85) (tgt := 92) dX5_hasEyes_85 (by decide) ?_ ?_
        · intro h_85
          refine jw_iconst (pc := 92) dX5_hasEyes_92 ic_0 ?_
          refine jw_ireturn (pc := 93) dX5_hasEyes_93 rfl (by first | exact jnar_b _ | exact jnar_0 | exact jnar_1 | decide +kernel) ?_
          refine ⟨jret_f ?_, rfl⟩
          unfold eyesB
          first
            | (rw [← hb, h_80]; simp; done)
            | (rw [h_85]; simp; done)
            | (rw [decide_eq_false (fun e => h_76 (by rw [e]; rfl))]; rfl)
        · intro h_85
          refine jw_iconst (pc := 88) dX5_hasEyes_88 ic_1 ?_
          refine jw_goto (pc := 89) (tgt := 93) dX5_hasEyes_89 (by decide) ?_
          refine jw_ireturn (pc := 93) dX5_hasEyes_93 rfl (by first | exact jnar_b _ | exact jnar_0 | exact jnar_1 | decide +kernel) ?_
          refine ⟨jret_t ?_, rfl⟩
          unfold eyesB
          have h0 : V 12 q = 0 := by
            have h : nI (V 12 q) = 0 := by first | exact h_76 | exact Classical.not_not.mp h_76
            exact (nI_0i (by omega)).mp h
          rw [h0, ← hb, h_80, h_85]; rfl
  have J32 : ∀ b : Bool, b = sleepB V q t → jW G mi_X5_hasEyes 2 M 32 [some (jr (some 90)), some (.int (nI q)), some (.int (nI t)), some (.int (jb b)), none] [] M (fun r M' => r = .inl (some (.int (jb (eyesB V q t)))) ∧ M' = M) := by
    intro b hb
    refine jw_aload_n (pc := 32) dX5_hasEyes_32 rfl ?_
    refine jx_getRs (pc := 33) (jf_X5_380_4.r) rfl dX5_hasEyes_33 rfl (is_90 hS) (by decide) (hs.r) ?_
    refine jx_getRs (pc := 36) jg_X5_328_12 rfl dX5_hasEyes_36 rfl (wis hw) (by decide) (wr_9 hw) ?_
    refine jw_iload_n (pc := 39) dX5_hasEyes_39 rfl ?_
    refine jx_ialds (pc := 40) dX5_hasEyes_40 (wok_9 hw) (wnn_9 hw) rfl (by omega) (a2) ?_
    refine jw_if_le (pc := 41) (tgt := 64) dX5_hasEyes_41 (by decide) ?_ ?_
    · intro h_41
      refine jw_iconst (pc := 64) dX5_hasEyes_64 ic_0 ?_
      refine jw_ff ?_ (J65 b hb); unfold awayB
      first
        | (rw [decide_eq_false (show ¬ (t + 1) % V 13 q = 0 by omega), Bool.and_false]; done)
        | (rw [decide_eq_false (by have := (le0 (show V 13 q < 2 ^ 31 by omega)).mp h_41; omega)]; rfl)
    · intro h_41
      have hp : 0 < V 13 q := by
        have := mt (le0 (show V 13 q < 2 ^ 31 by omega)).mpr h_41
        omega
      have hm : (t + 1) % V 13 q < V 13 q := Nat.mod_lt _ hp
      refine jw_iload_n (pc := 44) dX5_hasEyes_44 rfl ?_
      refine jw_iconst (pc := 45) dX5_hasEyes_45 ic_1 ?_
      first | refine jx_iadd (pc := 46) dX5_hasEyes_46 ?_ | refine jw_iadd (pc := 46) dX5_hasEyes_46 ?_
      refine jw_aload_n (pc := 47) dX5_hasEyes_47 rfl ?_
      refine jx_getRs (pc := 48) (jf_X5_380_4.r) rfl dX5_hasEyes_48 rfl (is_90 hS) (by decide) (hs.r) ?_
      refine jx_getRs (pc := 51) jg_X5_328_12 rfl dX5_hasEyes_51 rfl (wis hw) (by decide) (wr_9 hw) ?_
      refine jw_iload_n (pc := 54) dX5_hasEyes_54 rfl ?_
      refine jx_ialds (pc := 55) dX5_hasEyes_55 (wok_9 hw) (wnn_9 hw) rfl (by omega) (a2) ?_
      refine jw_irem (pc := 56) dX5_hasEyes_56 (ne_nI hp (by omega)) ?_
      rw [i_rem (by omega) hp (by omega)]
      first | refine jx_ifb_ne (pc := 57) (tgt := 64) dX5_hasEyes_57 (by decide) ?_ ?_ | refine jx_if_ne (pc := 57) (tgt := 64) dX5_hasEyes_57 (by decide) (by omega) ?_ ?_ | refine jw_if_ne (pc := 57) (tgt := 64) dX5_hasEyes_57 (by decide) ?_ ?_
      · intro h_57
        refine jw_iconst (pc := 64) dX5_hasEyes_64 ic_0 ?_
        refine jw_ff ?_ (J65 b hb); unfold awayB
        first
          | (rw [decide_eq_false (show ¬ (t + 1) % V 13 q = 0 by omega), Bool.and_false]; done)
          | (rw [decide_eq_false (by have := (le0 (show V 13 q < 2 ^ 31 by omega)).mp h_41; omega)]; rfl)
      · intro h_57
        refine jw_iconst (pc := 60) dX5_hasEyes_60 ic_1 ?_
        refine jw_goto (pc := 61) (tgt := 65) dX5_hasEyes_61 (by decide) ?_
        refine jw_tt ?_ (J65 b hb); unfold awayB; rw [decide_eq_true hp, decide_eq_true (show (t + 1) % V 13 q = 0 by omega)]; rfl
  refine jw_iload_n (pc := 0) dX5_hasEyes_0 rfl ?_
  refine jw_aload_n (pc := 1) dX5_hasEyes_1 rfl ?_
  refine jx_getRs (pc := 2) (jf_X5_380_4.r) rfl dX5_hasEyes_2 rfl (is_90 hS) (by decide) (hs.r) ?_
  refine jx_getRs (pc := 5) jg_X5_330_12 rfl dX5_hasEyes_5 rfl (wis hw) (by decide) (wr_10 hw) ?_
  refine jw_iload_n (pc := 8) dX5_hasEyes_8 rfl ?_
  refine jx_ialds (pc := 9) dX5_hasEyes_9 (wok_10 hw) (wnn_10 hw) rfl (by omega) (a3) ?_
  first | refine jx_icmp_lt (pc := 10) (tgt := 30) dX5_hasEyes_10 (by decide) (by omega) (by omega) ?_ ?_ | refine jw_icmp_lt (pc := 10) (tgt := 30) dX5_hasEyes_10 (by decide) ?_ ?_
  · intro h_10
    refine jw_iconst (pc := 30) dX5_hasEyes_30 ic_0 ?_
    refine jw_istore_n (pc := 31) dX5_hasEyes_31 (Nat.le_of_ble_eq_true rfl) rfl ?_
    try dsimp only [jput1, jput2, jkill, jclr, jis2_i, jis2_l, jis2_rs, jis2_rn, cond]
    first
      | (refine jW.sub ?_ (J32 true (by unfold sleepB; rw [decide_eq_true (show V 14 q ≤ t by omega), decide_eq_true (show t < V 15 q by omega)]; rfl)); exact ⟨rfl, rfl, rfl, rfl, trivial⟩)
      | (refine jW.sub ?_ (J32 false (by unfold sleepB; rw [decide_eq_false (show ¬ V 14 q ≤ t by omega)]; rfl)); exact ⟨rfl, rfl, rfl, rfl, trivial⟩)
      | (refine jW.sub ?_ (J32 false (by unfold sleepB; rw [decide_eq_false (show ¬ t < V 15 q by omega), Bool.and_false])); exact ⟨rfl, rfl, rfl, rfl, trivial⟩)
  · intro h_10
    refine jw_iload_n (pc := 13) dX5_hasEyes_13 rfl ?_
    refine jw_aload_n (pc := 14) dX5_hasEyes_14 rfl ?_
    refine jx_getRs (pc := 15) (jf_X5_380_4.r) rfl dX5_hasEyes_15 rfl (is_90 hS) (by decide) (hs.r) ?_
    refine jx_getRs (pc := 18) jg_X5_332_12 rfl dX5_hasEyes_18 rfl (wis hw) (by decide) (wr_11 hw) ?_
    refine jw_iload_n (pc := 21) dX5_hasEyes_21 rfl ?_
    refine jx_ialds (pc := 22) dX5_hasEyes_22 (wok_11 hw) (wnn_11 hw) rfl (by omega) (a4) ?_
    first | refine jx_icmp_ge (pc := 23) (tgt := 30) dX5_hasEyes_23 (by decide) (by omega) (by omega) ?_ ?_ | refine jw_icmp_ge (pc := 23) (tgt := 30) dX5_hasEyes_23 (by decide) ?_ ?_
    · intro h_23
      refine jw_iconst (pc := 30) dX5_hasEyes_30 ic_0 ?_
      refine jw_istore_n (pc := 31) dX5_hasEyes_31 (Nat.le_of_ble_eq_true rfl) rfl ?_
      try dsimp only [jput1, jput2, jkill, jclr, jis2_i, jis2_l, jis2_rs, jis2_rn, cond]
      first
        | (refine jW.sub ?_ (J32 true (by unfold sleepB; rw [decide_eq_true (show V 14 q ≤ t by omega), decide_eq_true (show t < V 15 q by omega)]; rfl)); exact ⟨rfl, rfl, rfl, rfl, trivial⟩)
        | (refine jW.sub ?_ (J32 false (by unfold sleepB; rw [decide_eq_false (show ¬ V 14 q ≤ t by omega)]; rfl)); exact ⟨rfl, rfl, rfl, rfl, trivial⟩)
        | (refine jW.sub ?_ (J32 false (by unfold sleepB; rw [decide_eq_false (show ¬ t < V 15 q by omega), Bool.and_false])); exact ⟨rfl, rfl, rfl, rfl, trivial⟩)
    · intro h_23
      refine jw_iconst (pc := 26) dX5_hasEyes_26 ic_1 ?_
      refine jw_goto (pc := 27) (tgt := 31) dX5_hasEyes_27 (by decide) ?_
      refine jw_istore_n (pc := 31) dX5_hasEyes_31 (Nat.le_of_ble_eq_true rfl) rfl ?_
      try dsimp only [jput1, jput2, jkill, jclr, jis2_i, jis2_l, jis2_rs, jis2_rn, cond]
      first
        | (refine jW.sub ?_ (J32 true (by unfold sleepB; rw [decide_eq_true (show V 14 q ≤ t by omega), decide_eq_true (show t < V 15 q by omega)]; rfl)); exact ⟨rfl, rfl, rfl, rfl, trivial⟩)
        | (refine jW.sub ?_ (J32 false (by unfold sleepB; rw [decide_eq_false (show ¬ V 14 q ≤ t by omega)]; rfl)); exact ⟨rfl, rfl, rfl, rfl, trivial⟩)
        | (refine jW.sub ?_ (J32 false (by unfold sleepB; rw [decide_eq_false (show ¬ t < V 15 q by omega), Bool.and_false])); exact ⟨rfl, rfl, rfl, rfl, trivial⟩)
theorem eyesS_bit (V : Vt) (t sh q : Nat) : (eyesS V t sh).testBit q = (decide (q < V 0 1) && (!sh.testBit q && eyesB V q t)) := msk_bit _ _ _
theorem t_X5_seeing {r p t sh : Nat} {pl : Nat → Nat} (hs : jMs M w V op fg) (ho : op < 2 ^ 31) (hf : fg < 2 ^ 31) (ht : t < 2 ^ 30) (hR : jPr5 M r V pl) (hp : p < V 0 1) (hsh : sh < 2 ^ 31) : jE G mi_X5_seeing 4 [jr (some 90), jr (some r), .int (nI p), .int (nI t), .int (nI sh)] M (some (.int (nI (watchS V pl (eyesS V t sh) (seesS V (rangeV V t) op fg) p)))) M := by
  have hS := hs.1
  have hw := hs.s
  have hn := wf_nq hs.w
  have hn0 := wf_np hs.w
  obtain ⟨r1, r2, r3⟩ := hR
  obtain ⟨e1, e2⟩ := r3 p hp
  have hb := sees_lt hs.w (rangeV V t) op fg (pl p)
  refine jE.of (by decide) rfl (Nat.le_of_ble_eq_true rfl) ?_
  have J : ∀ k : Nat, k ≤ V 0 1 → jW G mi_X5_seeing 4 M 16 [some (jr (some 90)), some (jr (some r)), some (.int (nI p)), some (.int (nI t)), some (.int (nI sh)), some (.int (nI (msk k (fun q => decide (q ≠ p) && (eyesS V t sh).testBit q && (seesS V (rangeV V t) op fg (pl q)).testBit (pl p))))), some (.int (nI (seesS V (rangeV V t) op fg (pl p)))), some (.int (nI k))] [] M (fun r M' => r = .inl (some (.int (nI (watchS V pl (eyesS V t sh) (seesS V (rangeV V t) op fg) p)))) ∧ M' = M) := by
    refine jW.loop _ (fun k => V 0 1 - k) _ (fun _ => []) (fun _ => M) (fun k hk ih => ?_)
    by_cases hkn : k < V 0 1
    · obtain ⟨q1, q2⟩ := r3 k hkn
      have hm := msk5 (Nat.le_trans hk hn) (fun q => decide (q ≠ p) && (eyesS V t sh).testBit q && (seesS V (rangeV V t) op fg (pl q)).testBit (pl p))
      have hsy := seesS_sym (V := V) (r := rangeV V t) (op := op) (fg := fg) q2 e2
      refine jw_iload (pc := 16) dX5_seeing_16 rfl ?_
      refine jw_aload_n (pc := 18) dX5_seeing_18 rfl ?_
      refine jx_getRs (pc := 19) (jf_X5_380_4.r) rfl dX5_seeing_19 rfl (is_90 hS) (by decide) (hs.r) ?_
      refine jx_getIs (pc := 22) (jf_X5_221_12.r) rfl dX5_seeing_22 rfl (wis hw) (by decide) (mi_nq hs.V) ?_
      first | refine jx_icmp_ge (pc := 25) (tgt := 81) dX5_seeing_25 (by decide) (by omega) (by omega) ?_ ?_ | refine jw_icmp_ge (pc := 25) (tgt := 81) dX5_seeing_25 (by decide) ?_ ?_
      · intro h_25
        omega
      · intro h_25
        refine jw_iload (pc := 28) dX5_seeing_28 rfl ?_
        refine jw_iload_n (pc := 30) dX5_seeing_30 rfl ?_
        first | refine jx_icmp_eq (pc := 31) (tgt := 75) dX5_seeing_31 (by decide) (by omega) (by omega) ?_ ?_ | refine jw_icmp_eq (pc := 31) (tgt := 75) dX5_seeing_31 (by decide) ?_ ?_
        · intro h_31
          first | refine jx_iinc (pc := 75) dX5_seeing_75 rfl rfl ?_ | refine jw_iinc (pc := 75) dX5_seeing_75 rfl rfl rfl ?_
          try dsimp only [jput1, jkill, jclr, jis2_i, jis2_l, jis2_rs, jis2_rn, cond]
          refine jw_goto (pc := 78) (tgt := 16) dX5_seeing_78 (by decide) ?_
          refine jW.eq ?_ rfl rfl (ih (k + 1) hkn (by omega))
          have hstep : msk (k + 1) (fun q => decide (q ≠ p) && (eyesS V t sh).testBit q && (seesS V (rangeV V t) op fg (pl q)).testBit (pl p)) = msk k (fun q => decide (q ≠ p) && (eyesS V t sh).testBit q && (seesS V (rangeV V t) op fg (pl q)).testBit (pl p)) ||| bsel (decide (k ≠ p) && (!sh.testBit k && eyesB V k t) && (seesS V (rangeV V t) op fg (pl p)).testBit (pl k)) (2 ^ k) := by
            rw [msk_s, bsel_if, eyesS_bit, hsy]; simp [hkn]
          rw [hstep]
          first
            | (subst h_31; simp [bsel]; done)
            | (rw [h_41]; simp [bsel]; done)
            | (rw [h_51]; simp [bsel]; done)
            | (rw [h_63]; simp [bsel]; done)
            | (rw [h_41, h_51, h_63, decide_eq_true (show k ≠ p by omega)]; rfl)
        · intro h_31
          refine jw_iload (pc := 34) dX5_seeing_34 rfl ?_
          refine jw_iload (pc := 36) dX5_seeing_36 rfl ?_
          refine jx_cSE (mi1 := mi_X5_has) (pc := 38) rfl dX5_seeing_38 lk_X5_398 rfl fi_X5_has (t_X5_has hsh (by omega)) (by first | decide | omega) rfl rfl (by decide) ?_
          first | refine jx_ifb_ne (pc := 41) (tgt := 75) dX5_seeing_41 (by decide) ?_ ?_ | refine jx_if_ne (pc := 41) (tgt := 75) dX5_seeing_41 (by decide) (by omega) ?_ ?_ | refine jw_if_ne (pc := 41) (tgt := 75) dX5_seeing_41 (by decide) ?_ ?_
          · intro h_41
            first | refine jx_iinc (pc := 75) dX5_seeing_75 rfl rfl ?_ | refine jw_iinc (pc := 75) dX5_seeing_75 rfl rfl rfl ?_
            try dsimp only [jput1, jkill, jclr, jis2_i, jis2_l, jis2_rs, jis2_rn, cond]
            refine jw_goto (pc := 78) (tgt := 16) dX5_seeing_78 (by decide) ?_
            refine jW.eq ?_ rfl rfl (ih (k + 1) hkn (by omega))
            have hstep : msk (k + 1) (fun q => decide (q ≠ p) && (eyesS V t sh).testBit q && (seesS V (rangeV V t) op fg (pl q)).testBit (pl p)) = msk k (fun q => decide (q ≠ p) && (eyesS V t sh).testBit q && (seesS V (rangeV V t) op fg (pl q)).testBit (pl p)) ||| bsel (decide (k ≠ p) && (!sh.testBit k && eyesB V k t) && (seesS V (rangeV V t) op fg (pl p)).testBit (pl k)) (2 ^ k) := by
              rw [msk_s, bsel_if, eyesS_bit, hsy]; simp [hkn]
            rw [hstep]
            first
              | (subst h_31; simp [bsel]; done)
              | (rw [h_41]; simp [bsel]; done)
              | (rw [h_51]; simp [bsel]; done)
              | (rw [h_63]; simp [bsel]; done)
              | (rw [h_41, h_51, h_63, decide_eq_true (show k ≠ p by omega)]; rfl)
          · intro h_41
            refine jw_aload_n (pc := 44) dX5_seeing_44 rfl ?_
            refine jw_iload (pc := 45) dX5_seeing_45 rfl ?_
            refine jw_iload_n (pc := 47) dX5_seeing_47 rfl ?_
            refine jx_cVE (mi1 := mi_X5_hasEyes) (pc := 48) rfl dX5_seeing_48 lk_X5_426 rfl fi_X5_hasEyes rfl rfl rfl (by decide) (is_90 hS) (t_X5_hasEyes hs ht hkn) (by first | decide | omega) rfl rfl (by decide) ?_
            first | refine jx_ifb_eq (pc := 51) (tgt := 75) dX5_seeing_51 (by decide) ?_ ?_ | refine jx_if_eq (pc := 51) (tgt := 75) dX5_seeing_51 (by decide) (by omega) ?_ ?_ | refine jw_if_eq (pc := 51) (tgt := 75) dX5_seeing_51 (by decide) ?_ ?_
            · intro h_51
              first | refine jx_iinc (pc := 75) dX5_seeing_75 rfl rfl ?_ | refine jw_iinc (pc := 75) dX5_seeing_75 rfl rfl rfl ?_
              try dsimp only [jput1, jkill, jclr, jis2_i, jis2_l, jis2_rs, jis2_rn, cond]
              refine jw_goto (pc := 78) (tgt := 16) dX5_seeing_78 (by decide) ?_
              refine jW.eq ?_ rfl rfl (ih (k + 1) hkn (by omega))
              have hstep : msk (k + 1) (fun q => decide (q ≠ p) && (eyesS V t sh).testBit q && (seesS V (rangeV V t) op fg (pl q)).testBit (pl p)) = msk k (fun q => decide (q ≠ p) && (eyesS V t sh).testBit q && (seesS V (rangeV V t) op fg (pl q)).testBit (pl p)) ||| bsel (decide (k ≠ p) && (!sh.testBit k && eyesB V k t) && (seesS V (rangeV V t) op fg (pl p)).testBit (pl k)) (2 ^ k) := by
                rw [msk_s, bsel_if, eyesS_bit, hsy]; simp [hkn]
              rw [hstep]
              first
                | (subst h_31; simp [bsel]; done)
                | (rw [h_41]; simp [bsel]; done)
                | (rw [h_51]; simp [bsel]; done)
                | (rw [h_63]; simp [bsel]; done)
                | (rw [h_41, h_51, h_63, decide_eq_true (show k ≠ p by omega)]; rfl)
            · intro h_51
              refine jw_iload (pc := 54) dX5_seeing_54 rfl ?_
              refine jw_aload_n (pc := 56) dX5_seeing_56 rfl ?_
              refine jw_iload (pc := 57) dX5_seeing_57 rfl ?_
              refine jx_ialds (pc := 59) dX5_seeing_59 (r1) (r2) rfl (by omega) (q1) ?_
              refine jx_cSE (mi1 := mi_X5_has) (pc := 60) rfl dX5_seeing_60 lk_X5_398 rfl fi_X5_has (t_X5_has (by omega) (by omega)) (by first | decide | omega) rfl rfl (by decide) ?_
              first | refine jx_ifb_eq (pc := 63) (tgt := 75) dX5_seeing_63 (by decide) ?_ ?_ | refine jx_if_eq (pc := 63) (tgt := 75) dX5_seeing_63 (by decide) (by omega) ?_ ?_ | refine jw_if_eq (pc := 63) (tgt := 75) dX5_seeing_63 (by decide) ?_ ?_
              · intro h_63
                first | refine jx_iinc (pc := 75) dX5_seeing_75 rfl rfl ?_ | refine jw_iinc (pc := 75) dX5_seeing_75 rfl rfl rfl ?_
                try dsimp only [jput1, jkill, jclr, jis2_i, jis2_l, jis2_rs, jis2_rn, cond]
                refine jw_goto (pc := 78) (tgt := 16) dX5_seeing_78 (by decide) ?_
                refine jW.eq ?_ rfl rfl (ih (k + 1) hkn (by omega))
                have hstep : msk (k + 1) (fun q => decide (q ≠ p) && (eyesS V t sh).testBit q && (seesS V (rangeV V t) op fg (pl q)).testBit (pl p)) = msk k (fun q => decide (q ≠ p) && (eyesS V t sh).testBit q && (seesS V (rangeV V t) op fg (pl q)).testBit (pl p)) ||| bsel (decide (k ≠ p) && (!sh.testBit k && eyesB V k t) && (seesS V (rangeV V t) op fg (pl p)).testBit (pl k)) (2 ^ k) := by
                  rw [msk_s, bsel_if, eyesS_bit, hsy]; simp [hkn]
                rw [hstep]
                first
                  | (subst h_31; simp [bsel]; done)
                  | (rw [h_41]; simp [bsel]; done)
                  | (rw [h_51]; simp [bsel]; done)
                  | (rw [h_63]; simp [bsel]; done)
                  | (rw [h_41, h_51, h_63, decide_eq_true (show k ≠ p by omega)]; rfl)
              · intro h_63
                refine jw_iload (pc := 66) dX5_seeing_66 rfl ?_
                refine jw_iconst (pc := 68) dX5_seeing_68 ic_1 ?_
                refine jw_iload (pc := 69) dX5_seeing_69 rfl ?_
                refine jw_ishl (pc := 71) dX5_seeing_71 ?_
                rw [shl1 (by omega)]
                refine jw_ior (pc := 72) dX5_seeing_72 ?_
                rw [nI_or']
                refine jw_istore (pc := 73) dX5_seeing_73 (Nat.le_of_ble_eq_true rfl) rfl ?_
                try dsimp only [jput1, jput2, jkill, jclr, jis2_i, jis2_l, jis2_rs, jis2_rn, cond]
                first | refine jx_iinc (pc := 75) dX5_seeing_75 rfl rfl ?_ | refine jw_iinc (pc := 75) dX5_seeing_75 rfl rfl rfl ?_
                try dsimp only [jput1, jkill, jclr, jis2_i, jis2_l, jis2_rs, jis2_rn, cond]
                refine jw_goto (pc := 78) (tgt := 16) dX5_seeing_78 (by decide) ?_
                refine jW.eq ?_ rfl rfl (ih (k + 1) hkn (by omega))
                have hstep : msk (k + 1) (fun q => decide (q ≠ p) && (eyesS V t sh).testBit q && (seesS V (rangeV V t) op fg (pl q)).testBit (pl p)) = msk k (fun q => decide (q ≠ p) && (eyesS V t sh).testBit q && (seesS V (rangeV V t) op fg (pl q)).testBit (pl p)) ||| bsel (decide (k ≠ p) && (!sh.testBit k && eyesB V k t) && (seesS V (rangeV V t) op fg (pl p)).testBit (pl k)) (2 ^ k) := by
                  rw [msk_s, bsel_if, eyesS_bit, hsy]; simp [hkn]
                rw [hstep]
                first
                  | (subst h_31; simp [bsel]; done)
                  | (rw [h_41]; simp [bsel]; done)
                  | (rw [h_51]; simp [bsel]; done)
                  | (rw [h_63]; simp [bsel]; done)
                  | (rw [h_41, h_51, h_63, decide_eq_true (show k ≠ p by omega)]; rfl)
    · have hk' : k = V 0 1 := by omega
      subst hk'
      refine jw_iload (pc := 16) dX5_seeing_16 rfl ?_
      refine jw_aload_n (pc := 18) dX5_seeing_18 rfl ?_
      refine jx_getRs (pc := 19) (jf_X5_380_4.r) rfl dX5_seeing_19 rfl (is_90 hS) (by decide) (hs.r) ?_
      refine jx_getIs (pc := 22) (jf_X5_221_12.r) rfl dX5_seeing_22 rfl (wis hw) (by decide) (mi_nq hs.V) ?_
      first | refine jx_icmp_ge (pc := 25) (tgt := 81) dX5_seeing_25 (by decide) (by omega) (by omega) ?_ ?_ | refine jw_icmp_ge (pc := 25) (tgt := 81) dX5_seeing_25 (by decide) ?_ ?_
      · intro h_25
        refine jw_iload (pc := 81) dX5_seeing_81 rfl ?_
        refine jw_ireturn (pc := 83) dX5_seeing_83 rfl (rfl) ?_
        exact ⟨rfl, rfl⟩
      · intro h_25
        omega
  refine jw_iconst (pc := 0) dX5_seeing_0 ic_0 ?_
  refine jw_istore (pc := 1) dX5_seeing_1 (Nat.le_of_ble_eq_true rfl) rfl ?_
  try dsimp only [jput1, jput2, jkill, jclr, jis2_i, jis2_l, jis2_rs, jis2_rn, cond]
  refine jw_aload_n (pc := 3) dX5_seeing_3 rfl ?_
  refine jw_aload_n (pc := 4) dX5_seeing_4 rfl ?_
  refine jw_iload_n (pc := 5) dX5_seeing_5 rfl ?_
  refine jx_ialds (pc := 6) dX5_seeing_6 (r1) (r2) rfl (by omega) (e1) ?_
  refine jw_iload_n (pc := 7) dX5_seeing_7 rfl ?_
  refine jx_cVE (mi1 := mi_X5_seenFrom) (pc := 8) rfl dX5_seeing_8 lk_X5_417 rfl fi_X5_seenFrom rfl rfl rfl (by decide) (is_90 hS) (t_X5_seenFrom hs ho hf ht e2) (by first | decide | omega) rfl rfl (by decide) ?_
  refine jw_istore (pc := 11) dX5_seeing_11 (Nat.le_of_ble_eq_true rfl) rfl ?_
  try dsimp only [jput1, jput2, jkill, jclr, jis2_i, jis2_l, jis2_rs, jis2_rn, cond]
  refine jw_iconst (pc := 13) dX5_seeing_13 ic_0 ?_
  refine jw_istore (pc := 14) dX5_seeing_14 (Nat.le_of_ble_eq_true rfl) rfl ?_
  try dsimp only [jput1, jput2, jkill, jclr, jis2_i, jis2_l, jis2_rs, jis2_rn, cond]
  refine jW.sub ?_ (J 0 (Nat.zero_le _))
  exact ⟨rfl, rfl, rfl, rfl, rfl, rfl, rfl, rfl, trivial⟩
theorem unseen_0 (V : Vt) (pl : Nat → Nat) (eyes : Nat) (S : Nat → Nat) : unseenS V pl eyes S = 0 ↔ ∀ p, p < V 0 1 → watchS V pl eyes S p ≠ 0 := by
  constructor
  · intro h p hp h0
    have : (unseenS V pl eyes S).testBit p = true := by
      unfold unseenS; rw [msk_bit, decide_eq_true hp, decide_eq_true h0]; rfl
    rw [h, Nat.zero_testBit] at this
    cases this
  · intro h
    apply Nat.eq_of_testBit_eq
    intro p
    unfold unseenS
    rw [msk_bit, Nat.zero_testBit]
    by_cases hp : p < V 0 1
    · rw [decide_eq_false (h p hp), Bool.and_false]
    · rw [decide_eq_false hp]; rfl
theorem t_X5_isLawful {r t sh : Nat} {pl : Nat → Nat} (hs : jMs M w V op fg) (ho : op < 2 ^ 31) (hf : fg < 2 ^ 31) (ht : t < 2 ^ 30) (hR : jPr5 M r V pl) (hsh : sh < 2 ^ 31) : jE G mi_X5_isLawful 5 [jr (some 90), jr (some r), .int (nI t), .int (nI sh)] M (some (.int (jb (lawB V pl (eyesS V t sh) (seesS V (rangeV V t) op fg))))) M := by
  have hS := hs.1
  have hw := hs.s
  have hn := wf_nq hs.w
  have hn0 := wf_np hs.w
  have hnr := wf_nr hs.w
  have r1 := hR.1
  have r2 := hR.2.1
  refine jE.of (by decide) rfl (Nat.le_of_ble_eq_true rfl) ?_
  have J2 : unseenS V pl (eyesS V t sh) (seesS V (rangeV V t) op fg) = 0 → ∀ k : Nat, (k ≤ V 0 6 ∧ allB k (pairB V pl (seesS V (rangeV V t) op fg)) = true) → jW G mi_X5_isLawful 5 M 38 [some (jr (some 90)), some (jr (some r)), some (.int (nI t)), some (.int (nI sh)), some (.int (nI k)), none, none] [] M (fun r M' => r = .inl (some (.int (jb (lawB V pl (eyesS V t sh) (seesS V (rangeV V t) op fg))))) ∧ M' = M) := by
    intro hu
    refine jW.loop _ (fun k => V 0 6 - k) _ (fun _ => []) (fun _ => M) (fun k hk ih => ?_)
    obtain ⟨hk, hall⟩ := hk
    by_cases hkn : k < V 0 6
    · obtain ⟨a1, a2⟩ := ma_r hs.V hkn
      obtain ⟨c1, c2⟩ := wf_r hs.w hkn
      obtain ⟨q1, q2⟩ := hR.2.2 _ c1
      obtain ⟨q3, q4⟩ := hR.2.2 _ c2
      have hb := sees_lt hs.w (rangeV V t) op fg (pl (V 7 k))
      refine jw_iload (pc := 38) dX5_isLawful_38 rfl ?_
      refine jw_aload_n (pc := 40) dX5_isLawful_40 rfl ?_
      refine jx_getRs (pc := 41) (jf_X5_380_4.r) rfl dX5_isLawful_41 rfl (is_90 hS) (by decide) (hs.r) ?_
      refine jx_getIs (pc := 44) (jf_X5_335_12.r) rfl dX5_isLawful_44 rfl (wis hw) (by decide) (mi_nr hs.V) ?_
      first | refine jx_icmp_ge (pc := 47) (tgt := 108) dX5_isLawful_47 (by decide) (by omega) (by omega) ?_ ?_ | refine jw_icmp_ge (pc := 47) (tgt := 108) dX5_isLawful_47 (by decide) ?_ ?_
      · intro h_47
        omega
      · intro h_47
        refine jw_aload_n (pc := 50) dX5_isLawful_50 rfl ?_
        refine jw_aload_n (pc := 51) dX5_isLawful_51 rfl ?_
        refine jx_getRs (pc := 52) (jf_X5_380_4.r) rfl dX5_isLawful_52 rfl (is_90 hS) (by decide) (hs.r) ?_
        refine jx_getRs (pc := 55) jg_X5_338_12 rfl dX5_isLawful_55 rfl (wis hw) (by decide) (wr_12 hw) ?_
        refine jw_iload (pc := 58) dX5_isLawful_58 rfl ?_
        refine jx_ialds (pc := 60) dX5_isLawful_60 (wok_12 hw) (wnn_12 hw) rfl (by omega) (a1) ?_
        refine jx_ialds (pc := 61) dX5_isLawful_61 (r1) (r2) rfl (by omega) (q1) ?_
        refine jw_istore (pc := 62) dX5_isLawful_62 (Nat.le_of_ble_eq_true rfl) rfl ?_
        try dsimp only [jput1, jput2, jkill, jclr, jis2_i, jis2_l, jis2_rs, jis2_rn, cond]
        refine jw_aload_n (pc := 64) dX5_isLawful_64 rfl ?_
        refine jw_aload_n (pc := 65) dX5_isLawful_65 rfl ?_
        refine jx_getRs (pc := 66) (jf_X5_380_4.r) rfl dX5_isLawful_66 rfl (is_90 hS) (by decide) (hs.r) ?_
        refine jx_getRs (pc := 69) jg_X5_341_12 rfl dX5_isLawful_69 rfl (wis hw) (by decide) (wr_13 hw) ?_
        refine jw_iload (pc := 72) dX5_isLawful_72 rfl ?_
        refine jx_ialds (pc := 74) dX5_isLawful_74 (wok_13 hw) (wnn_13 hw) rfl (by omega) (a2) ?_
        refine jx_ialds (pc := 75) dX5_isLawful_75 (r1) (r2) rfl (by omega) (q3) ?_
        refine jw_istore (pc := 76) dX5_isLawful_76 (Nat.le_of_ble_eq_true rfl) rfl ?_
        try dsimp only [jput1, jput2, jkill, jclr, jis2_i, jis2_l, jis2_rs, jis2_rn, cond]
        refine jw_iload (pc := 78) dX5_isLawful_78 rfl ?_
        refine jw_iload (pc := 80) dX5_isLawful_80 rfl ?_
        first | refine jx_icmp_eq (pc := 82) (tgt := 100) dX5_isLawful_82 (by decide) (by omega) (by omega) ?_ ?_ | refine jw_icmp_eq (pc := 82) (tgt := 100) dX5_isLawful_82 (by decide) ?_ ?_
        · intro h_82
          refine jw_iconst (pc := 100) dX5_isLawful_100 ic_0 ?_
          refine jw_ireturn (pc := 101) dX5_isLawful_101 rfl (by first | exact jnar_b _ | exact jnar_0 | exact jnar_1 | decide +kernel) ?_
          refine ⟨jret_f ?_, rfl⟩
          have hp : pairB V pl (seesS V (rangeV V t) op fg) k = false := by
            unfold pairB
            first | (rw [h_97, Bool.and_false]; done) | (rw [decide_eq_false (by omega)]; rfl)
          have ha : allB (V 0 6) (pairB V pl (seesS V (rangeV V t) op fg)) = false := allB_f hkn (by rw [allB_s, hp, Bool.and_false])
          unfold lawB; rw [ha]; rfl
        · intro h_82
          refine jw_aload_n (pc := 85) dX5_isLawful_85 rfl ?_
          refine jw_iload (pc := 86) dX5_isLawful_86 rfl ?_
          refine jw_iload_n (pc := 88) dX5_isLawful_88 rfl ?_
          refine jx_cVE (mi1 := mi_X5_seenFrom) (pc := 89) rfl dX5_isLawful_89 lk_X5_417 rfl fi_X5_seenFrom rfl rfl rfl (by decide) (is_90 hS) (t_X5_seenFrom hs ho hf ht q2) (by first | decide | omega) rfl rfl (by decide) ?_
          refine jw_iload (pc := 92) dX5_isLawful_92 rfl ?_
          refine jx_cSE (mi1 := mi_X5_has) (pc := 94) rfl dX5_isLawful_94 lk_X5_398 rfl fi_X5_has (t_X5_has (by omega) (by omega)) (by first | decide | omega) rfl rfl (by decide) ?_
          first | refine jx_ifb_ne (pc := 97) (tgt := 102) dX5_isLawful_97 (by decide) ?_ ?_ | refine jx_if_ne (pc := 97) (tgt := 102) dX5_isLawful_97 (by decide) (by omega) ?_ ?_ | refine jw_if_ne (pc := 97) (tgt := 102) dX5_isLawful_97 (by decide) ?_ ?_
          · intro h_97
            first | refine jx_iinc (pc := 102) dX5_isLawful_102 rfl rfl ?_ | refine jw_iinc (pc := 102) dX5_isLawful_102 rfl rfl rfl ?_
            try dsimp only [jput1, jkill, jclr, jis2_i, jis2_l, jis2_rs, jis2_rn, cond]
            refine jw_goto (pc := 105) (tgt := 38) dX5_isLawful_105 (by decide) ?_
            refine jW.sub ?_ (ih (k + 1) ⟨hkn, ?_⟩ (by omega))
            · exact ⟨rfl, rfl, rfl, rfl, rfl, trivial⟩
            · rw [allB_s, hall]
              unfold pairB
              rw [h_97, decide_eq_true (by omega)]; rfl
          · intro h_97
            refine jw_iconst (pc := 100) dX5_isLawful_100 ic_0 ?_
            refine jw_ireturn (pc := 101) dX5_isLawful_101 rfl (by first | exact jnar_b _ | exact jnar_0 | exact jnar_1 | decide +kernel) ?_
            refine ⟨jret_f ?_, rfl⟩
            have hp : pairB V pl (seesS V (rangeV V t) op fg) k = false := by
              unfold pairB
              first | (rw [h_97, Bool.and_false]; done) | (rw [decide_eq_false (by omega)]; rfl)
            have ha : allB (V 0 6) (pairB V pl (seesS V (rangeV V t) op fg)) = false := allB_f hkn (by rw [allB_s, hp, Bool.and_false])
            unfold lawB; rw [ha]; rfl
    · have hk' : k = V 0 6 := by omega
      subst hk'
      refine jw_iload (pc := 38) dX5_isLawful_38 rfl ?_
      refine jw_aload_n (pc := 40) dX5_isLawful_40 rfl ?_
      refine jx_getRs (pc := 41) (jf_X5_380_4.r) rfl dX5_isLawful_41 rfl (is_90 hS) (by decide) (hs.r) ?_
      refine jx_getIs (pc := 44) (jf_X5_335_12.r) rfl dX5_isLawful_44 rfl (wis hw) (by decide) (mi_nr hs.V) ?_
      first | refine jx_icmp_ge (pc := 47) (tgt := 108) dX5_isLawful_47 (by decide) (by omega) (by omega) ?_ ?_ | refine jw_icmp_ge (pc := 47) (tgt := 108) dX5_isLawful_47 (by decide) ?_ ?_
      · intro h_47
        refine jw_iconst (pc := 108) dX5_isLawful_108 ic_1 ?_
        refine jw_ireturn (pc := 109) dX5_isLawful_109 rfl (by first | exact jnar_b _ | exact jnar_0 | exact jnar_1 | decide +kernel) ?_
        refine ⟨jret_t ?_, rfl⟩
        unfold lawB; rw [hall, decide_eq_true hu]; rfl
      · intro h_47
        omega
  have J : ∀ k : Nat, (k ≤ V 0 1 ∧ ∀ p, p < k → watchS V pl (eyesS V t sh) (seesS V (rangeV V t) op fg) p ≠ 0) → jW G mi_X5_isLawful 5 M 3 [some (jr (some 90)), some (jr (some r)), some (.int (nI t)), some (.int (nI sh)), some (.int (nI k)), none, none] [] M (fun r M' => r = .inl (some (.int (jb (lawB V pl (eyesS V t sh) (seesS V (rangeV V t) op fg))))) ∧ M' = M) := by
    refine jW.loop _ (fun k => V 0 1 - k) _ (fun _ => []) (fun _ => M) (fun k hk ih => ?_)
    obtain ⟨hk, hall⟩ := hk
    by_cases hkn : k < V 0 1
    · have hm : watchS V pl (eyesS V t sh) (seesS V (rangeV V t) op fg) k < 32 := msk5 hn _
      refine jw_iload (pc := 3) dX5_isLawful_3 rfl ?_
      refine jw_aload_n (pc := 5) dX5_isLawful_5 rfl ?_
      refine jx_getRs (pc := 6) (jf_X5_380_4.r) rfl dX5_isLawful_6 rfl (is_90 hS) (by decide) (hs.r) ?_
      refine jx_getIs (pc := 9) (jf_X5_221_12.r) rfl dX5_isLawful_9 rfl (wis hw) (by decide) (mi_nq hs.V) ?_
      first | refine jx_icmp_ge (pc := 12) (tgt := 35) dX5_isLawful_12 (by decide) (by omega) (by omega) ?_ ?_ | refine jw_icmp_ge (pc := 12) (tgt := 35) dX5_isLawful_12 (by decide) ?_ ?_
      · intro h_12
        omega
      · intro h_12
        refine jw_aload_n (pc := 15) dX5_isLawful_15 rfl ?_
        refine jw_aload_n (pc := 16) dX5_isLawful_16 rfl ?_
        refine jw_iload (pc := 17) dX5_isLawful_17 rfl ?_
        refine jw_iload_n (pc := 19) dX5_isLawful_19 rfl ?_
        refine jw_iload_n (pc := 20) dX5_isLawful_20 rfl ?_
        refine jx_cVE (mi1 := mi_X5_seeing) (pc := 21) rfl dX5_isLawful_21 lk_X5_429 rfl fi_X5_seeing rfl rfl rfl (by decide) (is_90 hS) (t_X5_seeing hs ho hf ht hR hkn hsh) (by first | decide | omega) rfl rfl (by decide) ?_
        first | refine jx_ifb_ne (pc := 24) (tgt := 29) dX5_isLawful_24 (by decide) ?_ ?_ | refine jx_if_ne (pc := 24) (tgt := 29) dX5_isLawful_24 (by decide) (by omega) ?_ ?_ | refine jw_if_ne (pc := 24) (tgt := 29) dX5_isLawful_24 (by decide) ?_ ?_
        · intro h_24
          first | refine jx_iinc (pc := 29) dX5_isLawful_29 rfl rfl ?_ | refine jw_iinc (pc := 29) dX5_isLawful_29 rfl rfl rfl ?_
          try dsimp only [jput1, jkill, jclr, jis2_i, jis2_l, jis2_rs, jis2_rn, cond]
          refine jw_goto (pc := 32) (tgt := 3) dX5_isLawful_32 (by decide) ?_
          refine ih (k + 1) ⟨hkn, fun p hp => ?_⟩ (by omega)
          by_cases e : p = k
          · subst e; omega
          · exact hall p (by omega)
        · intro h_24
          refine jw_iconst (pc := 27) dX5_isLawful_27 ic_0 ?_
          refine jw_ireturn (pc := 28) dX5_isLawful_28 rfl (by first | exact jnar_b _ | exact jnar_0 | exact jnar_1 | decide +kernel) ?_
          refine ⟨jret_f ?_, rfl⟩
          unfold lawB
          rw [decide_eq_false (fun e => (unseen_0 _ _ _ _).mp e k hkn (by omega)), Bool.and_false]
    · have hk' : k = V 0 1 := by omega
      subst hk'
      refine jw_iload (pc := 3) dX5_isLawful_3 rfl ?_
      refine jw_aload_n (pc := 5) dX5_isLawful_5 rfl ?_
      refine jx_getRs (pc := 6) (jf_X5_380_4.r) rfl dX5_isLawful_6 rfl (is_90 hS) (by decide) (hs.r) ?_
      refine jx_getIs (pc := 9) (jf_X5_221_12.r) rfl dX5_isLawful_9 rfl (wis hw) (by decide) (mi_nq hs.V) ?_
      first | refine jx_icmp_ge (pc := 12) (tgt := 35) dX5_isLawful_12 (by decide) (by omega) (by omega) ?_ ?_ | refine jw_icmp_ge (pc := 12) (tgt := 35) dX5_isLawful_12 (by decide) ?_ ?_
      · intro h_12
        refine jw_iconst (pc := 35) dX5_isLawful_35 ic_0 ?_
        refine jw_istore (pc := 36) dX5_isLawful_36 (Nat.le_of_ble_eq_true rfl) rfl ?_
        try dsimp only [jput1, jput2, jkill, jclr, jis2_i, jis2_l, jis2_rs, jis2_rn, cond]
        exact J2 ((unseen_0 _ _ _ _).mpr hall) 0 ⟨Nat.zero_le _, rfl⟩
      · intro h_12
        omega
  refine jw_iconst (pc := 0) dX5_isLawful_0 ic_0 ?_
  refine jw_istore (pc := 1) dX5_isLawful_1 (Nat.le_of_ble_eq_true rfl) rfl ?_
  try dsimp only [jput1, jput2, jkill, jclr, jis2_i, jis2_l, jis2_rs, jis2_rn, cond]
  exact J 0 ⟨Nat.zero_le _, fun p hp => absurd hp (Nat.not_lt_zero _)⟩
end JM1
