/-! ===== x's small helpers ===== -/
def ixV (o : Option Vt) (i : Nat) (a : Int32) : Bool := match o with
  | none => false
  | some V => isIx (V 0 i) a
def stepW (o : Option Vt) (t : Int32) : Int32 := match o with
  | none => 1
  | some _ => if isIx 200 t then 0 else 2
def sgt (V : Vt) (t : Nat) : Nat := if nightB V t then 72 else 69
theorem inb_200 {a : Int32} : inb a (nI 0) (nI 199) = isIx 200 a := inb_ix' (n := 199) (by decide)
theorem jis2_i (x : Int32) : jis2 (.int x) = false := rfl
theorem jis2_l (x : Int64) : jis2 (.long x) = true := rfl
theorem jis2_rs (x : Nat) : jis2 (jr (some x)) = false := rfl
theorem cat_i (x : Int32) : (Value.int x).category = 1 := rfl
theorem cat_l (x : Int64) : (Value.long x).category = 2 := rfl
theorem jis2_rn : jis2 (jr none) = false := rfl
section JX2
variable {G : Gh} {M : Mm} {v : Nat} {V : Vt} {σ : Sg}
theorem t_X1_isStep {t : Int32} : jE G mi_X1_isStep 2 [.int t] M (some (.int (jb (isIx 200 t)))) M := by
  refine jE.of (by decide) rfl (Nat.le_of_ble_eq_true rfl) ?_
  refine jw_iload_n (pc := 0) dX1_isStep_0 rfl ?_
  refine jw_iconst (pc := 1) dX1_isStep_1 ic_0 ?_
  refine jw_sipush (pc := 2) dX1_isStep_2 sp_199 ?_
  refine jx_cSE (mi1 := mi_X1_in) (pc := 5) rfl dX1_isStep_5 lk_X1_94 rfl fi_X1_in (t_X1_in) (by first | decide | omega) rfl rfl (by decide) ?_
  refine jw_ireturn (pc := 8) dX1_isStep_8 rfl (by first | exact jnar_b _ | exact jnar_0 | exact jnar_1 | decide +kernel) ?_
  exact ⟨by rw [inb_200], rfl⟩
theorem t_X1_isPlace {a : Int32} {o : Option Vt} (h : jXx M σ) (ho : sv σ = o) : jE G mi_X1_isPlace 2 [jr (some 64), .int a] M (some (.int (jb (ixV o 0 a)))) M := by
  have hS := h.1
  refine jE.of (by decide) rfl (Nat.le_of_ble_eq_true rfl) ?_
  subst ho
  cases hv9 : sv σ with
  | none =>
    have hn := h.no hv9
    refine jw_aload_n (pc := 0) dX1_isPlace_0 rfl ?_
    refine jx_getRs (pc := 1) (jf_X1_109_0.r) rfl dX1_isPlace_1 rfl (is_64 hS) (by decide) (hn) ?_
    refine jw_ifnull (pc := 4) (tgt := 28) dX1_isPlace_4 (by decide) (fun h => ?_) (fun ax h => by cases h)
    clear h
    refine jw_iconst (pc := 28) dX1_isPlace_28 ic_0 ?_
    refine jw_ireturn (pc := 29) dX1_isPlace_29 rfl (by first | exact jnar_b _ | exact jnar_0 | exact jnar_1 | decide +kernel) ?_
    refine ⟨jret_f ?_, rfl⟩
    rfl
  | some V =>
    obtain ⟨v, hs, -⟩ := h.so hv9
    have hv := hs.s
    have hn := wf_np hs.w
    refine jw_aload_n (pc := 0) dX1_isPlace_0 rfl ?_
    refine jx_getRs (pc := 1) (jf_X1_109_0.r) rfl dX1_isPlace_1 rfl (is_64 hS) (by decide) (hs.r) ?_
    refine jw_ifnull (pc := 4) (tgt := 28) dX1_isPlace_4 (by decide) (fun h => by cases h) (fun ax h => ?_)
    clear h
    refine jw_iload_n (pc := 7) dX1_isPlace_7 rfl ?_
    refine jw_iconst (pc := 8) dX1_isPlace_8 ic_0 ?_
    refine jw_aload_n (pc := 9) dX1_isPlace_9 rfl ?_
    refine jx_getRs (pc := 10) (jf_X1_109_0.r) rfl dX1_isPlace_10 rfl (is_64 hS) (by decide) (hs.r) ?_
    refine jx_getIs (pc := 13) (jf_X1_150_5.r) rfl dX1_isPlace_13 rfl (vis hv) (by decide) (xi_np hs.V) ?_
    refine jw_iconst (pc := 16) dX1_isPlace_16 ic_1 ?_
    refine jw_isub (pc := 17) dX1_isPlace_17 ?_
    refine jx_cSE (mi1 := mi_X1_in) (pc := 18) rfl dX1_isPlace_18 lk_X1_94 rfl fi_X1_in (t_X1_in) (by first | decide | omega) rfl rfl (by decide) ?_
    rw [inb_ix (by omega)]
    first | refine jx_ifb_eq (pc := 21) (tgt := 28) dX1_isPlace_21 (by decide) ?_ ?_ | refine jx_if_eq (pc := 21) (tgt := 28) dX1_isPlace_21 (by decide) (by omega) ?_ ?_ | refine jw_if_eq (pc := 21) (tgt := 28) dX1_isPlace_21 (by decide) ?_ ?_
    · intro h_21
      refine jw_iconst (pc := 28) dX1_isPlace_28 ic_0 ?_
      refine jw_ireturn (pc := 29) dX1_isPlace_29 rfl (by first | exact jnar_b _ | exact jnar_0 | exact jnar_1 | decide +kernel) ?_
      refine ⟨jret_f ?_, rfl⟩
      exact h_21
    · intro h_21
      refine jw_iconst (pc := 24) dX1_isPlace_24 ic_1 ?_
      refine jw_goto (pc := 25) (tgt := 29) dX1_isPlace_25 (by decide) ?_
      refine jw_ireturn (pc := 29) dX1_isPlace_29 rfl (by first | exact jnar_b _ | exact jnar_0 | exact jnar_1 | decide +kernel) ?_
      refine ⟨jret_t ?_, rfl⟩
      exact h_21
theorem t_X1_isPerson {a : Int32} {o : Option Vt} (h : jXx M σ) (ho : sv σ = o) : jE G mi_X1_isPerson 2 [jr (some 64), .int a] M (some (.int (jb (ixV o 1 a)))) M := by
  have hS := h.1
  refine jE.of (by decide) rfl (Nat.le_of_ble_eq_true rfl) ?_
  subst ho
  cases hv9 : sv σ with
  | none =>
    have hn := h.no hv9
    refine jw_aload_n (pc := 0) dX1_isPerson_0 rfl ?_
    refine jx_getRs (pc := 1) (jf_X1_109_0.r) rfl dX1_isPerson_1 rfl (is_64 hS) (by decide) (hn) ?_
    refine jw_ifnull (pc := 4) (tgt := 28) dX1_isPerson_4 (by decide) (fun h => ?_) (fun ax h => by cases h)
    clear h
    refine jw_iconst (pc := 28) dX1_isPerson_28 ic_0 ?_
    refine jw_ireturn (pc := 29) dX1_isPerson_29 rfl (by first | exact jnar_b _ | exact jnar_0 | exact jnar_1 | decide +kernel) ?_
    refine ⟨jret_f ?_, rfl⟩
    rfl
  | some V =>
    obtain ⟨v, hs, -⟩ := h.so hv9
    have hv := hs.s
    have hn := wf_nq hs.w
    refine jw_aload_n (pc := 0) dX1_isPerson_0 rfl ?_
    refine jx_getRs (pc := 1) (jf_X1_109_0.r) rfl dX1_isPerson_1 rfl (is_64 hS) (by decide) (hs.r) ?_
    refine jw_ifnull (pc := 4) (tgt := 28) dX1_isPerson_4 (by decide) (fun h => by cases h) (fun ax h => ?_)
    clear h
    refine jw_iload_n (pc := 7) dX1_isPerson_7 rfl ?_
    refine jw_iconst (pc := 8) dX1_isPerson_8 ic_0 ?_
    refine jw_aload_n (pc := 9) dX1_isPerson_9 rfl ?_
    refine jx_getRs (pc := 10) (jf_X1_109_0.r) rfl dX1_isPerson_10 rfl (is_64 hS) (by decide) (hs.r) ?_
    refine jx_getIs (pc := 13) (jf_X1_137_5.r) rfl dX1_isPerson_13 rfl (vis hv) (by decide) (xi_nq hs.V) ?_
    refine jw_iconst (pc := 16) dX1_isPerson_16 ic_1 ?_
    refine jw_isub (pc := 17) dX1_isPerson_17 ?_
    refine jx_cSE (mi1 := mi_X1_in) (pc := 18) rfl dX1_isPerson_18 lk_X1_94 rfl fi_X1_in (t_X1_in) (by first | decide | omega) rfl rfl (by decide) ?_
    rw [inb_ix (by omega)]
    first | refine jx_ifb_eq (pc := 21) (tgt := 28) dX1_isPerson_21 (by decide) ?_ ?_ | refine jx_if_eq (pc := 21) (tgt := 28) dX1_isPerson_21 (by decide) (by omega) ?_ ?_ | refine jw_if_eq (pc := 21) (tgt := 28) dX1_isPerson_21 (by decide) ?_ ?_
    · intro h_21
      refine jw_iconst (pc := 28) dX1_isPerson_28 ic_0 ?_
      refine jw_ireturn (pc := 29) dX1_isPerson_29 rfl (by first | exact jnar_b _ | exact jnar_0 | exact jnar_1 | decide +kernel) ?_
      refine ⟨jret_f ?_, rfl⟩
      exact h_21
    · intro h_21
      refine jw_iconst (pc := 24) dX1_isPerson_24 ic_1 ?_
      refine jw_goto (pc := 25) (tgt := 29) dX1_isPerson_25 (by decide) ?_
      refine jw_ireturn (pc := 29) dX1_isPerson_29 rfl (by first | exact jnar_b _ | exact jnar_0 | exact jnar_1 | decide +kernel) ?_
      refine ⟨jret_t ?_, rfl⟩
      exact h_21
theorem t_X1_isErrand {a : Int32} {o : Option Vt} (h : jXx M σ) (ho : sv σ = o) : jE G mi_X1_isErrand 2 [jr (some 64), .int a] M (some (.int (jb (ixV o 2 a)))) M := by
  have hS := h.1
  refine jE.of (by decide) rfl (Nat.le_of_ble_eq_true rfl) ?_
  subst ho
  cases hv9 : sv σ with
  | none =>
    have hn := h.no hv9
    refine jw_aload_n (pc := 0) dX1_isErrand_0 rfl ?_
    refine jx_getRs (pc := 1) (jf_X1_109_0.r) rfl dX1_isErrand_1 rfl (is_64 hS) (by decide) (hn) ?_
    refine jw_ifnull (pc := 4) (tgt := 28) dX1_isErrand_4 (by decide) (fun h => ?_) (fun ax h => by cases h)
    clear h
    refine jw_iconst (pc := 28) dX1_isErrand_28 ic_0 ?_
    refine jw_ireturn (pc := 29) dX1_isErrand_29 rfl (by first | exact jnar_b _ | exact jnar_0 | exact jnar_1 | decide +kernel) ?_
    refine ⟨jret_f ?_, rfl⟩
    rfl
  | some V =>
    obtain ⟨v, hs, -⟩ := h.so hv9
    have hv := hs.s
    have hn := wf_ne hs.w
    refine jw_aload_n (pc := 0) dX1_isErrand_0 rfl ?_
    refine jx_getRs (pc := 1) (jf_X1_109_0.r) rfl dX1_isErrand_1 rfl (is_64 hS) (by decide) (hs.r) ?_
    refine jw_ifnull (pc := 4) (tgt := 28) dX1_isErrand_4 (by decide) (fun h => by cases h) (fun ax h => ?_)
    clear h
    refine jw_iload_n (pc := 7) dX1_isErrand_7 rfl ?_
    refine jw_iconst (pc := 8) dX1_isErrand_8 ic_0 ?_
    refine jw_aload_n (pc := 9) dX1_isErrand_9 rfl ?_
    refine jx_getRs (pc := 10) (jf_X1_109_0.r) rfl dX1_isErrand_10 rfl (is_64 hS) (by decide) (hs.r) ?_
    refine jx_getIs (pc := 13) (jf_X1_153_5.r) rfl dX1_isErrand_13 rfl (vis hv) (by decide) (xi_ne hs.V) ?_
    refine jw_iconst (pc := 16) dX1_isErrand_16 ic_1 ?_
    refine jw_isub (pc := 17) dX1_isErrand_17 ?_
    refine jx_cSE (mi1 := mi_X1_in) (pc := 18) rfl dX1_isErrand_18 lk_X1_94 rfl fi_X1_in (t_X1_in) (by first | decide | omega) rfl rfl (by decide) ?_
    rw [inb_ix (by omega)]
    first | refine jx_ifb_eq (pc := 21) (tgt := 28) dX1_isErrand_21 (by decide) ?_ ?_ | refine jx_if_eq (pc := 21) (tgt := 28) dX1_isErrand_21 (by decide) (by omega) ?_ ?_ | refine jw_if_eq (pc := 21) (tgt := 28) dX1_isErrand_21 (by decide) ?_ ?_
    · intro h_21
      refine jw_iconst (pc := 28) dX1_isErrand_28 ic_0 ?_
      refine jw_ireturn (pc := 29) dX1_isErrand_29 rfl (by first | exact jnar_b _ | exact jnar_0 | exact jnar_1 | decide +kernel) ?_
      refine ⟨jret_f ?_, rfl⟩
      exact h_21
    · intro h_21
      refine jw_iconst (pc := 24) dX1_isErrand_24 ic_1 ?_
      refine jw_goto (pc := 25) (tgt := 29) dX1_isErrand_25 (by decide) ?_
      refine jw_ireturn (pc := 29) dX1_isErrand_29 rfl (by first | exact jnar_b _ | exact jnar_0 | exact jnar_1 | decide +kernel) ?_
      refine ⟨jret_t ?_, rfl⟩
      exact h_21
theorem t_X1_stepWhy {t : Int32} {o : Option Vt} (h : jXx M σ) (ho : sv σ = o) : jE G mi_X1_stepWhy 3 [jr (some 64), .int t] M (some (.int (stepW o t))) M := by
  have hS := h.1
  refine jE.of (by decide) rfl (Nat.le_of_ble_eq_true rfl) ?_
  subst ho
  cases hv9 : sv σ with
  | none =>
    have hn := h.no hv9
    refine jw_aload_n (pc := 0) dX1_stepWhy_0 rfl ?_
    refine jx_getRs (pc := 1) (jf_X1_109_0.r) rfl dX1_stepWhy_1 rfl (is_64 hS) (by decide) (hn) ?_
    refine jw_ifnonnull (pc := 4) (tgt := 11) dX1_stepWhy_4 (by decide) (fun ax h => by cases h) (fun h => ?_)
    clear h
    refine jw_iconst (pc := 7) dX1_stepWhy_7 ic_1 ?_
    refine jw_goto (pc := 8) (tgt := 23) dX1_stepWhy_8 (by decide) ?_
    refine jw_ireturn (pc := 23) dX1_stepWhy_23 rfl (rfl) ?_
    exact ⟨rfl, rfl⟩
  | some V =>
    obtain ⟨v, hs, -⟩ := h.so hv9
    refine jw_aload_n (pc := 0) dX1_stepWhy_0 rfl ?_
    refine jx_getRs (pc := 1) (jf_X1_109_0.r) rfl dX1_stepWhy_1 rfl (is_64 hS) (by decide) (hs.r) ?_
    refine jw_ifnonnull (pc := 4) (tgt := 11) dX1_stepWhy_4 (by decide) (fun ax h => ?_) (fun h => by cases h)
    clear h
    refine jw_iload_n (pc := 11) dX1_stepWhy_11 rfl ?_
    refine jx_cSE (mi1 := mi_X1_isStep) (pc := 12) rfl dX1_stepWhy_12 lk_X1_156 rfl fi_X1_isStep (t_X1_isStep) (by first | decide | omega) rfl rfl (by decide) ?_
    first | refine jx_ifb_eq (pc := 15) (tgt := 22) dX1_stepWhy_15 (by decide) ?_ ?_ | refine jx_if_eq (pc := 15) (tgt := 22) dX1_stepWhy_15 (by decide) (by omega) ?_ ?_ | refine jw_if_eq (pc := 15) (tgt := 22) dX1_stepWhy_15 (by decide) ?_ ?_
    · intro h_15
      refine jw_iconst (pc := 22) dX1_stepWhy_22 ic_2 ?_
      refine jw_ireturn (pc := 23) dX1_stepWhy_23 rfl (rfl) ?_
      exact ⟨by simp only [stepW, h_15]; rfl, rfl⟩
    · intro h_15
      refine jw_iconst (pc := 18) dX1_stepWhy_18 ic_0 ?_
      refine jw_goto (pc := 19) (tgt := 23) dX1_stepWhy_19 (by decide) ?_
      refine jw_ireturn (pc := 23) dX1_stepWhy_23 rfl (rfl) ?_
      exact ⟨by simp only [stepW, h_15]; rfl, rfl⟩
theorem sgt_si (hs : jXs M v V) (t : Nat) : jSi M (sgt V t) := by
  unfold sgt
  split
  · exact si_72 hs.1
  · exact si_69 hs.1
theorem sgt_p (hs : jXs M v V) (t : Nat) {a : Nat} (ha : a < V 0 0) : jm_A M (sgt V t + 1) a = nI (plainS V (rangeV V t) 0 0 a) := by
  obtain ⟨h1, h2, h3, h4⟩ := hs.2.2.2.2 a ha
  unfold sgt rangeV
  split
  · exact h3
  · exact h1
theorem sgt_s (hs : jXs M v V) (t : Nat) {a : Nat} (ha : a < V 0 0) : jm_A M (sgt V t + 2) a = nI (seesS V (rangeV V t) 0 0 a) := by
  obtain ⟨h1, h2, h3, h4⟩ := hs.2.2.2.2 a ha
  unfold sgt rangeV
  split
  · exact h4
  · exact h2
theorem t_X1_sight {t : Nat} (hs : jXs M v V) (ht : t < 2 ^ 30) : jE G mi_X1_sight 3 [jr (some 64), .int (nI t)] M (some (jr (some (sgt V t)))) M := by
  have hS := hs.1
  have hv := hs.s
  refine jE.of (by decide) rfl (Nat.le_of_ble_eq_true rfl) ?_
  refine jw_aload_n (pc := 0) dX1_sight_0 rfl ?_
  refine jx_getRs (pc := 1) (jf_X1_109_0.r) rfl dX1_sight_1 rfl (is_64 hS) (by decide) (hs.r) ?_
  refine jw_iload_n (pc := 4) dX1_sight_4 rfl ?_
  refine jx_cVE (mi1 := mi_X6_isNight) (pc := 5) rfl dX1_sight_5 lk_X1_160 rfl fi_X6_isNight rfl rfl rfl (by decide) (vis hv) (t_X6_isNight hs.V hs.w ht) (by first | decide | omega) rfl rfl (by decide) ?_
  first | refine jx_ifb_eq (pc := 8) (tgt := 18) dX1_sight_8 (by decide) ?_ ?_ | refine jx_if_eq (pc := 8) (tgt := 18) dX1_sight_8 (by decide) (by omega) ?_ ?_ | refine jw_if_eq (pc := 8) (tgt := 18) dX1_sight_8 (by decide) ?_ ?_
  · intro h_8
    refine jw_aload_n (pc := 18) dX1_sight_18 rfl ?_
    refine jx_getRs (pc := 19) (jf_X1_29_0.r) rfl dX1_sight_19 rfl (is_64 hS) (by decide) (sr_64_7 hS) ?_
    refine jw_areturn (pc := 22) dX1_sight_22 rfl (Or.inl ⟨_, rfl⟩) ?_
    exact ⟨by unfold sgt; rw [h_8]; rfl, rfl⟩
  · intro h_8
    refine jw_aload_n (pc := 11) dX1_sight_11 rfl ?_
    refine jx_getRs (pc := 12) (jf_X1_33_0.r) rfl dX1_sight_12 rfl (is_64 hS) (by decide) (sr_64_8 hS) ?_
    refine jw_goto (pc := 15) (tgt := 22) dX1_sight_15 (by decide) ?_
    refine jw_areturn (pc := 22) dX1_sight_22 rfl (Or.inl ⟨_, rfl⟩) ?_
    exact ⟨by unfold sgt; rw [h_8]; rfl, rfl⟩
theorem t_X4_sees {s a : Nat} {S : Nat → Nat} (hi : jSi M s) (hS9 : ∀ a, a < V 0 0 → jm_A M (s + 2) a = nI (S a)) (ha : a < V 0 0) (hn : V 0 0 ≤ 10) : jE G mi_X4_sees 1 [jr (some s), .int (nI a)] M (some (.int (nI (S a)))) M := by
  obtain ⟨s1, s2, s3, s4, s5, s6, s7, s8, s9⟩ := hi
  refine jE.of (by decide) rfl (Nat.le_of_ble_eq_true rfl) ?_
  refine jw_aload_n (pc := 0) dX4_sees_0 rfl ?_
  refine jx_getRs (pc := 1) (jf_X4_15_3.r) rfl dX4_sees_1 rfl (s1) (by decide) (s3) ?_
  refine jw_iload_n (pc := 4) dX4_sees_4 rfl ?_
  refine jx_ialds (pc := 5) dX4_sees_5 (s6) (s7) rfl (by omega) (hS9 _ ha) ?_
  refine jw_ireturn (pc := 6) dX4_sees_6 rfl (rfl) ?_
  exact ⟨rfl, rfl⟩
def orM (n : Nat) (f : Nat → Nat) : Nat := match n with
  | 0 => 0
  | n + 1 => orM n f ||| f n
/-- people, of the valley's row -/
theorem pe_x (hV : jVx M v V) {q : Nat} (hq : q < V 0 1) : ∃ p, jm_C M (v + 2) q = some p ∧ jis M p 7 ∧ jm_I M p 117 = nI (V 11 q) := by
  obtain ⟨p, a1, a2, a3, a4, a5, -⟩ := hV.2.2.2.2.1 q hq
  exact ⟨p, a1, a2, a5⟩
theorem p5 {n k : Nat} (h : n ≤ 5) (hk : k < n) : 2 ^ k < 32 := Nat.lt_of_lt_of_le (Nat.pow_lt_pow_right (by decide) hk) (Nat.pow_le_pow_right (by decide) h)
theorem msk5 {n : Nat} (h : n ≤ 5) (P : Nat → Bool) : msk n P < 32 := Nat.lt_of_lt_of_le (msk_lt n P) (Nat.pow_le_pow_right (by decide) h)
theorem t_X1_watching {t but : Nat} (hs : jXs M v V) (ht : t < 2 ^ 30) (hb : but < 2 ^ 31) : jE G mi_X1_watching 4 [jr (some 64), .int (nI t), .int (nI but)] M (some (.int (nI (eyesS V t but)))) M := by
  have hS := hs.1
  have hv := hs.s
  have hn := wf_nq hs.w
  refine jE.of (by decide) rfl (Nat.le_of_ble_eq_true rfl) ?_
  have J : ∀ k : Nat, k ≤ V 0 1 → jW G mi_X1_watching 4 M 5 [some (jr (some 64)), some (.int (nI t)), some (.int (nI but)), some (.int (nI (msk k (fun q => !but.testBit q && eyesB V q t)))), some (.int (nI k))] [] M (fun r M' => r = .inl (some (.int (nI (eyesS V t but)))) ∧ M' = M) := by
    refine jW.loop _ (fun k => V 0 1 - k) _ (fun _ => []) (fun _ => M) (fun k hk ih => ?_)
    by_cases hkn : k < V 0 1
    · obtain ⟨p, p1, p2, p3⟩ := pe_x hs.V hkn
      have hm := msk5 (Nat.le_trans hk hn) (fun q => !but.testBit q && eyesB V q t)
      refine jw_iload (pc := 5) dX1_watching_5 rfl ?_
      refine jw_aload_n (pc := 7) dX1_watching_7 rfl ?_
      refine jx_getRs (pc := 8) (jf_X1_109_0.r) rfl dX1_watching_8 rfl (is_64 hS) (by decide) (hs.r) ?_
      refine jx_getIs (pc := 11) (jf_X1_137_5.r) rfl dX1_watching_11 rfl (vis hv) (by decide) (xi_nq hs.V) ?_
      first | refine jx_icmp_ge (pc := 14) (tgt := 60) dX1_watching_14 (by decide) (by omega) (by omega) ?_ ?_ | refine jw_icmp_ge (pc := 14) (tgt := 60) dX1_watching_14 (by decide) ?_ ?_
      · intro h_14
        omega
      · intro h_14
        refine jw_iload_n (pc := 17) dX1_watching_17 rfl ?_
        refine jw_iload_n (pc := 18) dX1_watching_18 rfl ?_
        refine jw_iload (pc := 19) dX1_watching_19 rfl ?_
        refine jx_cSE (mi1 := mi_X1_lies) (pc := 21) rfl dX1_watching_21 lk_X1_189 rfl fi_X1_lies (t_X1_lies hb (by omega)) (by first | decide | omega) rfl rfl (by simp only [List.map_cons, List.map_nil, List.sum_cons, List.sum_nil, Value.category]; decide) ?_
        first | refine jx_ifb_ne (pc := 24) (tgt := 51) dX1_watching_24 (by decide) ?_ ?_ | refine jx_if_ne (pc := 24) (tgt := 51) dX1_watching_24 (by decide) (by omega) ?_ ?_ | refine jw_if_ne (pc := 24) (tgt := 51) dX1_watching_24 (by decide) ?_ ?_
        · intro h_24
          refine jw_iconst (pc := 51) dX1_watching_51 ic_0 ?_
          refine jw_ior (pc := 52) dX1_watching_52 ?_
          rw [nI_or']
          refine jw_istore_n (pc := 53) dX1_watching_53 (Nat.le_of_ble_eq_true rfl) rfl ?_
          try dsimp only [jput1, jput2, jkill, jclr, jis2_i, jis2_l, jis2_rs, jis2_rn, cond]
          first | refine jx_iinc (pc := 54) dX1_watching_54 rfl rfl ?_ | refine jw_iinc (pc := 54) dX1_watching_54 rfl rfl rfl ?_
          try dsimp only [jput1, jkill, jclr, jis2_i, jis2_l, jis2_rs, jis2_rn, cond]
          refine jw_goto (pc := 57) (tgt := 5) dX1_watching_57 (by decide) ?_
          refine jW.eq ?_ rfl rfl (ih (k + 1) hkn (by omega))
          simp_all [msk_s]
        · intro h_24
          refine jw_aload_n (pc := 27) dX1_watching_27 rfl ?_
          refine jx_getRs (pc := 28) (jf_X1_109_0.r) rfl dX1_watching_28 rfl (is_64 hS) (by decide) (hs.r) ?_
          refine jx_getRs (pc := 31) jg_X1_140_5 rfl dX1_watching_31 rfl (vis hv) (by decide) (vr_2 hv) ?_
          refine jw_iload (pc := 34) dX1_watching_34 rfl ?_
          refine jx_aalds (pc := 36) (by decide) (by decide) dX1_watching_36 (vok_2 hv) (vnn_2 hv) rfl (by omega) (p1) ?_
          refine jw_iload_n (pc := 37) dX1_watching_37 rfl ?_
          refine jx_cVE (mi1 := mi_X9_watches) (pc := 38) rfl dX1_watching_38 lk_X1_186 rfl fi_X9_watches rfl rfl rfl (by decide) (p2) (t_X9_watches hs.V hs.w hkn ht p1) (by first | decide | omega) rfl rfl (by simp only [List.map_cons, List.map_nil, List.sum_cons, List.sum_nil, Value.category]; decide) ?_
          first | refine jx_ifb_eq (pc := 41) (tgt := 51) dX1_watching_41 (by decide) ?_ ?_ | refine jx_if_eq (pc := 41) (tgt := 51) dX1_watching_41 (by decide) (by omega) ?_ ?_ | refine jw_if_eq (pc := 41) (tgt := 51) dX1_watching_41 (by decide) ?_ ?_
          · intro h_41
            refine jw_iconst (pc := 51) dX1_watching_51 ic_0 ?_
            refine jw_ior (pc := 52) dX1_watching_52 ?_
            rw [nI_or']
            refine jw_istore_n (pc := 53) dX1_watching_53 (Nat.le_of_ble_eq_true rfl) rfl ?_
            try dsimp only [jput1, jput2, jkill, jclr, jis2_i, jis2_l, jis2_rs, jis2_rn, cond]
            first | refine jx_iinc (pc := 54) dX1_watching_54 rfl rfl ?_ | refine jw_iinc (pc := 54) dX1_watching_54 rfl rfl rfl ?_
            try dsimp only [jput1, jkill, jclr, jis2_i, jis2_l, jis2_rs, jis2_rn, cond]
            refine jw_goto (pc := 57) (tgt := 5) dX1_watching_57 (by decide) ?_
            refine jW.eq ?_ rfl rfl (ih (k + 1) hkn (by omega))
            simp_all [msk_s]
          · intro h_41
            refine jw_iconst (pc := 44) dX1_watching_44 ic_1 ?_
            refine jw_iload (pc := 45) dX1_watching_45 rfl ?_
            refine jw_ishl (pc := 47) dX1_watching_47 ?_
            rw [shl1 (by omega)]
            refine jw_goto (pc := 48) (tgt := 52) dX1_watching_48 (by decide) ?_
            refine jw_ior (pc := 52) dX1_watching_52 ?_
            rw [nI_or']
            refine jw_istore_n (pc := 53) dX1_watching_53 (Nat.le_of_ble_eq_true rfl) rfl ?_
            try dsimp only [jput1, jput2, jkill, jclr, jis2_i, jis2_l, jis2_rs, jis2_rn, cond]
            first | refine jx_iinc (pc := 54) dX1_watching_54 rfl rfl ?_ | refine jw_iinc (pc := 54) dX1_watching_54 rfl rfl rfl ?_
            try dsimp only [jput1, jkill, jclr, jis2_i, jis2_l, jis2_rs, jis2_rn, cond]
            refine jw_goto (pc := 57) (tgt := 5) dX1_watching_57 (by decide) ?_
            refine jW.eq ?_ rfl rfl (ih (k + 1) hkn (by omega))
            simp_all [msk_s]
    · have hk' : k = V 0 1 := by omega
      subst hk'
      refine jw_iload (pc := 5) dX1_watching_5 rfl ?_
      refine jw_aload_n (pc := 7) dX1_watching_7 rfl ?_
      refine jx_getRs (pc := 8) (jf_X1_109_0.r) rfl dX1_watching_8 rfl (is_64 hS) (by decide) (hs.r) ?_
      refine jx_getIs (pc := 11) (jf_X1_137_5.r) rfl dX1_watching_11 rfl (vis hv) (by decide) (xi_nq hs.V) ?_
      first | refine jx_icmp_ge (pc := 14) (tgt := 60) dX1_watching_14 (by decide) (by omega) (by omega) ?_ ?_ | refine jw_icmp_ge (pc := 14) (tgt := 60) dX1_watching_14 (by decide) ?_ ?_
      · intro h_14
        refine jw_iload_n (pc := 60) dX1_watching_60 rfl ?_
        refine jw_ireturn (pc := 61) dX1_watching_61 rfl (rfl) ?_
        exact ⟨rfl, rfl⟩
      · intro h_14
        omega
  refine jw_iconst (pc := 0) dX1_watching_0 ic_0 ?_
  refine jw_istore_n (pc := 1) dX1_watching_1 (Nat.le_of_ble_eq_true rfl) rfl ?_
  try dsimp only [jput1, jput2, jkill, jclr, jis2_i, jis2_l, jis2_rs, jis2_rn, cond]
  refine jw_iconst (pc := 2) dX1_watching_2 ic_0 ?_
  refine jw_istore (pc := 3) dX1_watching_3 (Nat.le_of_ble_eq_true rfl) rfl ?_
  try dsimp only [jput1, jput2, jkill, jclr, jis2_i, jis2_l, jis2_rs, jis2_rn, cond]
  exact J 0 (Nat.zero_le _)
/-- a row of places of the people -/
def jPr5 (M : Mm) (r : Nat) (V : Vt) (pl : Nat → Nat) : Prop := jok M r 0 ∧ jm_N M r = 5 ∧ ∀ q, q < V 0 1 → jm_A M r q = nI (pl q) ∧ pl q < V 0 0
def jSr (M : Mm) (s : Nat) (V : Vt) (S : Nat → Nat) : Prop := jSi M s ∧ ∀ a, a < V 0 0 → jm_A M (s + 2) a = nI (S a) ∧ S a < 1024
theorem sgt_sr (hs : jXs M v V) (t : Nat) : jSr M (sgt V t) V (seesS V (rangeV V t) 0 0) := ⟨sgt_si hs t, fun a ha => ⟨sgt_s hs t ha, sees_lt hs.w _ _ _ _⟩⟩
theorem t_X1_watchersOf {r p eyes s : Nat} {pl S : Nat → Nat} (hs : jXs M v V) (hR : jPr5 M r V pl) (hQ : jSr M s V S) (hp : p < V 0 1) (he : eyes < 2 ^ 31) : jE G mi_X1_watchersOf 3 [jr (some 64), jr (some r), .int (nI p), .int (nI eyes), jr (some s)] M (some (.int (nI (watchS V pl eyes S p)))) M := by
  have hS := hs.1
  have hv := hs.s
  have hn := wf_nq hs.w
  have hn0 := wf_np hs.w
  obtain ⟨r1, r2, r3⟩ := hR
  obtain ⟨hi, hS9⟩ := hQ
  have hS8 : ∀ a, a < V 0 0 → jm_A M (s + 2) a = nI (S a) := fun a ha => (hS9 a ha).1
  refine jE.of (by decide) rfl (Nat.le_of_ble_eq_true rfl) ?_
  have J : ∀ k : Nat, k ≤ V 0 1 → jW G mi_X1_watchersOf 3 M 6 [some (jr (some 64)), some (jr (some r)), some (.int (nI p)), some (.int (nI eyes)), some (jr (some s)), some (.int (nI (msk k (fun q => decide (q ≠ p) && eyes.testBit q && (S (pl q)).testBit (pl p))))), some (.int (nI k))] [] M (fun r M' => r = .inl (some (.int (nI (watchS V pl eyes S p)))) ∧ M' = M) := by
    refine jW.loop _ (fun k => V 0 1 - k) _ (fun _ => []) (fun _ => M) (fun k hk ih => ?_)
    by_cases hkn : k < V 0 1
    · obtain ⟨q1, q2⟩ := r3 k hkn
      obtain ⟨q3, q4⟩ := r3 p hp
      have hm := msk5 (Nat.le_trans hk hn) (fun q => decide (q ≠ p) && eyes.testBit q && (S (pl q)).testBit (pl p))
      have hb := (hS9 _ q2).2
      refine jw_iload (pc := 6) dX1_watchersOf_6 rfl ?_
      refine jw_aload_n (pc := 8) dX1_watchersOf_8 rfl ?_
      refine jx_getRs (pc := 9) (jf_X1_109_0.r) rfl dX1_watchersOf_9 rfl (is_64 hS) (by decide) (hs.r) ?_
      refine jx_getIs (pc := 12) (jf_X1_137_5.r) rfl dX1_watchersOf_12 rfl (vis hv) (by decide) (xi_nq hs.V) ?_
      first | refine jx_icmp_ge (pc := 15) (tgt := 70) dX1_watchersOf_15 (by decide) (by omega) (by omega) ?_ ?_ | refine jw_icmp_ge (pc := 15) (tgt := 70) dX1_watchersOf_15 (by decide) ?_ ?_
      · intro h_15
        omega
      · intro h_15
        refine jw_iload (pc := 18) dX1_watchersOf_18 rfl ?_
        refine jw_iload (pc := 20) dX1_watchersOf_20 rfl ?_
        refine jw_iload_n (pc := 22) dX1_watchersOf_22 rfl ?_
        first | refine jx_icmp_eq (pc := 23) (tgt := 60) dX1_watchersOf_23 (by decide) (by omega) (by omega) ?_ ?_ | refine jw_icmp_eq (pc := 23) (tgt := 60) dX1_watchersOf_23 (by decide) ?_ ?_
        · intro h_23
          refine jw_iconst (pc := 60) dX1_watchersOf_60 ic_0 ?_
          refine jw_ior (pc := 61) dX1_watchersOf_61 ?_
          rw [nI_or']
          refine jw_istore (pc := 62) dX1_watchersOf_62 (Nat.le_of_ble_eq_true rfl) rfl ?_
          try dsimp only [jput1, jput2, jkill, jclr, jis2_i, jis2_l, jis2_rs, jis2_rn, cond]
          first | refine jx_iinc (pc := 64) dX1_watchersOf_64 rfl rfl ?_ | refine jw_iinc (pc := 64) dX1_watchersOf_64 rfl rfl rfl ?_
          try dsimp only [jput1, jkill, jclr, jis2_i, jis2_l, jis2_rs, jis2_rn, cond]
          refine jw_goto (pc := 67) (tgt := 6) dX1_watchersOf_67 (by decide) ?_
          refine jW.eq ?_ rfl rfl (ih (k + 1) hkn (by omega))
          simp_all [msk_s]
        · intro h_23
          refine jw_iload_n (pc := 26) dX1_watchersOf_26 rfl ?_
          refine jw_iload (pc := 27) dX1_watchersOf_27 rfl ?_
          refine jx_cSE (mi1 := mi_X1_lies) (pc := 29) rfl dX1_watchersOf_29 lk_X1_189 rfl fi_X1_lies (t_X1_lies he (by omega)) (by first | decide | omega) rfl rfl (by simp only [List.map_cons, List.map_nil, List.sum_cons, List.sum_nil, Value.category]; decide) ?_
          first | refine jx_ifb_eq (pc := 32) (tgt := 60) dX1_watchersOf_32 (by decide) ?_ ?_ | refine jx_if_eq (pc := 32) (tgt := 60) dX1_watchersOf_32 (by decide) (by omega) ?_ ?_ | refine jw_if_eq (pc := 32) (tgt := 60) dX1_watchersOf_32 (by decide) ?_ ?_
          · intro h_32
            refine jw_iconst (pc := 60) dX1_watchersOf_60 ic_0 ?_
            refine jw_ior (pc := 61) dX1_watchersOf_61 ?_
            rw [nI_or']
            refine jw_istore (pc := 62) dX1_watchersOf_62 (Nat.le_of_ble_eq_true rfl) rfl ?_
            try dsimp only [jput1, jput2, jkill, jclr, jis2_i, jis2_l, jis2_rs, jis2_rn, cond]
            first | refine jx_iinc (pc := 64) dX1_watchersOf_64 rfl rfl ?_ | refine jw_iinc (pc := 64) dX1_watchersOf_64 rfl rfl rfl ?_
            try dsimp only [jput1, jkill, jclr, jis2_i, jis2_l, jis2_rs, jis2_rn, cond]
            refine jw_goto (pc := 67) (tgt := 6) dX1_watchersOf_67 (by decide) ?_
            refine jW.eq ?_ rfl rfl (ih (k + 1) hkn (by omega))
            simp_all [msk_s]
          · intro h_32
            refine jw_aload (pc := 35) dX1_watchersOf_35 rfl ?_
            refine jw_aload_n (pc := 37) dX1_watchersOf_37 rfl ?_
            refine jw_iload (pc := 38) dX1_watchersOf_38 rfl ?_
            refine jx_ialds (pc := 40) dX1_watchersOf_40 (r1) (r2) rfl (by omega) (q1) ?_
            refine jx_cVE (mi1 := mi_X4_sees) (pc := 41) rfl dX1_watchersOf_41 lk_X1_173 rfl fi_X4_sees rfl rfl rfl (by decide) (hi.1) (t_X4_sees hi hS8 q2 hn0) (by first | decide | omega) rfl rfl (by simp only [List.map_cons, List.map_nil, List.sum_cons, List.sum_nil, Value.category]; decide) ?_
            refine jw_aload_n (pc := 44) dX1_watchersOf_44 rfl ?_
            refine jw_iload_n (pc := 45) dX1_watchersOf_45 rfl ?_
            refine jx_ialds (pc := 46) dX1_watchersOf_46 (r1) (r2) rfl (by omega) (q3) ?_
            refine jx_cSE (mi1 := mi_X1_lies) (pc := 47) rfl dX1_watchersOf_47 lk_X1_189 rfl fi_X1_lies (t_X1_lies (by omega) (by omega)) (by first | decide | omega) rfl rfl (by simp only [List.map_cons, List.map_nil, List.sum_cons, List.sum_nil, Value.category]; decide) ?_
            first | refine jx_ifb_eq (pc := 50) (tgt := 60) dX1_watchersOf_50 (by decide) ?_ ?_ | refine jx_if_eq (pc := 50) (tgt := 60) dX1_watchersOf_50 (by decide) (by omega) ?_ ?_ | refine jw_if_eq (pc := 50) (tgt := 60) dX1_watchersOf_50 (by decide) ?_ ?_
            · intro h_50
              refine jw_iconst (pc := 60) dX1_watchersOf_60 ic_0 ?_
              refine jw_ior (pc := 61) dX1_watchersOf_61 ?_
              rw [nI_or']
              refine jw_istore (pc := 62) dX1_watchersOf_62 (Nat.le_of_ble_eq_true rfl) rfl ?_
              try dsimp only [jput1, jput2, jkill, jclr, jis2_i, jis2_l, jis2_rs, jis2_rn, cond]
              first | refine jx_iinc (pc := 64) dX1_watchersOf_64 rfl rfl ?_ | refine jw_iinc (pc := 64) dX1_watchersOf_64 rfl rfl rfl ?_
              try dsimp only [jput1, jkill, jclr, jis2_i, jis2_l, jis2_rs, jis2_rn, cond]
              refine jw_goto (pc := 67) (tgt := 6) dX1_watchersOf_67 (by decide) ?_
              refine jW.eq ?_ rfl rfl (ih (k + 1) hkn (by omega))
              simp_all [msk_s]
            · intro h_50
              refine jw_iconst (pc := 53) dX1_watchersOf_53 ic_1 ?_
              refine jw_iload (pc := 54) dX1_watchersOf_54 rfl ?_
              refine jw_ishl (pc := 56) dX1_watchersOf_56 ?_
              rw [shl1 (by omega)]
              refine jw_goto (pc := 57) (tgt := 61) dX1_watchersOf_57 (by decide) ?_
              refine jw_ior (pc := 61) dX1_watchersOf_61 ?_
              rw [nI_or']
              refine jw_istore (pc := 62) dX1_watchersOf_62 (Nat.le_of_ble_eq_true rfl) rfl ?_
              try dsimp only [jput1, jput2, jkill, jclr, jis2_i, jis2_l, jis2_rs, jis2_rn, cond]
              first | refine jx_iinc (pc := 64) dX1_watchersOf_64 rfl rfl ?_ | refine jw_iinc (pc := 64) dX1_watchersOf_64 rfl rfl rfl ?_
              try dsimp only [jput1, jkill, jclr, jis2_i, jis2_l, jis2_rs, jis2_rn, cond]
              refine jw_goto (pc := 67) (tgt := 6) dX1_watchersOf_67 (by decide) ?_
              refine jW.eq ?_ rfl rfl (ih (k + 1) hkn (by omega))
              simp_all [msk_s]
    · have hk' : k = V 0 1 := by omega
      subst hk'
      refine jw_iload (pc := 6) dX1_watchersOf_6 rfl ?_
      refine jw_aload_n (pc := 8) dX1_watchersOf_8 rfl ?_
      refine jx_getRs (pc := 9) (jf_X1_109_0.r) rfl dX1_watchersOf_9 rfl (is_64 hS) (by decide) (hs.r) ?_
      refine jx_getIs (pc := 12) (jf_X1_137_5.r) rfl dX1_watchersOf_12 rfl (vis hv) (by decide) (xi_nq hs.V) ?_
      first | refine jx_icmp_ge (pc := 15) (tgt := 70) dX1_watchersOf_15 (by decide) (by omega) (by omega) ?_ ?_ | refine jw_icmp_ge (pc := 15) (tgt := 70) dX1_watchersOf_15 (by decide) ?_ ?_
      · intro h_15
        refine jw_iload (pc := 70) dX1_watchersOf_70 rfl ?_
        refine jw_ireturn (pc := 72) dX1_watchersOf_72 rfl (rfl) ?_
        exact ⟨rfl, rfl⟩
      · intro h_15
        omega
  refine jw_iconst (pc := 0) dX1_watchersOf_0 ic_0 ?_
  refine jw_istore (pc := 1) dX1_watchersOf_1 (Nat.le_of_ble_eq_true rfl) rfl ?_
  try dsimp only [jput1, jput2, jkill, jclr, jis2_i, jis2_l, jis2_rs, jis2_rn, cond]
  refine jw_iconst (pc := 3) dX1_watchersOf_3 ic_0 ?_
  refine jw_istore (pc := 4) dX1_watchersOf_4 (Nat.le_of_ble_eq_true rfl) rfl ?_
  try dsimp only [jput1, jput2, jkill, jclr, jis2_i, jis2_l, jis2_rs, jis2_rn, cond]
  exact J 0 (Nat.zero_le _)
theorem t_X1_unseenAt {r eyes s : Nat} {pl S : Nat → Nat} (hs : jXs M v V) (hR : jPr5 M r V pl) (hQ : jSr M s V S) (he : eyes < 2 ^ 31) : jE G mi_X1_unseenAt 4 [jr (some 64), jr (some r), .int (nI eyes), jr (some s)] M (some (.int (nI (unseenS V pl eyes S)))) M := by
  have hS := hs.1
  have hv := hs.s
  have hn := wf_nq hs.w
  refine jE.of (by decide) rfl (Nat.le_of_ble_eq_true rfl) ?_
  have J : ∀ k : Nat, k ≤ V 0 1 → jW G mi_X1_unseenAt 4 M 6 [some (jr (some 64)), some (jr (some r)), some (.int (nI eyes)), some (jr (some s)), some (.int (nI (msk k (fun p => decide (watchS V pl eyes S p = 0))))), some (.int (nI k))] [] M (fun r M' => r = .inl (some (.int (nI (unseenS V pl eyes S)))) ∧ M' = M) := by
    refine jW.loop _ (fun k => V 0 1 - k) _ (fun _ => []) (fun _ => M) (fun k hk ih => ?_)
    by_cases hkn : k < V 0 1
    · have hm := msk5 (Nat.le_trans hk hn) (fun p => decide (watchS V pl eyes S p = 0))
      have hm2 : watchS V pl eyes S k < 32 := msk5 hn _
      refine jw_iload (pc := 6) dX1_unseenAt_6 rfl ?_
      refine jw_aload_n (pc := 8) dX1_unseenAt_8 rfl ?_
      refine jx_getRs (pc := 9) (jf_X1_109_0.r) rfl dX1_unseenAt_9 rfl (is_64 hS) (by decide) (hs.r) ?_
      refine jx_getIs (pc := 12) (jf_X1_137_5.r) rfl dX1_unseenAt_12 rfl (vis hv) (by decide) (xi_nq hs.V) ?_
      first | refine jx_icmp_ge (pc := 15) (tgt := 49) dX1_unseenAt_15 (by decide) (by omega) (by omega) ?_ ?_ | refine jw_icmp_ge (pc := 15) (tgt := 49) dX1_unseenAt_15 (by decide) ?_ ?_
      · intro h_15
        omega
      · intro h_15
        refine jw_iload (pc := 18) dX1_unseenAt_18 rfl ?_
        refine jw_aload_n (pc := 20) dX1_unseenAt_20 rfl ?_
        refine jw_aload_n (pc := 21) dX1_unseenAt_21 rfl ?_
        refine jw_iload (pc := 22) dX1_unseenAt_22 rfl ?_
        refine jw_iload_n (pc := 24) dX1_unseenAt_24 rfl ?_
        refine jw_aload_n (pc := 25) dX1_unseenAt_25 rfl ?_
        refine jx_cVE (mi1 := mi_X1_watchersOf) (pc := 26) rfl dX1_unseenAt_26 lk_X1_193 rfl fi_X1_watchersOf rfl rfl rfl (by decide) (is_64 hS) (t_X1_watchersOf hs hR hQ hkn he) (by first | decide | omega) rfl rfl (by simp only [List.map_cons, List.map_nil, List.sum_cons, List.sum_nil, Value.category]; decide) ?_
        first | refine jx_ifb_ne (pc := 29) (tgt := 39) dX1_unseenAt_29 (by decide) ?_ ?_ | refine jx_if_ne (pc := 29) (tgt := 39) dX1_unseenAt_29 (by decide) (by omega) ?_ ?_ | refine jw_if_ne (pc := 29) (tgt := 39) dX1_unseenAt_29 (by decide) ?_ ?_
        · intro h_29
          refine jw_iconst (pc := 39) dX1_unseenAt_39 ic_0 ?_
          refine jw_ior (pc := 40) dX1_unseenAt_40 ?_
          rw [nI_or']
          refine jw_istore (pc := 41) dX1_unseenAt_41 (Nat.le_of_ble_eq_true rfl) rfl ?_
          try dsimp only [jput1, jput2, jkill, jclr, jis2_i, jis2_l, jis2_rs, jis2_rn, cond]
          first | refine jx_iinc (pc := 43) dX1_unseenAt_43 rfl rfl ?_ | refine jw_iinc (pc := 43) dX1_unseenAt_43 rfl rfl rfl ?_
          try dsimp only [jput1, jkill, jclr, jis2_i, jis2_l, jis2_rs, jis2_rn, cond]
          refine jw_goto (pc := 46) (tgt := 6) dX1_unseenAt_46 (by decide) ?_
          refine jW.eq ?_ rfl rfl (ih (k + 1) hkn (by omega))
          simp_all [msk_s]
        · intro h_29
          refine jw_iconst (pc := 32) dX1_unseenAt_32 ic_1 ?_
          refine jw_iload (pc := 33) dX1_unseenAt_33 rfl ?_
          refine jw_ishl (pc := 35) dX1_unseenAt_35 ?_
          rw [shl1 (by omega)]
          refine jw_goto (pc := 36) (tgt := 40) dX1_unseenAt_36 (by decide) ?_
          refine jw_ior (pc := 40) dX1_unseenAt_40 ?_
          rw [nI_or']
          refine jw_istore (pc := 41) dX1_unseenAt_41 (Nat.le_of_ble_eq_true rfl) rfl ?_
          try dsimp only [jput1, jput2, jkill, jclr, jis2_i, jis2_l, jis2_rs, jis2_rn, cond]
          first | refine jx_iinc (pc := 43) dX1_unseenAt_43 rfl rfl ?_ | refine jw_iinc (pc := 43) dX1_unseenAt_43 rfl rfl rfl ?_
          try dsimp only [jput1, jkill, jclr, jis2_i, jis2_l, jis2_rs, jis2_rn, cond]
          refine jw_goto (pc := 46) (tgt := 6) dX1_unseenAt_46 (by decide) ?_
          refine jW.eq ?_ rfl rfl (ih (k + 1) hkn (by omega))
          simp_all [msk_s]
    · have hk' : k = V 0 1 := by omega
      subst hk'
      refine jw_iload (pc := 6) dX1_unseenAt_6 rfl ?_
      refine jw_aload_n (pc := 8) dX1_unseenAt_8 rfl ?_
      refine jx_getRs (pc := 9) (jf_X1_109_0.r) rfl dX1_unseenAt_9 rfl (is_64 hS) (by decide) (hs.r) ?_
      refine jx_getIs (pc := 12) (jf_X1_137_5.r) rfl dX1_unseenAt_12 rfl (vis hv) (by decide) (xi_nq hs.V) ?_
      first | refine jx_icmp_ge (pc := 15) (tgt := 49) dX1_unseenAt_15 (by decide) (by omega) (by omega) ?_ ?_ | refine jw_icmp_ge (pc := 15) (tgt := 49) dX1_unseenAt_15 (by decide) ?_ ?_
      · intro h_15
        refine jw_iload (pc := 49) dX1_unseenAt_49 rfl ?_
        refine jw_ireturn (pc := 51) dX1_unseenAt_51 rfl (rfl) ?_
        exact ⟨rfl, rfl⟩
      · intro h_15
        omega
  refine jw_iconst (pc := 0) dX1_unseenAt_0 ic_0 ?_
  refine jw_istore (pc := 1) dX1_unseenAt_1 (Nat.le_of_ble_eq_true rfl) rfl ?_
  try dsimp only [jput1, jput2, jkill, jclr, jis2_i, jis2_l, jis2_rs, jis2_rn, cond]
  refine jw_iconst (pc := 3) dX1_unseenAt_3 ic_0 ?_
  refine jw_istore (pc := 4) dX1_unseenAt_4 (Nat.le_of_ble_eq_true rfl) rfl ?_
  try dsimp only [jput1, jput2, jkill, jclr, jis2_i, jis2_l, jis2_rs, jis2_rn, cond]
  exact J 0 (Nat.zero_le _)
theorem pr_x (hV : jVx M v V) {k : Nat} (hk : k < V 0 6) : jm_A M (v + 7) k = nI (V 7 k) ∧ jm_A M (v + 8) k = nI (V 8 k) := hV.2.2.1.2.2.1 k hk
theorem allB_s (n : Nat) (P : Nat → Bool) : allB (n + 1) P = (allB n P && P n) := rfl
theorem allB_f {n m : Nat} {P : Nat → Bool} (h : n ≤ m) (hn : allB n P = false) : allB m P = false := by
  cases hm : allB m P with
  | false => rfl
  | true =>
    have := allB_iff.mp hm
    rw [allB_iff.mpr (fun k hk => this k (by omega))] at hn
    cases hn
theorem t_X1_isLawful {r eyes s : Nat} {pl S : Nat → Nat} (hs : jXs M v V) (hR : jPr5 M r V pl) (hQ : jSr M s V S) (he : eyes < 2 ^ 31) : jE G mi_X1_isLawful 5 [jr (some 64), jr (some r), .int (nI eyes), jr (some s)] M (some (.int (jb (lawB V pl eyes S)))) M := by
  have hS := hs.1
  have hv := hs.s
  have hn := wf_nq hs.w
  have hn0 := wf_np hs.w
  have hnr := wf_nr hs.w
  obtain ⟨r1, r2, r3⟩ := hR
  obtain ⟨hi, hS9⟩ := hQ
  have hS8 : ∀ a, a < V 0 0 → jm_A M (s + 2) a = nI (S a) := fun a ha => (hS9 a ha).1
  have hu : unseenS V pl eyes S < 32 := msk5 hn _
  refine jE.of (by decide) rfl (Nat.le_of_ble_eq_true rfl) ?_
  have J85 : ∀ k b1 b2, jW G mi_X1_isLawful 5 M 85 [some (jr (some 64)), some (jr (some r)), some (.int (nI eyes)), some (jr (some s)), some (.int (jb (allB (V 0 6) (pairB V pl S)))), k, b1, b2] [] M (fun r M' => r = .inl (some (.int (jb (lawB V pl eyes S)))) ∧ M' = M) := by
    intro k b1 b2
    refine jw_iload (pc := 85) dX1_isLawful_85 rfl ?_
    first | refine jx_ifb_eq (pc := 87) (tgt := 104) dX1_isLawful_87 (by decide) ?_ ?_ | refine jx_if_eq (pc := 87) (tgt := 104) dX1_isLawful_87 (by decide) (by omega) ?_ ?_ | refine jw_if_eq (pc := 87) (tgt := 104) dX1_isLawful_87 (by decide) ?_ ?_
    · intro h_87
      refine jw_iconst (pc := 104) dX1_isLawful_104 ic_0 ?_
      refine jw_ireturn (pc := 105) dX1_isLawful_105 rfl (by first | exact jnar_b _ | exact jnar_0 | exact jnar_1 | decide +kernel) ?_
      refine ⟨jret_f ?_, rfl⟩
      first | (simp [lawB, h_87]; done) | simp [lawB, h_87, h_97]
    · intro h_87
      refine jw_aload_n (pc := 90) dX1_isLawful_90 rfl ?_
      refine jw_aload_n (pc := 91) dX1_isLawful_91 rfl ?_
      refine jw_iload_n (pc := 92) dX1_isLawful_92 rfl ?_
      refine jw_aload_n (pc := 93) dX1_isLawful_93 rfl ?_
      refine jx_cVE (mi1 := mi_X1_unseenAt) (pc := 94) rfl dX1_isLawful_94 lk_X1_206 rfl fi_X1_unseenAt rfl rfl rfl (by decide) (is_64 hS) (t_X1_unseenAt hs ⟨r1, r2, r3⟩ ⟨hi, hS9⟩ he) (by first | decide | omega) rfl rfl (by decide) ?_
      first | refine jx_ifb_ne (pc := 97) (tgt := 104) dX1_isLawful_97 (by decide) ?_ ?_ | refine jx_if_ne (pc := 97) (tgt := 104) dX1_isLawful_97 (by decide) (by omega) ?_ ?_ | refine jw_if_ne (pc := 97) (tgt := 104) dX1_isLawful_97 (by decide) ?_ ?_
      · intro h_97
        refine jw_iconst (pc := 104) dX1_isLawful_104 ic_0 ?_
        refine jw_ireturn (pc := 105) dX1_isLawful_105 rfl (by first | exact jnar_b _ | exact jnar_0 | exact jnar_1 | decide +kernel) ?_
        refine ⟨jret_f ?_, rfl⟩
        first | (simp [lawB, h_87]; done) | simp [lawB, h_87, h_97]
      · intro h_97
        refine jw_iconst (pc := 100) dX1_isLawful_100 ic_1 ?_
        refine jw_goto (pc := 101) (tgt := 105) dX1_isLawful_101 (by decide) ?_
        refine jw_ireturn (pc := 105) dX1_isLawful_105 rfl (by first | exact jnar_b _ | exact jnar_0 | exact jnar_1 | decide +kernel) ?_
        refine ⟨jret_t ?_, rfl⟩
        simp [lawB, h_87, h_97]
  have J : ∀ k : Nat, k ≤ V 0 6 → jW G mi_X1_isLawful 5 M 6 [some (jr (some 64)), some (jr (some r)), some (.int (nI eyes)), some (jr (some s)), some (.int (jb (allB k (pairB V pl S)))), some (.int (nI k)), none, none] [] M (fun r M' => r = .inl (some (.int (jb (lawB V pl eyes S)))) ∧ M' = M) := by
    refine jW.loop _ (fun k => V 0 6 - k) _ (fun _ => []) (fun _ => M) (fun k hk ih => ?_)
    by_cases hkn : k < V 0 6
    · obtain ⟨a1, a2⟩ := pr_x hs.V hkn
      obtain ⟨c1, c2⟩ := wf_r hs.w hkn
      obtain ⟨q1, q2⟩ := r3 _ c1
      obtain ⟨q3, q4⟩ := r3 _ c2
      have hb := (hS9 _ q2).2
      have J77 : allB k (pairB V pl S) = true → jW G mi_X1_isLawful 5 M 77 [some (jr (some 64)), some (jr (some r)), some (.int (nI eyes)), some (jr (some s)), some (.int (jb (allB k (pairB V pl S)))), some (.int (nI k)), none, none] [.int (jb (pairB V pl S k))] M (fun r M' => r = .inl (some (.int (jb (lawB V pl eyes S)))) ∧ M' = M) := by
        intro hall
        refine jw_istore (pc := 77) dX1_isLawful_77 (Nat.le_of_ble_eq_true rfl) rfl ?_
        try dsimp only [jput1, jput2, jkill, jclr, jis2_i, jis2_l, jis2_rs, jis2_rn, cond]
        first | refine jx_iinc (pc := 79) dX1_isLawful_79 rfl rfl ?_ | refine jw_iinc (pc := 79) dX1_isLawful_79 rfl rfl rfl ?_
        try dsimp only [jput1, jkill, jclr, jis2_i, jis2_l, jis2_rs, jis2_rn, cond]
        refine jw_goto (pc := 82) (tgt := 6) dX1_isLawful_82 (by decide) ?_
        refine jW.eq ?_ rfl rfl (ih (k + 1) hkn (by omega))
        rw [allB_s, hall, Bool.true_and]
      refine jw_iload (pc := 6) dX1_isLawful_6 rfl ?_
      refine jw_aload_n (pc := 8) dX1_isLawful_8 rfl ?_
      refine jx_getRs (pc := 9) (jf_X1_109_0.r) rfl dX1_isLawful_9 rfl (is_64 hS) (by decide) (hs.r) ?_
      refine jx_getIs (pc := 12) (jf_X1_197_5.r) rfl dX1_isLawful_12 rfl (vis hv) (by decide) (xi_nr hs.V) ?_
      first | refine jx_icmp_ge (pc := 15) (tgt := 85) dX1_isLawful_15 (by decide) (by omega) (by omega) ?_ ?_ | refine jw_icmp_ge (pc := 15) (tgt := 85) dX1_isLawful_15 (by decide) ?_ ?_
      · intro h_15
        omega
      · intro h_15
        refine jw_iload (pc := 18) dX1_isLawful_18 rfl ?_
        first | refine jx_ifb_eq (pc := 20) (tgt := 85) dX1_isLawful_20 (by decide) ?_ ?_ | refine jx_if_eq (pc := 20) (tgt := 85) dX1_isLawful_20 (by decide) (by omega) ?_ ?_ | refine jw_if_eq (pc := 20) (tgt := 85) dX1_isLawful_20 (by decide) ?_ ?_
        · intro h_20
          refine jW.eq ?_ rfl rfl (J85 (some (.int (nI k))) none none)
          rw [h_20, allB_f (Nat.le_of_lt hkn) h_20]
        · intro h_20
          refine jw_aload_n (pc := 23) dX1_isLawful_23 rfl ?_
          refine jw_aload_n (pc := 24) dX1_isLawful_24 rfl ?_
          refine jx_getRs (pc := 25) (jf_X1_109_0.r) rfl dX1_isLawful_25 rfl (is_64 hS) (by decide) (hs.r) ?_
          refine jx_getRs (pc := 28) jg_X1_200_5 rfl dX1_isLawful_28 rfl (vis hv) (by decide) (vr_7 hv) ?_
          refine jw_iload (pc := 31) dX1_isLawful_31 rfl ?_
          refine jx_ialds (pc := 33) dX1_isLawful_33 (vok_7 hv) (vnn_7 hv) rfl (by omega) (a1) ?_
          refine jx_ialds (pc := 34) dX1_isLawful_34 (r1) (r2) rfl (by omega) (q1) ?_
          refine jw_istore (pc := 35) dX1_isLawful_35 (Nat.le_of_ble_eq_true rfl) rfl ?_
          try dsimp only [jput1, jput2, jkill, jclr, jis2_i, jis2_l, jis2_rs, jis2_rn, cond]
          refine jw_aload_n (pc := 37) dX1_isLawful_37 rfl ?_
          refine jw_aload_n (pc := 38) dX1_isLawful_38 rfl ?_
          refine jx_getRs (pc := 39) (jf_X1_109_0.r) rfl dX1_isLawful_39 rfl (is_64 hS) (by decide) (hs.r) ?_
          refine jx_getRs (pc := 42) jg_X1_203_5 rfl dX1_isLawful_42 rfl (vis hv) (by decide) (vr_8 hv) ?_
          refine jw_iload (pc := 45) dX1_isLawful_45 rfl ?_
          refine jx_ialds (pc := 47) dX1_isLawful_47 (vok_8 hv) (vnn_8 hv) rfl (by omega) (a2) ?_
          refine jx_ialds (pc := 48) dX1_isLawful_48 (r1) (r2) rfl (by omega) (q3) ?_
          refine jw_istore (pc := 49) dX1_isLawful_49 (Nat.le_of_ble_eq_true rfl) rfl ?_
          try dsimp only [jput1, jput2, jkill, jclr, jis2_i, jis2_l, jis2_rs, jis2_rn, cond]
          refine jw_iload (pc := 51) dX1_isLawful_51 rfl ?_
          refine jw_iload (pc := 53) dX1_isLawful_53 rfl ?_
          first | refine jx_icmp_eq (pc := 55) (tgt := 76) dX1_isLawful_55 (by decide) (by omega) (by omega) ?_ ?_ | refine jw_icmp_eq (pc := 55) (tgt := 76) dX1_isLawful_55 (by decide) ?_ ?_
          · intro h_55
            refine jw_iconst (pc := 76) dX1_isLawful_76 ic_0 ?_
            refine jw_ff ?_ (jW.sub (by simp [jsub]) (J77 h_20)); simp_all [pairB]
          · intro h_55
            refine jw_aload_n (pc := 58) dX1_isLawful_58 rfl ?_
            refine jw_iload (pc := 59) dX1_isLawful_59 rfl ?_
            refine jx_cVE (mi1 := mi_X4_sees) (pc := 61) rfl dX1_isLawful_61 lk_X1_173 rfl fi_X4_sees rfl rfl rfl (by decide) (hi.1) (t_X4_sees hi hS8 q2 hn0) (by first | decide | omega) rfl rfl (by decide) ?_
            refine jw_iload (pc := 64) dX1_isLawful_64 rfl ?_
            refine jx_cSE (mi1 := mi_X1_lies) (pc := 66) rfl dX1_isLawful_66 lk_X1_189 rfl fi_X1_lies (t_X1_lies (by omega) (by omega)) (by first | decide | omega) rfl rfl (by decide) ?_
            first | refine jx_ifb_eq (pc := 69) (tgt := 76) dX1_isLawful_69 (by decide) ?_ ?_ | refine jx_if_eq (pc := 69) (tgt := 76) dX1_isLawful_69 (by decide) (by omega) ?_ ?_ | refine jw_if_eq (pc := 69) (tgt := 76) dX1_isLawful_69 (by decide) ?_ ?_
            · intro h_69
              refine jw_iconst (pc := 76) dX1_isLawful_76 ic_0 ?_
              refine jw_ff ?_ (jW.sub (by simp [jsub]) (J77 h_20)); simp_all [pairB]
            · intro h_69
              refine jw_iconst (pc := 72) dX1_isLawful_72 ic_1 ?_
              refine jw_goto (pc := 73) (tgt := 77) dX1_isLawful_73 (by decide) ?_
              refine jw_tt ?_ (jW.sub (by simp [jsub]) (J77 h_20)); simp_all [pairB]
    · have hk' : k = V 0 6 := by omega
      subst hk'
      refine jw_iload (pc := 6) dX1_isLawful_6 rfl ?_
      refine jw_aload_n (pc := 8) dX1_isLawful_8 rfl ?_
      refine jx_getRs (pc := 9) (jf_X1_109_0.r) rfl dX1_isLawful_9 rfl (is_64 hS) (by decide) (hs.r) ?_
      refine jx_getIs (pc := 12) (jf_X1_197_5.r) rfl dX1_isLawful_12 rfl (vis hv) (by decide) (xi_nr hs.V) ?_
      first | refine jx_icmp_ge (pc := 15) (tgt := 85) dX1_isLawful_15 (by decide) (by omega) (by omega) ?_ ?_ | refine jw_icmp_ge (pc := 15) (tgt := 85) dX1_isLawful_15 (by decide) ?_ ?_
      · intro h_15
        exact J85 _ _ _
      · intro h_15
        omega
  refine jw_iconst (pc := 0) dX1_isLawful_0 ic_1 ?_
  refine jw_istore (pc := 1) dX1_isLawful_1 (Nat.le_of_ble_eq_true rfl) rfl ?_
  try dsimp only [jput1, jput2, jkill, jclr, jis2_i, jis2_l, jis2_rs, jis2_rn, cond]
  refine jw_iconst (pc := 3) dX1_isLawful_3 ic_0 ?_
  refine jw_istore (pc := 4) dX1_isLawful_4 (Nat.le_of_ble_eq_true rfl) rfl ?_
  try dsimp only [jput1, jput2, jkill, jclr, jis2_i, jis2_l, jis2_rs, jis2_rn, cond]
  exact J 0 (Nat.zero_le _)
theorem t_X1_isLawfulAt {r t : Nat} {pl : Nat → Nat} (hs : jXs M v V) (hR : jPr5 M r V pl) (ht : t < 2 ^ 30) : jE G mi_X1_isLawfulAt 6 [jr (some 64), jr (some r), .int (nI t)] M (some (.int (jb (lawfulV V pl t)))) M := by
  have hS := hs.1
  have he : eyesS V t 0 < 32 := msk5 (wf_nq hs.w) _
  refine jE.of (by decide) rfl (Nat.le_of_ble_eq_true rfl) ?_
  refine jw_aload_n (pc := 0) dX1_isLawfulAt_0 rfl ?_
  refine jw_aload_n (pc := 1) dX1_isLawfulAt_1 rfl ?_
  refine jw_aload_n (pc := 2) dX1_isLawfulAt_2 rfl ?_
  refine jw_iload_n (pc := 3) dX1_isLawfulAt_3 rfl ?_
  refine jw_iconst (pc := 4) dX1_isLawfulAt_4 ic_0 ?_
  refine jx_cVE (mi1 := mi_X1_watching) (pc := 5) rfl dX1_isLawfulAt_5 lk_X1_210 rfl fi_X1_watching rfl rfl rfl (by decide) (is_64 hS) (t_X1_watching hs ht (by decide)) (by first | decide | omega) rfl rfl (by simp only [List.map_cons, List.map_nil, List.sum_cons, List.sum_nil, cat_i, cat_l, jr_cat]; decide) ?_
  refine jw_aload_n (pc := 8) dX1_isLawfulAt_8 rfl ?_
  refine jw_iload_n (pc := 9) dX1_isLawfulAt_9 rfl ?_
  refine jx_cVE (mi1 := mi_X1_sight) (pc := 10) rfl dX1_isLawfulAt_10 lk_X1_166 rfl fi_X1_sight rfl rfl rfl (by decide) (is_64 hS) (t_X1_sight hs ht) (by first | decide | omega) rfl rfl (by simp only [List.map_cons, List.map_nil, List.sum_cons, List.sum_nil, cat_i, cat_l, jr_cat]; decide) ?_
  refine jx_cVE (mi1 := mi_X1_isLawful) (pc := 13) rfl dX1_isLawfulAt_13 lk_X1_214 rfl fi_X1_isLawful rfl rfl rfl (by decide) (is_64 hS) (t_X1_isLawful hs hR (sgt_sr hs t) (by omega)) (by first | decide | omega) rfl rfl (by decide) ?_
  refine jw_ireturn (pc := 16) dX1_isLawfulAt_16 rfl (by first | exact jnar_b _ | exact jnar_0 | exact jnar_1 | decide +kernel) ?_
  exact ⟨rfl, rfl⟩
end JX2
