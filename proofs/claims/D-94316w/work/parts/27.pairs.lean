/-! ===== counting pairs ===== -/
def sumN (n : Nat) (f : Nat → Nat) : Nat := match n with
  | 0 => 0
  | n + 1 => sumN n f + f n
theorem sumN_s (n : Nat) (f : Nat → Nat) : sumN (n + 1) f = sumN n f + f n := rfl
theorem sumN_cg {n : Nat} {f g : Nat → Nat} (h : ∀ k, k < n → f k = g k) : sumN n f = sumN n g := by
  induction n with
  | zero => rfl
  | succ n ih => rw [sumN_s, sumN_s, ih (fun k hk => h k (by omega)), h n (by omega)]
theorem sumN_add (n : Nat) (f g : Nat → Nat) : sumN n (fun k => f k + g k) = sumN n f + sumN n g := by
  induction n with
  | zero => rfl
  | succ n ih => rw [sumN_s, sumN_s, sumN_s, ih]; omega
theorem sumN_0 (n : Nat) {f : Nat → Nat} (h : ∀ k, k < n → f k = 0) : sumN n f = 0 := by
  induction n with
  | zero => rfl
  | succ n ih => rw [sumN_s, ih (fun k hk => h k (by omega)), h n (by omega)]
theorem sumN_ext {n m : Nat} {f : Nat → Nat} (hnm : n ≤ m) (h : ∀ k, n ≤ k → k < m → f k = 0) : sumN m f = sumN n f := by
  induction m with
  | zero => have : n = 0 := by omega
            subst this; rfl
  | succ m ih =>
    by_cases e : n = m + 1
    · subst e; rfl
    · rw [sumN_s, ih (by omega) (fun k h1 h2 => h k h1 (by omega)), h m (by omega) (by omega)]; rfl
theorem sumN_one {n k : Nat} {f : Nat → Nat} (hk : k < n) : f k ≤ sumN n f := by
  induction n with
  | zero => omega
  | succ n ih =>
    rw [sumN_s]
    by_cases e : k = n
    · subst e; omega
    · have := ih (by omega); omega
theorem sumN_sh (a m : Nat) (g : Nat → Nat) : sumN (a + 1 + m) (fun b => if a < b then g b else 0) = sumN m (fun k => g (a + 1 + k)) := by
  induction m with
  | zero => exact sumN_0 _ (fun k hk => if_neg (by omega))
  | succ m ih => rw [← Nat.add_assoc, sumN_s, sumN_s, ih, if_pos (by omega)]
theorem sumN_dbl (f : Nat → Nat → Nat) (hs : ∀ a b, f a b = f b a) (h1 : ∀ a, f a a = 1) (n : Nat) : sumN n (fun a => sumN n (f a)) = n + 2 * sumN n (fun a => sumN n (fun b => if a < b then f a b else 0)) := by
  induction n with
  | zero => rfl
  | succ n ih =>
    have e1 : sumN n (fun a => sumN (n + 1) (f a)) = sumN n (fun a => sumN n (f a)) + sumN n (fun a => f a n) := by
      rw [← sumN_add]; exact sumN_cg (fun k hk => rfl)
    have e2 : sumN n (fun a => sumN (n + 1) (fun b => if a < b then f a b else 0)) = sumN n (fun a => sumN n (fun b => if a < b then f a b else 0)) + sumN n (fun a => f a n) := by
      rw [← sumN_add]; exact sumN_cg (fun k hk => by rw [sumN_s, if_pos hk])
    have e3 : sumN (n + 1) (fun b => if n < b then f n b else 0) = 0 := sumN_0 _ (fun k hk => if_neg (by omega))
    have e4 : sumN n (f n) = sumN n (fun a => f a n) := sumN_cg (fun k hk => hs n k)
    rw [sumN_s n (fun a => sumN (n + 1) (f a)), sumN_s n (fun a => sumN (n + 1) (fun b => if a < b then f a b else 0)), e1, e2, e3, ih, sumN_s n (f n), h1, e4]
    omega
def bitN (s k : Nat) : Nat := if s.testBit k then 1 else 0
theorem cnt_sum (s : Nat) : cnt s = sumN 10 (bitN s) := by
  have h : ∀ n, ((List.range n).filter (fun k => s.testBit k)).length = sumN n (bitN s) := by
    intro n
    induction n with
    | zero => rfl
    | succ n ih =>
      rw [List.range_succ, List.filter_append, List.length_append, ih, sumN_s]
      unfold bitN
      cases hb : s.testBit n <;> simp [hb]
  exact h 10
def pairsV (V : Vt) (r op fg : Nat) : Nat := sumN (V 0 0) (fun a => cnt (seesS V r op fg a / 2 ^ (a + 1)))
theorem cnt_sees {V : Vt} (hw : jWf V) (r op fg a : Nat) : cnt (seesS V r op fg a) = sumN (V 0 0) (bitN (seesS V r op fg a)) := by
  rw [cnt_sum]
  exact sumN_ext (wf_np hw) (fun k h1 h2 => by unfold bitN; rw [seesS_bit, decide_eq_false (by omega)]; rfl)
theorem cnt_sees1 {V : Vt} (hw : jWf V) (r op fg : Nat) {a : Nat} (ha : a < V 0 0) : 1 ≤ cnt (seesS V r op fg a) := by
  rw [cnt_sees hw]
  have := sumN_one (f := bitN (seesS V r op fg a)) ha
  have e : bitN (seesS V r op fg a) a = 1 := by unfold bitN; rw [seesS_bit, decide_eq_true ha]; simp [seesB]
  omega
theorem pairs_law {V : Vt} (hw : jWf V) (r op fg : Nat) : sumN (V 0 0) (fun a => cnt (seesS V r op fg a) - 1) = 2 * pairsV V r op fg := by
  have hn := wf_np hw
  let f : Nat → Nat → Nat := fun a b => if seesB V r op fg a b then 1 else 0
  have e0 : sumN (V 0 0) (fun a => cnt (seesS V r op fg a)) = sumN (V 0 0) (fun a => sumN (V 0 0) (f a)) := sumN_cg (fun a ha => by
    show cnt (seesS V r op fg a) = _
    rw [cnt_sees hw]
    exact sumN_cg (fun b hb => by unfold bitN; rw [seesS_bit, decide_eq_true hb, Bool.true_and]))
  have e1 := sumN_dbl f (fun a b => by show (if _ then _ else _) = (if _ then _ else _); rw [sees_sym]) (fun a => by show (if _ then _ else _) = _; simp [seesB]) (V 0 0)
  have e2 : pairsV V r op fg = sumN (V 0 0) (fun a => sumN (V 0 0) (fun b => if a < b then f a b else 0)) := sumN_cg (fun a ha => by
    show cnt (seesS V r op fg a / 2 ^ (a + 1)) = _
    rw [cnt_sum]
    have s1 : sumN 10 (bitN (seesS V r op fg a / 2 ^ (a + 1))) = sumN 10 (fun k => bitN (seesS V r op fg a) (a + 1 + k)) := sumN_cg (fun k hk => by
      unfold bitN; rw [Nat.testBit_div_two_pow, Nat.add_comm k])
    rw [s1, ← sumN_sh a 10 (bitN (seesS V r op fg a))]
    rw [sumN_ext (n := V 0 0) (m := a + 1 + 10) (by omega) (fun k h1 h2 => by
      split
      · unfold bitN; rw [seesS_bit, decide_eq_false (by omega)]; rfl
      · rfl)]
    exact sumN_cg (fun b hb => by
      show (if a < b then bitN _ b else 0) = (if a < b then f a b else 0)
      unfold bitN; rw [seesS_bit, decide_eq_true hb, Bool.true_and]))
  have e3 : sumN (V 0 0) (fun a => cnt (seesS V r op fg a) - 1) + V 0 0 = sumN (V 0 0) (fun a => cnt (seesS V r op fg a)) := by
    have h1 : ∀ n, n ≤ V 0 0 → sumN n (fun a => cnt (seesS V r op fg a) - 1) + n = sumN n (fun a => cnt (seesS V r op fg a)) := by
      intro n
      induction n with
      | zero => intro _; rfl
      | succ n ih =>
        intro h
        have := ih (by omega)
        have h2 := cnt_sees1 hw r op fg (show n < V 0 0 by omega)
        rw [sumN_s, sumN_s]; omega
    exact h1 _ (Nat.le_refl _)
  omega
theorem sumN_le {n c : Nat} {f : Nat → Nat} (h : ∀ k, f k ≤ c) : sumN n f ≤ n * c := by
  induction n with
  | zero => exact Nat.zero_le _
  | succ n ih => rw [sumN_s, Nat.succ_mul]; have := h n; omega
theorem pairs_le {V : Vt} (hw : jWf V) (r op fg : Nat) : pairsV V r op fg ≤ 100 := by
  have := sumN_le (n := V 0 0) (c := 10) (f := fun a => cnt (seesS V r op fg a / 2 ^ (a + 1))) (fun k => cnt_le _)
  have hn := wf_np hw
  unfold pairsV
  omega
def q_pairs (σ : Sg) (t : Int32) : Int32 × Int32 := if stepW (sv σ) t = 0 then (nI (pairsV (vv σ) (rangeV (vv σ) (iN t)) 0 0), 0) else (-1, stepW (sv σ) t)
section JPA
variable {G : Gh} {M : Mm} {σ : Sg}
theorem t_X4_pairs {s r op fg : Nat} {V : Vt} (hw : jWf V) (hQ : jSr M s V (seesS V r op fg)) : jE G mi_X4_pairs 3 [jr (some s), .int (nI (V 0 0))] M (some (.int (nI (pairsV V r op fg)))) M := by
  obtain ⟨⟨s1, s2, s3, s4, s5, s6, s7, s8, s9⟩, hQ2⟩ := hQ
  have hn := wf_np hw
  refine jE.of (by decide) rfl (Nat.le_of_ble_eq_true rfl) ?_
  have J : ∀ k : Nat, k ≤ V 0 0 → jW G mi_X4_pairs 3 M 4 [some (jr (some s)), some (.int (nI (V 0 0))), some (.int (nI (sumN k (fun a => cnt (seesS V r op fg a / 2 ^ (a + 1)))))), some (.int (nI k))] [] M (fun r' M' => r' = .inl (some (.int (nI (pairsV V r op fg)))) ∧ M' = M) := by
    refine jW.loop _ (fun k => V 0 0 - k) _ (fun _ => []) (fun _ => M) (fun k hk ih => ?_)
    by_cases hkn : k < V 0 0
    · have hb := sees_lt hw r op fg k
      have hd : seesS V r op fg k / 2 ^ (k + 1) ≤ seesS V r op fg k := Nat.div_le_self _ _
      refine jw_iload_n (pc := 4) dX4_pairs_4 rfl ?_
      refine jw_iload_n (pc := 5) dX4_pairs_5 rfl ?_
      first | refine jx_icmp_ge (pc := 6) (tgt := 31) dX4_pairs_6 (by decide) (by omega) (by omega) ?_ ?_ | refine jw_icmp_ge (pc := 6) (tgt := 31) dX4_pairs_6 (by decide) ?_ ?_
      · intro h_6
        omega
      · intro h_6
        refine jw_iload_n (pc := 9) dX4_pairs_9 rfl ?_
        refine jw_aload_n (pc := 10) dX4_pairs_10 rfl ?_
        refine jx_getRs (pc := 11) (jf_X4_15_3.r) rfl dX4_pairs_11 rfl (s1) (by decide) (s3) ?_
        refine jw_iload_n (pc := 14) dX4_pairs_14 rfl ?_
        refine jx_ialds (pc := 15) dX4_pairs_15 (s6) (s7) rfl (by omega) ((hQ2 k hkn).1) ?_
        refine jw_iload_n (pc := 16) dX4_pairs_16 rfl ?_
        refine jw_iconst (pc := 17) dX4_pairs_17 ic_1 ?_
        first | refine jx_iadd (pc := 18) dX4_pairs_18 ?_ | refine jw_iadd (pc := 18) dX4_pairs_18 ?_
        refine jw_ishr (pc := 19) dX4_pairs_19 ?_
        rw [j_shr (by omega) (by omega)]
        refine jx_cSNE (mi1 := mi_X1_ones) (pc := 20) rfl dX4_pairs_20 q1292 q152 q1163 q1164 rfl fi_X1_ones (t_X1_ones (by omega)) (by first | decide | omega) rfl rfl (by simp only [List.map_cons, List.map_nil, List.sum_cons, List.sum_nil, Value.category]; decide) ?_
        first | refine jx_iadd (pc := 23) dX4_pairs_23 ?_ | refine jw_iadd (pc := 23) dX4_pairs_23 ?_
        refine jw_istore_n (pc := 24) dX4_pairs_24 (Nat.le_of_ble_eq_true rfl) rfl ?_
        try dsimp only [jput1, jput2, jkill, jclr, jis2_i, jis2_l, jis2_rs, jis2_rn, cond]
        first | refine jx_iinc (pc := 25) dX4_pairs_25 rfl rfl ?_ | refine jw_iinc (pc := 25) dX4_pairs_25 rfl rfl rfl ?_
        try dsimp only [jput1, jkill, jclr, jis2_i, jis2_l, jis2_rs, jis2_rn, cond]
        refine jw_goto (pc := 28) (tgt := 4) dX4_pairs_28 (by decide) ?_
        exact ih (k + 1) hkn (by omega)
    · have hk' : k = V 0 0 := by omega
      subst hk'
      refine jw_iload_n (pc := 4) dX4_pairs_4 rfl ?_
      refine jw_iload_n (pc := 5) dX4_pairs_5 rfl ?_
      first | refine jx_icmp_ge (pc := 6) (tgt := 31) dX4_pairs_6 (by decide) (by omega) (by omega) ?_ ?_ | refine jw_icmp_ge (pc := 6) (tgt := 31) dX4_pairs_6 (by decide) ?_ ?_
      · intro h_6
        refine jw_iload_n (pc := 31) dX4_pairs_31 rfl ?_
        refine jw_ireturn (pc := 32) dX4_pairs_32 rfl (rfl) ?_
        exact ⟨rfl, rfl⟩
      · intro h_6
        omega
  refine jw_iconst (pc := 0) dX4_pairs_0 ic_0 ?_
  refine jw_istore_n (pc := 1) dX4_pairs_1 (Nat.le_of_ble_eq_true rfl) rfl ?_
  try dsimp only [jput1, jput2, jkill, jclr, jis2_i, jis2_l, jis2_rs, jis2_rn, cond]
  refine jw_iconst (pc := 2) dX4_pairs_2 ic_0 ?_
  refine jw_istore_n (pc := 3) dX4_pairs_3 (Nat.le_of_ble_eq_true rfl) rfl ?_
  try dsimp only [jput1, jput2, jkill, jclr, jis2_i, jis2_l, jis2_rs, jis2_rn, cond]
  exact J 0 (Nat.zero_le _)
theorem t_X1_pairs {t : Int32} (h : jXx M σ) : jT G mi_X1_pairs 9 [jr (some 64), .int t] M (jQx M σ (q_pairs σ t)) := by
  have hS := h.1
  refine jT.of (by decide) rfl (Nat.le_of_ble_eq_true rfl) ?_
  refine jw_aload_n (pc := 0) dX1_pairs_0 rfl ?_
  refine jx_cVv (mi1 := mi_X1_anew) (pc := 1) rfl dX1_pairs_1 lk_X1_84 rfl fi_X1_anew rfl rfl rfl (by decide) (is_64 hS) (t_X1_anew h) (by first | decide | omega) rfl rfl (by decide) ?_
  intro M_1 q_1
  obtain ⟨hX, hf⟩ := q_1
  have hS := hX.1
  refine jw_aload_n (pc := 4) dX1_pairs_4 rfl ?_
  refine jw_iload_n (pc := 5) dX1_pairs_5 rfl ?_
  refine jx_cVE (mi1 := mi_X1_stepWhy) (pc := 6) rfl dX1_pairs_6 lk_X1_176 rfl fi_X1_stepWhy rfl rfl rfl (by decide) (is_64 hS) (t_X1_stepWhy (o := sv σ) hX rfl) (by first | decide | omega) rfl rfl (by decide) ?_
  refine jw_istore_n (pc := 9) dX1_pairs_9 (Nat.le_of_ble_eq_true rfl) rfl ?_
  try dsimp only [jput1, jput2, jkill, jclr, jis2_i, jis2_l, jis2_rs, jis2_rn, cond]
  refine jw_iload_n (pc := 10) dX1_pairs_10 rfl ?_
  refine jw_if_eq (pc := 11) (tgt := 22) dX1_pairs_11 (by decide) ?_ ?_
  · intro h_11
    obtain ⟨V, kt, hv9, hkt, rfl⟩ := stepW_0 h_11
    obtain ⟨v, hs, hN⟩ := hX.so hv9
    have hv := hs.s
    refine jw_aload_n (pc := 22) dX1_pairs_22 rfl ?_
    refine jw_iload_n (pc := 23) dX1_pairs_23 rfl ?_
    refine jx_cVE (mi1 := mi_X1_sight) (pc := 24) rfl dX1_pairs_24 lk_X1_166 rfl fi_X1_sight rfl rfl rfl (by decide) (is_64 hS) (t_X1_sight (t := kt) hs (by omega)) (by first | decide | omega) rfl rfl (by decide) ?_
    refine jw_aload_n (pc := 27) dX1_pairs_27 rfl ?_
    refine jx_getRs (pc := 28) (jf_X1_109_0.r) rfl dX1_pairs_28 rfl (is_64 hS) (by decide) (hs.r) ?_
    refine jx_getIs (pc := 31) (jf_X1_150_5.r) rfl dX1_pairs_31 rfl (vis hv) (by decide) (xi_np hs.V) ?_
    refine jx_cVE (mi1 := mi_X4_pairs) (pc := 34) rfl dX1_pairs_34 lk_X1_366 rfl fi_X4_pairs rfl rfl rfl (by decide) ((sgt_si hs kt).1) (t_X4_pairs hs.w (sgt_sr hs kt)) (by first | decide | omega) rfl rfl (by decide) ?_
    refine jw_ireturn (pc := 37) dX1_pairs_37 rfl (rfl) ?_
    first
      | (refine qx_no ?_ hf q_16; unfold q_pairs; rw [if_neg h_11])
      | (refine qx_ok ?_ hf hX; unfold q_pairs; rw [if_pos h_11, vv_s hv9, iN_n (by omega)])
  · intro h_11
    refine jw_aload_n (pc := 14) dX1_pairs_14 rfl ?_
    refine jw_iload_n (pc := 15) dX1_pairs_15 rfl ?_
    refine jx_cVi (mi1 := mi_X1_no) (pc := 16) rfl dX1_pairs_16 lk_X1_98 rfl fi_X1_no rfl rfl rfl (by decide) (is_64 hS) (t_X1_no hX (stepW_4 _ _)) (by first | decide | omega) rfl rfl (by decide) ?_
    intro x_16 M_16 q_16
    refine jw_goto (pc := 19) (tgt := 37) dX1_pairs_19 (by decide) ?_
    refine jw_ireturn (pc := 37) dX1_pairs_37 rfl (rfl) ?_
    first
      | (refine qx_no ?_ hf q_16; unfold q_pairs; rw [if_neg h_11])
      | (refine qx_ok ?_ hf hX; unfold q_pairs; rw [if_pos h_11, vv_s hv9, iN_n (by omega)])
theorem t_X5_pairsIn {w op fg t : Nat} {V : Vt} (hs : jMs M w V op fg) (ho : op < 2 ^ 31) (hf : fg < 2 ^ 31) (ht : t < 2 ^ 30) : jE G mi_X5_pairsIn 5 [jr (some 90), .int (nI t)] M (some (.int (nI (pairsV V (rangeV V t) op fg)))) M := by
  have hS := hs.1
  have hw := hs.s
  have hn := wf_np hs.w
  have hpl := pairs_law hs.w (rangeV V t) op fg
  have hple := pairs_le hs.w (rangeV V t) op fg
  refine jE.of (by decide) rfl (Nat.le_of_ble_eq_true rfl) ?_
  have J : ∀ k : Nat, k ≤ V 0 0 → jW G mi_X5_pairsIn 5 M 4 [some (jr (some 90)), some (.int (nI t)), some (.int (nI (sumN k (fun a => cnt (seesS V (rangeV V t) op fg a) - 1)))), some (.int (nI k))] [] M (fun r' M' => r' = .inl (some (.int (nI (pairsV V (rangeV V t) op fg)))) ∧ M' = M) := by
    refine jW.loop _ (fun k => V 0 0 - k) _ (fun _ => []) (fun _ => M) (fun k hk ih => ?_)
    by_cases hkn : k < V 0 0
    · have hb := sees_lt hs.w (rangeV V t) op fg k
      have h1 := cnt_sees1 hs.w (rangeV V t) op fg hkn
      refine jw_iload_n (pc := 4) dX5_pairsIn_4 rfl ?_
      refine jw_aload_n (pc := 5) dX5_pairsIn_5 rfl ?_
      refine jx_getRs (pc := 6) (jf_X5_380_4.r) rfl dX5_pairsIn_6 rfl (is_90 hS) (by decide) (hs.r) ?_
      refine jx_getIs (pc := 9) (jf_X5_218_12.r) rfl dX5_pairsIn_9 rfl (wis hw) (by decide) (mi_np hs.V) ?_
      first | refine jx_icmp_ge (pc := 12) (tgt := 35) dX5_pairsIn_12 (by decide) (by omega) (by omega) ?_ ?_ | refine jw_icmp_ge (pc := 12) (tgt := 35) dX5_pairsIn_12 (by decide) ?_ ?_
      · intro h_12
        omega
      · intro h_12
        refine jw_iload_n (pc := 15) dX5_pairsIn_15 rfl ?_
        refine jw_aload_n (pc := 16) dX5_pairsIn_16 rfl ?_
        refine jw_iload_n (pc := 17) dX5_pairsIn_17 rfl ?_
        refine jw_iload_n (pc := 18) dX5_pairsIn_18 rfl ?_
        refine jx_cVE (mi1 := mi_X5_seenFrom) (pc := 19) rfl dX5_pairsIn_19 lk_X5_417 rfl fi_X5_seenFrom rfl rfl rfl (by decide) (is_90 hS) (t_X5_seenFrom hs ho hf ht hkn) (by first | decide | omega) rfl rfl (by simp only [List.map_cons, List.map_nil, List.sum_cons, List.sum_nil, Value.category]; decide) ?_
        refine jx_cSE (mi1 := mi_X5_bits) (pc := 22) rfl dX5_pairsIn_22 lk_X5_461 rfl fi_X5_bits (t_X5_bits (by omega)) (by first | decide | omega) rfl rfl (by simp only [List.map_cons, List.map_nil, List.sum_cons, List.sum_nil, Value.category]; decide) ?_
        refine jw_iconst (pc := 25) dX5_pairsIn_25 ic_1 ?_
        refine jw_isub (pc := 26) dX5_pairsIn_26 ?_
        rw [sub1 h1]
        first | refine jx_iadd (pc := 27) dX5_pairsIn_27 ?_ | refine jw_iadd (pc := 27) dX5_pairsIn_27 ?_
        refine jw_istore_n (pc := 28) dX5_pairsIn_28 (Nat.le_of_ble_eq_true rfl) rfl ?_
        try dsimp only [jput1, jput2, jkill, jclr, jis2_i, jis2_l, jis2_rs, jis2_rn, cond]
        first | refine jx_iinc (pc := 29) dX5_pairsIn_29 rfl rfl ?_ | refine jw_iinc (pc := 29) dX5_pairsIn_29 rfl rfl rfl ?_
        try dsimp only [jput1, jkill, jclr, jis2_i, jis2_l, jis2_rs, jis2_rn, cond]
        refine jw_goto (pc := 32) (tgt := 4) dX5_pairsIn_32 (by decide) ?_
        exact ih (k + 1) hkn (by omega)
    · have hk' : k = V 0 0 := by omega
      subst hk'
      refine jw_iload_n (pc := 4) dX5_pairsIn_4 rfl ?_
      refine jw_aload_n (pc := 5) dX5_pairsIn_5 rfl ?_
      refine jx_getRs (pc := 6) (jf_X5_380_4.r) rfl dX5_pairsIn_6 rfl (is_90 hS) (by decide) (hs.r) ?_
      refine jx_getIs (pc := 9) (jf_X5_218_12.r) rfl dX5_pairsIn_9 rfl (wis hw) (by decide) (mi_np hs.V) ?_
      first | refine jx_icmp_ge (pc := 12) (tgt := 35) dX5_pairsIn_12 (by decide) (by omega) (by omega) ?_ ?_ | refine jw_icmp_ge (pc := 12) (tgt := 35) dX5_pairsIn_12 (by decide) ?_ ?_
      · intro h_12
        refine jw_iload_n (pc := 35) dX5_pairsIn_35 rfl ?_
        refine jw_iconst (pc := 36) dX5_pairsIn_36 ic_2 ?_
        refine jw_idiv (pc := 37) dX5_pairsIn_37 (by decide) ?_
        rw [hpl, i_div (by omega) (by decide) (by decide), Nat.mul_div_cancel_left _ (by decide)]
        refine jw_ireturn (pc := 38) dX5_pairsIn_38 rfl (rfl) ?_
        exact ⟨rfl, rfl⟩
      · intro h_12
        omega
  refine jw_iconst (pc := 0) dX5_pairsIn_0 ic_0 ?_
  refine jw_istore_n (pc := 1) dX5_pairsIn_1 (Nat.le_of_ble_eq_true rfl) rfl ?_
  try dsimp only [jput1, jput2, jkill, jclr, jis2_i, jis2_l, jis2_rs, jis2_rn, cond]
  refine jw_iconst (pc := 2) dX5_pairsIn_2 ic_0 ?_
  refine jw_istore_n (pc := 3) dX5_pairsIn_3 (Nat.le_of_ble_eq_true rfl) rfl ?_
  try dsimp only [jput1, jput2, jkill, jclr, jis2_i, jis2_l, jis2_rs, jis2_rn, cond]
  exact J 0 (Nat.zero_le _)
theorem t_X5_pairs {t : Int32} (h : jMm M σ) : jT G mi_X5_pairs 9 [jr (some 90), .int t] M (jQm M σ (q_pairs σ t)) := by
  have hS := h.1
  refine jT.of (by decide) rfl (Nat.le_of_ble_eq_true rfl) ?_
  refine jw_aload_n (pc := 0) dX5_pairs_0 rfl ?_
  refine jw_iconst (pc := 1) dX5_pairs_1 ic_0 ?_
  refine jx_putI (pc := 2) jf_X5_56_4 rfl dX5_pairs_2 rfl rfl (is_90 hS) (by decide) ?_
  have hM := mthr (x := nI 0) h
  have hf : jfm M (js_I M 90 49 (nI 0)) := jsm.I (by decide)
  generalize js_I M 90 49 (nI 0) = M0 at hM hf ⊢
  clear hS
  have hS := hM.1
  refine jw_aload_n (pc := 5) dX5_pairs_5 rfl ?_
  refine jw_iload_n (pc := 6) dX5_pairs_6 rfl ?_
  refine jx_cVE (mi1 := mi_X5_refusesSteps) (pc := 7) rfl dX5_pairs_7 lk_X5_420 rfl fi_X5_refusesSteps rfl rfl rfl (by decide) (is_90 hS) (t_X5_refusesSteps (o := sv σ) hM rfl) (by first | decide | omega) rfl rfl (by decide) ?_
  refine jw_istore_n (pc := 10) dX5_pairs_10 (Nat.le_of_ble_eq_true rfl) rfl ?_
  try dsimp only [jput1, jput2, jkill, jclr, jis2_i, jis2_l, jis2_rs, jis2_rn, cond]
  refine jw_iload_n (pc := 11) dX5_pairs_11 rfl ?_
  refine jw_if_le (pc := 12) (tgt := 23) dX5_pairs_12 (by decide) ?_ ?_
  · intro h_12
    have h_12 := stepW_le h_12
    obtain ⟨V, kt, hv9, hkt, rfl⟩ := stepW_0 h_12
    obtain ⟨w, hs, hN⟩ := hM.so hv9
    refine jw_aload_n (pc := 23) dX5_pairs_23 rfl ?_
    refine jw_aload_n (pc := 24) dX5_pairs_24 rfl ?_
    refine jw_iload_n (pc := 25) dX5_pairs_25 rfl ?_
    refine jx_cVE (mi1 := mi_X5_pairsIn) (pc := 26) rfl dX5_pairs_26 lk_X5_531 rfl fi_X5_pairsIn rfl rfl rfl (by decide) (is_90 hS) (t_X5_pairsIn hs (by decide) (by decide) (by omega)) (by first | decide | omega) rfl rfl (by simp only [List.map_cons, List.map_nil, List.sum_cons, List.sum_nil, cat_i, cat_l, jr_cat]; decide) ?_
    refine jw_iconst (pc := 29) dX5_pairs_29 ic_0 ?_
    refine jx_cVi (mi1 := mi_X5_told) (pc := 30) rfl dX5_pairs_30 lk_X5_66 rfl fi_X5_told rfl rfl rfl (by decide) (is_90 hS) (t_X5_told0 hM) (by first | decide | omega) rfl rfl (by decide) ?_
    intro x_30 M_30 q_30
    refine jw_ireturn (pc := 33) dX5_pairs_33 rfl (rfl) ?_
    first
      | (refine qm ?_ hf q_17; unfold q_pairs; rw [if_neg (fun e => h_12 (by rw [e]; decide +kernel))])
      | (refine qm ?_ hf q_30; unfold q_pairs; rw [if_pos h_12, vv_s hv9, iN_n (by omega)])
  · intro h_12
    refine jw_aload_n (pc := 15) dX5_pairs_15 rfl ?_
    refine jw_iload_n (pc := 16) dX5_pairs_16 rfl ?_
    refine jx_cVi (mi1 := mi_X5_refused) (pc := 17) rfl dX5_pairs_17 lk_X5_62 rfl fi_X5_refused rfl rfl rfl (by decide) (is_90 hS) (t_X5_refused hM) (by first | decide | omega) rfl rfl (by decide) ?_
    intro x_17 M_17 q_17
    refine jw_goto (pc := 20) (tgt := 33) dX5_pairs_20 (by decide) ?_
    refine jw_ireturn (pc := 33) dX5_pairs_33 rfl (rfl) ?_
    first
      | (refine qm ?_ hf q_17; unfold q_pairs; rw [if_neg (fun e => h_12 (by rw [e]; decide +kernel))])
      | (refine qm ?_ hf q_30; unfold q_pairs; rw [if_pos h_12, vv_s hv9, iN_n (by omega)])
end JPA
