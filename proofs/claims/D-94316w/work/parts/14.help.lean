/-! small laws of bits, by trial -/
set_option maxRecDepth 100000
/-- how many bits -/
def cnt (s : Nat) : Nat := ((List.range 10).filter (fun k => s.testBit k)).length
theorem cnt_step : ∀ s, s < 1024 → s ≠ 0 → cnt (s &&& (s - 1)) + 1 = cnt s ∧ (s &&& (s - 1)) < s := by decide +kernel
theorem cnt_0 : cnt 0 = 0 := by decide +kernel
theorem cnt_le (s : Nat) : cnt s ≤ 10 := by
  unfold cnt
  exact Nat.le_trans (List.length_filter_le _ _) (by simp)
theorem nI_31 : ∀ n, n < 32 → ((nI n &&& 31).toBitVec.smod 32).toNat = n := by decide +kernel
theorem nI_m31 : (31 : Int32) = nI 31 := by decide +kernel
theorem j_shr {s k : Nat} (hs : s < 2 ^ 31) (hk : k < 32) : nI s >>> (nI k &&& 31) = nI (s / 2 ^ k) := pk_shrN hs _ k (nI_31 k hk)
theorem j_shl {s k : Nat} (hk : k < 32) (h : s * 2 ^ k < 2 ^ 32) : nI s <<< (nI k &&& 31) = nI (s * 2 ^ k) := pk_shlN _ k (nI_31 k hk) h
theorem j_and1 {s : Nat} (hs : s < 2 ^ 32) : nI s &&& nI 1 = nI (s % 2) := by
  have := pk_andN hs (m := nI 1) 1 (by decide +kernel)
  simpa using this
theorem nI_and' (a b : Nat) : nI a &&& nI b = nI (a &&& b) := by
  apply Int32.toBitVec_inj.mp
  show BitVec.ofNat 32 a &&& BitVec.ofNat 32 b = BitVec.ofNat 32 (a &&& b)
  rw [BitVec.ofNat_and]
theorem nI_or' (a b : Nat) : nI a ||| nI b = nI (a ||| b) := by
  apply Int32.toBitVec_inj.mp
  show BitVec.ofNat 32 a ||| BitVec.ofNat 32 b = BitVec.ofNat 32 (a ||| b)
  rw [BitVec.ofNat_or]
theorem bit_1 (s k : Nat) : s / 2 ^ k % 2 = 1 ↔ s.testBit k = true := by
  rw [Nat.testBit_eq_decide_div_mod_eq]
  simp
theorem jret_t {b : Bool} (h : b = true) : (Sum.inl (some (Value.int (nI 1))) : Rs) = .inl (some (.int (jb b))) := by rw [h]; rfl
theorem jret_f {b : Bool} (h : b = false) : (Sum.inl (some (Value.int (nI 0))) : Rs) = .inl (some (.int (jb b))) := by rw [h]; rfl
theorem i_nlt {a b : Int32} : ¬ a < b ↔ b ≤ a := Int32.not_lt
theorem i_nle {a b : Int32} : ¬ a ≤ b ↔ b < a := Int32.not_le
def inb (a b c : Int32) : Bool := decide (b ≤ a ∧ a ≤ c)
section JH
variable {G : Gh} {M : Mm}
theorem t_X1_in {a b c : Int32} : jE G mi_X1_in 1 [.int a, .int b, .int c] M (some (.int (jb (inb a b c)))) M := by
  refine jE.of (by decide) rfl (Nat.le_of_ble_eq_true rfl) ?_
  refine jw_iload_n (pc := 0) dX1_in_0 rfl ?_
  refine jw_iload_n (pc := 1) dX1_in_1 rfl ?_
  refine jw_icmp_lt (pc := 2) (tgt := 14) dX1_in_2 (by decide) ?_ ?_
  · intro h_2
    refine jw_iconst (pc := 14) dX1_in_14 ic_0 ?_
    refine jw_ireturn (pc := 15) dX1_in_15 rfl (by first | exact jnar_b _ | exact jnar_0 | exact jnar_1 | decide +kernel) ?_
    refine ⟨jret_f ?_, rfl⟩
    exact decide_eq_false (fun q => by first | exact absurd q.1 (i_nle.mpr h_2) | exact absurd q.2 (i_nle.mpr h_7))
  · intro h_2
    refine jw_iload_n (pc := 5) dX1_in_5 rfl ?_
    refine jw_iload_n (pc := 6) dX1_in_6 rfl ?_
    refine jw_icmp_gt (pc := 7) (tgt := 14) dX1_in_7 (by decide) ?_ ?_
    · intro h_7
      refine jw_iconst (pc := 14) dX1_in_14 ic_0 ?_
      refine jw_ireturn (pc := 15) dX1_in_15 rfl (by first | exact jnar_b _ | exact jnar_0 | exact jnar_1 | decide +kernel) ?_
      refine ⟨jret_f ?_, rfl⟩
      exact decide_eq_false (fun q => by first | exact absurd q.1 (i_nle.mpr h_2) | exact absurd q.2 (i_nle.mpr h_7))
    · intro h_7
      refine jw_iconst (pc := 10) dX1_in_10 ic_1 ?_
      refine jw_goto (pc := 11) (tgt := 15) dX1_in_11 (by decide) ?_
      refine jw_ireturn (pc := 15) dX1_in_15 rfl (by first | exact jnar_b _ | exact jnar_0 | exact jnar_1 | decide +kernel) ?_
      refine ⟨jret_t ?_, rfl⟩
      exact decide_eq_true ⟨i_nlt.mp h_2, i_nlt.mp h_7⟩
theorem t_X5_in {a b c : Int32} : jE G mi_X5_in 1 [.int a, .int b, .int c] M (some (.int (jb (inb a b c)))) M := by
  refine jE.of (by decide) rfl (Nat.le_of_ble_eq_true rfl) ?_
  refine jw_iload_n (pc := 0) dX5_in_0 rfl ?_
  refine jw_iload_n (pc := 1) dX5_in_1 rfl ?_
  refine jw_icmp_lt (pc := 2) (tgt := 14) dX5_in_2 (by decide) ?_ ?_
  · intro h_2
    refine jw_iconst (pc := 14) dX5_in_14 ic_0 ?_
    refine jw_ireturn (pc := 15) dX5_in_15 rfl (by first | exact jnar_b _ | exact jnar_0 | exact jnar_1 | decide +kernel) ?_
    refine ⟨jret_f ?_, rfl⟩
    exact decide_eq_false (fun q => by first | exact absurd q.1 (i_nle.mpr h_2) | exact absurd q.2 (i_nle.mpr h_7))
  · intro h_2
    refine jw_iload_n (pc := 5) dX5_in_5 rfl ?_
    refine jw_iload_n (pc := 6) dX5_in_6 rfl ?_
    refine jw_icmp_gt (pc := 7) (tgt := 14) dX5_in_7 (by decide) ?_ ?_
    · intro h_7
      refine jw_iconst (pc := 14) dX5_in_14 ic_0 ?_
      refine jw_ireturn (pc := 15) dX5_in_15 rfl (by first | exact jnar_b _ | exact jnar_0 | exact jnar_1 | decide +kernel) ?_
      refine ⟨jret_f ?_, rfl⟩
      exact decide_eq_false (fun q => by first | exact absurd q.1 (i_nle.mpr h_2) | exact absurd q.2 (i_nle.mpr h_7))
    · intro h_7
      refine jw_iconst (pc := 10) dX5_in_10 ic_1 ?_
      refine jw_goto (pc := 11) (tgt := 15) dX5_in_11 (by decide) ?_
      refine jw_ireturn (pc := 15) dX5_in_15 rfl (by first | exact jnar_b _ | exact jnar_0 | exact jnar_1 | decide +kernel) ?_
      refine ⟨jret_t ?_, rfl⟩
      exact decide_eq_true ⟨i_nlt.mp h_2, i_nlt.mp h_7⟩
/-- a bit of a set -/
theorem t_X1_lies {s k : Nat} (hs : s < 2 ^ 31) (hk : k < 32) : jE G mi_X1_lies 1 [.int (nI s), .int (nI k)] M (some (.int (jb (s.testBit k)))) M := by
  refine jE.of (by decide) rfl (Nat.le_of_ble_eq_true rfl) ?_
  refine jw_iload_n (pc := 0) dX1_lies_0 rfl ?_
  refine jw_iload_n (pc := 1) dX1_lies_1 rfl ?_
  refine jw_ishr (pc := 2) dX1_lies_2 ?_
  rw [j_shr hs hk]
  refine jw_iconst (pc := 3) dX1_lies_3 ic_1 ?_
  refine jw_iand (pc := 4) dX1_lies_4 ?_
  rw [j_and1 (Nat.lt_of_le_of_lt (Nat.div_le_self _ _) (by omega))]
  have hm : s / 2 ^ k % 2 < 2 := Nat.mod_lt _ (by decide)
  refine jw_iconst (pc := 5) dX1_lies_5 ic_1 ?_
  first | refine jx_icmp_ne (pc := 6) (tgt := 13) dX1_lies_6 (by decide) (by omega) (by omega) ?_ ?_ | refine jw_icmp_ne (pc := 6) (tgt := 13) dX1_lies_6 (by decide) ?_ ?_
  · intro h_6
    refine jw_iconst (pc := 13) dX1_lies_13 ic_0 ?_
    refine jw_ireturn (pc := 14) dX1_lies_14 rfl (by first | exact jnar_b _ | exact jnar_0 | exact jnar_1 | decide +kernel) ?_
    refine ⟨jret_f ?_, rfl⟩
    cases hb : s.testBit k with | false => rfl | true => exact absurd ((bit_1 s k).mpr hb) (by omega)
  · intro h_6
    refine jw_iconst (pc := 9) dX1_lies_9 ic_1 ?_
    refine jw_goto (pc := 10) (tgt := 14) dX1_lies_10 (by decide) ?_
    refine jw_ireturn (pc := 14) dX1_lies_14 rfl (by first | exact jnar_b _ | exact jnar_0 | exact jnar_1 | decide +kernel) ?_
    refine ⟨jret_t ?_, rfl⟩
    exact (bit_1 s k).mp (by omega)
theorem t_X5_has {s k : Nat} (hs : s < 2 ^ 31) (hk : k < 32) : jE G mi_X5_has 1 [.int (nI s), .int (nI k)] M (some (.int (jb (s.testBit k)))) M := by
  refine jE.of (by decide) rfl (Nat.le_of_ble_eq_true rfl) ?_
  refine jw_iload_n (pc := 0) dX5_has_0 rfl ?_
  refine jw_iload_n (pc := 1) dX5_has_1 rfl ?_
  refine jw_ishr (pc := 2) dX5_has_2 ?_
  rw [j_shr hs hk]
  refine jw_iconst (pc := 3) dX5_has_3 ic_1 ?_
  refine jw_iand (pc := 4) dX5_has_4 ?_
  rw [j_and1 (Nat.lt_of_le_of_lt (Nat.div_le_self _ _) (by omega))]
  have hm : s / 2 ^ k % 2 < 2 := Nat.mod_lt _ (by decide)
  refine jw_iconst (pc := 5) dX5_has_5 ic_1 ?_
  first | refine jx_icmp_ne (pc := 6) (tgt := 13) dX5_has_6 (by decide) (by omega) (by omega) ?_ ?_ | refine jw_icmp_ne (pc := 6) (tgt := 13) dX5_has_6 (by decide) ?_ ?_
  · intro h_6
    refine jw_iconst (pc := 13) dX5_has_13 ic_0 ?_
    refine jw_ireturn (pc := 14) dX5_has_14 rfl (by first | exact jnar_b _ | exact jnar_0 | exact jnar_1 | decide +kernel) ?_
    refine ⟨jret_f ?_, rfl⟩
    cases hb : s.testBit k with | false => rfl | true => exact absurd ((bit_1 s k).mpr hb) (by omega)
  · intro h_6
    refine jw_iconst (pc := 9) dX5_has_9 ic_1 ?_
    refine jw_goto (pc := 10) (tgt := 14) dX5_has_10 (by decide) ?_
    refine jw_ireturn (pc := 14) dX5_has_14 rfl (by first | exact jnar_b _ | exact jnar_0 | exact jnar_1 | decide +kernel) ?_
    refine ⟨jret_t ?_, rfl⟩
    exact (bit_1 s k).mp (by omega)
theorem t_X1_ones {s0 : Nat} (hs : s0 < 1024) : jE G mi_X1_ones 1 [.int (nI s0)] M (some (.int (nI (cnt s0)))) M := by
  refine jE.of (by decide) rfl (Nat.le_of_ble_eq_true rfl) ?_
  have J : ∀ x : Nat × Nat, (x.1 < 1024 ∧ x.2 + cnt x.1 = cnt s0) → jW G mi_X1_ones 1 M 4 [some (.int (nI s0)), some (.int (nI x.2)), some (.int (nI x.1))] [] M (fun r M' => r = .inl (some (.int (nI (cnt s0)))) ∧ M' = M) := by
    refine jW.loop _ (fun x => x.1) _ (fun _ => []) (fun _ => M) (fun x hI ih => ?_)
    obtain ⟨s, n⟩ := x
    obtain ⟨h1, h2⟩ := hI
    dsimp only at h1 h2 ⊢
    have h3 := cnt_le s0
    refine jw_iload_n (pc := 4) dX1_ones_4 rfl ?_
    first | refine jx_ifb_eq (pc := 5) (tgt := 20) dX1_ones_5 (by decide) ?_ ?_ | refine jx_if_eq (pc := 5) (tgt := 20) dX1_ones_5 (by decide) (by omega) ?_ ?_ | refine jw_if_eq (pc := 5) (tgt := 20) dX1_ones_5 (by decide) ?_ ?_
    · intro h_5
      refine jw_iload_n (pc := 20) dX1_ones_20 rfl ?_
      refine jw_ireturn (pc := 21) dX1_ones_21 rfl (rfl) ?_
      subst h_5; rw [cnt_0] at h2; exact ⟨by rw [← h2]; rfl, rfl⟩
    · intro h_5
      have h4 := cnt_step s h1 h_5
      first | refine jx_iinc (pc := 8) dX1_ones_8 rfl rfl ?_ | refine jw_iinc (pc := 8) dX1_ones_8 rfl rfl rfl ?_
      try dsimp only [jput1, jkill, jclr, jis2, cond]
      refine jw_iload_n (pc := 11) dX1_ones_11 rfl ?_
      refine jw_iload_n (pc := 12) dX1_ones_12 rfl ?_
      refine jw_iconst (pc := 13) dX1_ones_13 ic_1 ?_
      refine jw_isub (pc := 14) dX1_ones_14 ?_
      rw [show nI s - nI 1 = nI (s - 1) from pk_sub (by omega)]
      refine jw_iand (pc := 15) dX1_ones_15 ?_
      rw [nI_and']
      refine jw_istore_n (pc := 16) dX1_ones_16 (Nat.le_of_ble_eq_true rfl) rfl ?_
      try dsimp only [jput1, jput2, jkill, jclr, jis2, cond]
      refine jw_goto (pc := 17) (tgt := 4) dX1_ones_17 (by decide) ?_
      exact ih (s &&& (s - 1), n + 1) (by dsimp only; omega) h4.2
  refine jw_iconst (pc := 0) dX1_ones_0 ic_0 ?_
  refine jw_istore_n (pc := 1) dX1_ones_1 (Nat.le_of_ble_eq_true rfl) rfl ?_
  try dsimp only [jput1, jput2, jkill, jclr, jis2, cond]
  refine jw_iload_n (pc := 2) dX1_ones_2 rfl ?_
  refine jw_istore_n (pc := 3) dX1_ones_3 (Nat.le_of_ble_eq_true rfl) rfl ?_
  try dsimp only [jput1, jput2, jkill, jclr, jis2, cond]
  exact J (s0, 0) (by dsimp only; omega)
end JH
