/-! methods of classes that the machine has rows for -/
theorem jT.ofF {G : Gh} {mi : Mi} {d : Nat} {As : List Value} {M : Mm} {P : Rs → Mm → Prop} (hy : plainFor mi.1 = true) (hhh : mi.2.2.2.2 = []) (hlen : jlen As ≤ mi.2.2.1) (h : jW G mi d M 0 (jent As mi.2.2.1) [] M (fun r M' => P r M' ∧ ∃ v, r = .inl v)) : jT G mi d As M P := by
  obtain ⟨r, M', ⟨h1, v, rfl⟩, h2, h3⟩ := h
  refine ⟨.inl v, M', h1, h2, ?_⟩
  have hws : jws mi = Cond.code mi.1 mi.2.1 mi.2.2.1 mi.2.2.2.1 :: lw_all := by unfold jws; rw [hhh]
  refine va_MetF (cc := mi.2.1) (maxL := mi.2.2.1) (ret := mi.2.2.2.1) hy hws ?_
  intro p e s m args below meth c s₁ B hml hv
  obtain ⟨rfl, hR, hK⟩ := hv
  obtain ⟨meth9, c9, g1, g2, -, -, -, -, g7, -⟩ := Cond.code_spec B.named (atoms_spec (ws := jws mi) B.pre _ (by rw [hws]; exact List.mem_cons_self))
  cases Option.some.inj (g1.symm.trans B.method)
  cases Option.some.inj (g2.symm.trans (Stand.of_body B).code)
  have hex : ∀ x ∈ c.exceptionTable.toList, False := by
    intro x hx
    rw [Array.isEmpty_iff.mp g7] at hx
    cases hx
  have hts : ∀ w ∈ jws mi, w.before (As.map (jv G)).toArray s = true := atoms_spec (ws := jws mi) B.pre
  have hts : ∀ w ∈ lw_all, w.before (As.map (jv G)).toArray s = true := fun w h => hts w (by rw [hws]; exact List.mem_cons_of_mem _ h)
  have hl := jent_lv G As mi.2.2.1 (by rw [jlen_eq]; exact hlen)
  rw [lg_entry_eq]
  have hnil : c.exceptionTable.toList = tableOf mi.2.2.2.2 := by
    rw [hhh]
    cases hc : c.exceptionTable.toList with
    | nil => rfl
    | cons x t => exact (hex x (by rw [hc]; exact List.mem_cons_self)).elim
  have hb : jg_b G ≤ s.heap.size := by
    have h1 := hR.1
    have h2 := hR.2.1
    omega
  have := h3 p e s m (As.map (jv G)).toArray below meth c s.heap [] _ ⟨B.exec, B.bytes, B.returns, B.notSynchronized, hml, findClass_of_methodNamed B.named, hts, hK, (name_of_methodNamed B.named B.method).1, hnil, hb⟩ hR va_S.rf hl jLe.rf
  rw [Nat.sub_self, Nat.sub_self] at this
  exact this
theorem jE.ofF {G : Gh} {mi : Mi} {d : Nat} {As : List Value} {M : Mm} {v : Option Value} {M1 : Mm} (hy : plainFor mi.1 = true) (hhh : mi.2.2.2.2 = []) (hlen : jlen As ≤ mi.2.2.1) (h : jW G mi d M 0 (jent As mi.2.2.1) [] M (fun r M' => r = .inl v ∧ M' = M1)) : jE G mi d As M v M1 := by
  obtain ⟨r, M', ⟨h1, h4⟩, h2, h3⟩ := h
  exact jT.ofF hy hhh hlen ⟨r, M', ⟨⟨h1, h4⟩, v, h1⟩, h2, h3⟩
/-! numbers -/
theorem i_sub {a b : Nat} (ha : a < 2 ^ 30) (hb : b < 2 ^ 30) : (nI a - nI b).toInt = (a : Int) - b := pk_sub_toInt ha hb
theorem inb_iff {a b c : Int32} : inb a b c = true ↔ b.toInt ≤ a.toInt ∧ a.toInt ≤ c.toInt := by
  unfold inb
  rw [decide_eq_true_eq, Int32.le_iff_toInt_le, Int32.le_iff_toInt_le]
theorem inb_n {t f o : Nat} (ht : t < 2 ^ 30) (hf : f < 2 ^ 30) (ho : o < 2 ^ 30) : inb (nI t) (nI f) (nI o - nI 1) = (decide (f ≤ t) && decide (t < o)) := by
  rw [Bool.eq_iff_iff, inb_iff, nI_toInt (by omega), nI_toInt (by omega), i_sub ho (by decide), Bool.and_eq_true, decide_eq_true_eq, decide_eq_true_eq]
  omega
theorem inb_nn {t f o : Nat} (ht : t < 2 ^ 31) (hf : f < 2 ^ 31) (ho : o < 2 ^ 31) : inb (nI t) (nI f) (nI o) = (decide (f ≤ t) && decide (t ≤ o)) := by
  rw [Bool.eq_iff_iff, inb_iff, nI_toInt ht, nI_toInt hf, nI_toInt ho, Bool.and_eq_true, decide_eq_true_eq, decide_eq_true_eq]
  omega
/-- a number of the first n -/
def isIx (n : Nat) (a : Int32) : Bool := decide (0 ≤ a.toInt) && decide (a.toInt < n)
theorem inb_ix {a : Int32} {n : Nat} (hn : n < 2 ^ 30) : inb a (nI 0) (nI n - nI 1) = isIx n a := by
  rw [Bool.eq_iff_iff, inb_iff, nI_toInt (by decide), i_sub hn (by decide)]
  unfold isIx
  rw [Bool.and_eq_true, decide_eq_true_eq, decide_eq_true_eq]
  omega
theorem inb_ix' {a : Int32} {n : Nat} (hn : n + 1 < 2 ^ 31) : inb a (nI 0) (nI n) = isIx (n + 1) a := by
  rw [Bool.eq_iff_iff, inb_iff, nI_toInt (by decide), nI_toInt (by omega)]
  unfold isIx
  rw [Bool.and_eq_true, decide_eq_true_eq, decide_eq_true_eq]
  omega
theorem isIx_of {n : Nat} {a : Int32} (h : isIx n a = true) : ∃ k, k < n ∧ a = nI k := by
  unfold isIx at h
  rw [Bool.and_eq_true, decide_eq_true_eq, decide_eq_true_eq] at h
  refine ⟨a.toInt.toNat, by omega, ?_⟩
  apply Int32.toInt_inj.mp
  have h31 : a.toInt < 2 ^ 31 := a.toInt_lt
  rw [nI_toInt (by omega)]
  omega
theorem isIx_nI {n k : Nat} (hk : k < 2 ^ 31) : isIx n (nI k) = decide (k < n) := by
  unfold isIx
  rw [nI_toInt hk]
  simp
theorem i_abs : ∀ a, a < 20 → ∀ b, b < 20 → (if nI a - nI b < 0 then -(nI a - nI b) else nI a - nI b) = nI (adist a b) := by decide +kernel
theorem adist_le {a b : Nat} (ha : a ≤ 19) (hb : b ≤ 19) : adist a b ≤ 19 := by unfold adist; omega
theorem i_rem {a d : Nat} (ha : a < 2 ^ 31) (h0 : 0 < d) (hd : d < 2 ^ 31) : nI a - nI a / nI d * nI d = nI (a % d) := pk_rem ha h0 hd
theorem i_div {a d : Nat} (ha : a < 2 ^ 31) (h0 : 0 < d) (hd : d < 2 ^ 31) : nI a / nI d = nI (a / d) := pk_div ha h0 hd
theorem ne_nI {n : Nat} (h0 : 0 < n) (h : n < 2 ^ 31) : ¬ nI n = 0 := nI_ne0 h0 h
theorem sub1 {a : Nat} (h : 1 ≤ a) : nI a - nI 1 = nI (a - 1) := pk_sub h
theorem msk_0 (P : Nat → Bool) : msk 0 P = 0 := rfl
theorem msk_s (n : Nat) (P : Nat → Bool) : msk (n + 1) P = msk n P ||| (if P n then 2 ^ n else 0) := rfl
theorem shl1 {k : Nat} (hk : k < 31) : nI 1 <<< (nI k &&& 31) = nI (2 ^ k) := by
  rw [j_shl (by omega) (by have := Nat.pow_lt_pow_right (a := 2) (by decide) (show k < 32 by omega); omega), Nat.one_mul]
theorem jw_tt {G : Gh} {mi : Mi} {d : Nat} {M0 : Mm} {pc : Nat} {ls : List (Option Value)} {st : List Value} {M : Mm} {P : Rs → Mm → Prop} {b : Bool} (h : b = true) (k : jW G mi d M0 pc ls (.int (jb b) :: st) M P) : jW G mi d M0 pc ls (.int (nI 1) :: st) M P := by subst h; exact k
theorem jw_ff {G : Gh} {mi : Mi} {d : Nat} {M0 : Mm} {pc : Nat} {ls : List (Option Value)} {st : List Value} {M : Mm} {P : Rs → Mm → Prop} {b : Bool} (h : b = false) (k : jW G mi d M0 pc ls (.int (jb b) :: st) M P) : jW G mi d M0 pc ls (.int (nI 0) :: st) M P := by subst h; exact k
section JX
variable {G : Gh} {M : Mm} {v : Nat} {V : Vt}
theorem t_X1_without {a : Int32} : jE G mi_X1_without 1 [.int a] M (some (.int (if a < 0 then -a else a))) M := by
  refine jE.of (by decide) rfl (Nat.le_of_ble_eq_true rfl) ?_
  refine jw_iload_n (pc := 0) dX1_without_0 rfl ?_
  refine jw_if_ge (pc := 1) (tgt := 9) dX1_without_1 (by decide) ?_ ?_
  · intro h_1
    refine jw_iload_n (pc := 9) dX1_without_9 rfl ?_
    refine jw_ireturn (pc := 10) dX1_without_10 rfl (rfl) ?_
    have q : decide (0 ≤ a) = decide (¬ a < 0) := by simp [Int32.not_lt]
    first | exact ⟨by rw [if_neg (by simpa using h_1)], rfl⟩ | exact ⟨by rw [if_pos (by simpa using h_1)], rfl⟩
  · intro h_1
    refine jw_iload_n (pc := 4) dX1_without_4 rfl ?_
    refine jw_ineg (pc := 5) dX1_without_5 ?_
    refine jw_goto (pc := 6) (tgt := 10) dX1_without_6 (by decide) ?_
    refine jw_ireturn (pc := 10) dX1_without_10 rfl (rfl) ?_
    have q : decide (0 ≤ a) = decide (¬ a < 0) := by simp [Int32.not_lt]
    first | exact ⟨by rw [if_neg (by simpa using h_1)], rfl⟩ | exact ⟨by rw [if_pos (by simpa using h_1)], rfl⟩
theorem t_J8_max {a b : Nat} (ha : a < 2 ^ 31) (hb : b < 2 ^ 31) : jE G mi_J8_max 1 [.int (nI a), .int (nI b)] M (some (.int (nI (Nat.max a b)))) M := by
  refine jE.ofF (by decide +kernel) rfl (Nat.le_of_ble_eq_true rfl) ?_
  refine jw_iload_n (pc := 0) dJ8_max_0 rfl ?_
  refine jw_iload_n (pc := 1) dJ8_max_1 rfl ?_
  first | refine jx_icmp_lt (pc := 2) (tgt := 9) dJ8_max_2 (by decide) (by omega) (by omega) ?_ ?_ | refine jw_icmp_lt (pc := 2) (tgt := 9) dJ8_max_2 (by decide) ?_ ?_
  · intro h_2
    refine jw_iload_n (pc := 9) dJ8_max_9 rfl ?_
    refine jw_ireturn (pc := 10) dJ8_max_10 rfl (rfl) ?_
    refine ⟨?_, rfl⟩
    first | rw [show Nat.max a b = a from Nat.max_eq_left (by omega)] | rw [show Nat.max a b = b from Nat.max_eq_right (by omega)]
  · intro h_2
    refine jw_iload_n (pc := 5) dJ8_max_5 rfl ?_
    refine jw_goto (pc := 6) (tgt := 10) dJ8_max_6 (by decide) ?_
    refine jw_ireturn (pc := 10) dJ8_max_10 rfl (rfl) ?_
    refine ⟨?_, rfl⟩
    first | rw [show Nat.max a b = a from Nat.max_eq_left (by omega)] | rw [show Nat.max a b = b from Nat.max_eq_right (by omega)]
theorem t_X6_isNight {t : Nat} (hV : jVx M v V) (hw : jWf V) (ht : t < 2 ^ 30) : jE G mi_X6_isNight 2 [jr (some v), .int (nI t)] M (some (.int (jb (nightB V t)))) M := by
  have hv := hV.1
  have hd := wf_d hw
  refine jE.of (by decide) rfl (Nat.le_of_ble_eq_true rfl) ?_
  refine jw_iload_n (pc := 0) dX6_isNight_0 rfl ?_
  refine jw_aload_n (pc := 1) dX6_isNight_1 rfl ?_
  refine jx_getIs (pc := 2) (jf_X6_74_5.r) rfl dX6_isNight_2 rfl (vis hv) (by decide) (xi_from hV) ?_
  refine jw_aload_n (pc := 5) dX6_isNight_5 rfl ?_
  refine jx_getIs (pc := 6) (jf_X6_77_5.r) rfl dX6_isNight_6 rfl (vis hv) (by decide) (xi_to hV) ?_
  refine jw_iconst (pc := 9) dX6_isNight_9 ic_1 ?_
  refine jw_isub (pc := 10) dX6_isNight_10 ?_
  refine jx_cSNE (mi1 := mi_X1_in) (pc := 11) rfl dX6_isNight_11 q1003 q152 q420 q421 rfl fi_X1_in (t_X1_in) (by first | decide | omega) rfl rfl (by decide) ?_
  refine jw_ireturn (pc := 14) dX6_isNight_14 rfl (by first | exact jnar_b _ | exact jnar_0 | exact jnar_1 | decide +kernel) ?_
  exact ⟨by rw [inb_n ht (by omega) (by omega)]; rfl, rfl⟩
theorem t_X6_range {t : Nat} (hV : jVx M v V) (hw : jWf V) (ht : t < 2 ^ 30) : jE G mi_X6_range 3 [jr (some v), .int (nI t)] M (some (.int (nI (rangeV V t)))) M := by
  have hv := hV.1
  refine jE.of (by decide) rfl (Nat.le_of_ble_eq_true rfl) ?_
  refine jw_aload_n (pc := 0) dX6_range_0 rfl ?_
  refine jw_iload_n (pc := 1) dX6_range_1 rfl ?_
  refine jx_cVE (mi1 := mi_X6_isNight) (pc := 2) rfl dX6_range_2 lk_X6_84 rfl fi_X6_isNight rfl rfl rfl (by decide) (vis hv) (t_X6_isNight hV hw ht) (by first | decide | omega) rfl rfl (by decide) ?_
  first | refine jx_ifb_eq (pc := 5) (tgt := 15) dX6_range_5 (by decide) ?_ ?_ | refine jx_if_eq (pc := 5) (tgt := 15) dX6_range_5 (by decide) (by omega) ?_ ?_ | refine jw_if_eq (pc := 5) (tgt := 15) dX6_range_5 (by decide) ?_ ?_
  · intro h_5
    refine jw_aload_n (pc := 15) dX6_range_15 rfl ?_
    refine jx_getIs (pc := 16) (jf_X6_91_5.r) rfl dX6_range_16 rfl (vis hv) (by decide) (xi_day hV) ?_
    refine jw_ireturn (pc := 19) dX6_range_19 rfl (rfl) ?_
    refine ⟨?_, rfl⟩; unfold rangeV; rw [h_5]; rfl
  · intro h_5
    refine jw_aload_n (pc := 8) dX6_range_8 rfl ?_
    refine jx_getIs (pc := 9) (jf_X6_88_5.r) rfl dX6_range_9 rfl (vis hv) (by decide) (xi_night hV) ?_
    refine jw_goto (pc := 12) (tgt := 19) dX6_range_12 (by decide) ?_
    refine jw_ireturn (pc := 19) dX6_range_19 rfl (rfl) ?_
    refine ⟨?_, rfl⟩; unfold rangeV; rw [h_5]; rfl
theorem t_X6_all (hV : jVx M v V) (hw : jWf V) : jE G mi_X6_all 1 [jr (some v)] M (some (.int (nI (2 ^ V 0 0 - 1)))) M := by
  have hv := hV.1
  have hn := wf_np hw
  refine jE.of (by decide) rfl (Nat.le_of_ble_eq_true rfl) ?_
  refine jw_iconst (pc := 0) dX6_all_0 ic_1 ?_
  refine jw_aload_n (pc := 1) dX6_all_1 rfl ?_
  refine jx_getIs (pc := 2) (jf_X6_63_5.r) rfl dX6_all_2 rfl (vis hv) (by decide) (xi_np hV) ?_
  refine jw_ishl (pc := 5) dX6_all_5 ?_
  rw [shl1 (by omega)]
  refine jw_iconst (pc := 6) dX6_all_6 ic_1 ?_
  refine jw_isub (pc := 7) dX6_all_7 ?_
  rw [sub1 Nat.one_le_two_pow]
  refine jw_ireturn (pc := 8) dX6_all_8 rfl (rfl) ?_
  exact ⟨rfl, rfl⟩
/-- a place's numbers -/
theorem pl_x (hV : jVx M v V) {a : Nat} (ha : a < V 0 0) : ∃ p, jm_C M (v + 1) a = some p ∧ jis M p 6 ∧ jm_I M p 112 = nI (V 1 a) ∧ jm_I M p 113 = nI (V 2 a) ∧ jm_I M p 114 = nI (V 3 a) := by
  obtain ⟨p, h1, h2, h3, h4, h5, h6, h7⟩ := hV.2.2.2.1 a ha
  exact ⟨p, h1, h2, h5, h6, h7⟩
theorem t_X6_far {a b : Nat} (hV : jVx M v V) (hw : jWf V) (ha : a < V 0 0) (hb : b < V 0 0) : jE G mi_X6_far 2 [jr (some v), .int (nI a), .int (nI b)] M (some (.int (nI (distV V a b)))) M := by
  have hv := hV.1
  have hn := wf_np hw
  obtain ⟨p, p1, p2, p3, p4, p5⟩ := pl_x hV ha
  obtain ⟨q, q1, q2, q3, q4, q5⟩ := pl_x hV hb
  obtain ⟨x1, x2, -⟩ := wf_pl hw ha
  obtain ⟨y1, y2, -⟩ := wf_pl hw hb
  refine jE.of (by decide) rfl (Nat.le_of_ble_eq_true rfl) ?_
  refine jw_aload_n (pc := 0) dX6_far_0 rfl ?_
  refine jx_getRs (pc := 1) (jf_X6_11_5.r) rfl dX6_far_1 rfl (vis hv) (by decide) (vr_1 hv) ?_
  refine jw_iload_n (pc := 4) dX6_far_4 rfl ?_
  refine jx_aalds (pc := 5) (by decide) (by decide) dX6_far_5 (vok_1 hv) (vnn_1 hv) rfl (by omega) (p1) ?_
  refine jx_getIs (pc := 6) (jf_X6_101_6.r) rfl dX6_far_6 rfl (p2) (by decide) (p3) ?_
  refine jw_aload_n (pc := 9) dX6_far_9 rfl ?_
  refine jx_getRs (pc := 10) (jf_X6_11_5.r) rfl dX6_far_10 rfl (vis hv) (by decide) (vr_1 hv) ?_
  refine jw_iload_n (pc := 13) dX6_far_13 rfl ?_
  refine jx_aalds (pc := 14) (by decide) (by decide) dX6_far_14 (vok_1 hv) (vnn_1 hv) rfl (by omega) (q1) ?_
  refine jx_getIs (pc := 15) (jf_X6_101_6.r) rfl dX6_far_15 rfl (q2) (by decide) (q3) ?_
  refine jw_isub (pc := 18) dX6_far_18 ?_
  refine jx_cSNE (mi1 := mi_X1_without) (pc := 19) rfl dX6_far_19 q965 q152 q966 q967 rfl fi_X1_without (t_X1_without) (by first | decide | omega) rfl rfl (by decide) ?_
  rw [i_abs _ (by omega) _ (by omega)]
  refine jw_aload_n (pc := 22) dX6_far_22 rfl ?_
  refine jx_getRs (pc := 23) (jf_X6_11_5.r) rfl dX6_far_23 rfl (vis hv) (by decide) (vr_1 hv) ?_
  refine jw_iload_n (pc := 26) dX6_far_26 rfl ?_
  refine jx_aalds (pc := 27) (by decide) (by decide) dX6_far_27 (vok_1 hv) (vnn_1 hv) rfl (by omega) (p1) ?_
  refine jx_getIs (pc := 28) (jf_X6_108_6.r) rfl dX6_far_28 rfl (p2) (by decide) (p4) ?_
  refine jw_aload_n (pc := 31) dX6_far_31 rfl ?_
  refine jx_getRs (pc := 32) (jf_X6_11_5.r) rfl dX6_far_32 rfl (vis hv) (by decide) (vr_1 hv) ?_
  refine jw_iload_n (pc := 35) dX6_far_35 rfl ?_
  refine jx_aalds (pc := 36) (by decide) (by decide) dX6_far_36 (vok_1 hv) (vnn_1 hv) rfl (by omega) (q1) ?_
  refine jx_getIs (pc := 37) (jf_X6_108_6.r) rfl dX6_far_37 rfl (q2) (by decide) (q4) ?_
  refine jw_isub (pc := 40) dX6_far_40 ?_
  refine jx_cSNE (mi1 := mi_X1_without) (pc := 41) rfl dX6_far_41 q965 q152 q966 q967 rfl fi_X1_without (t_X1_without) (by first | decide | omega) rfl rfl (by simp only [List.map_cons, List.map_nil, List.sum_cons, List.sum_nil, Value.category]; decide) ?_
  rw [i_abs _ (by omega) _ (by omega)]
  refine jx_cSE (mi1 := mi_J8_max) (pc := 44) rfl dX6_far_44 lk_X6_111 rfl fi_J8_max (t_J8_max (by have := adist_le x1 y1; omega) (by have := adist_le x2 y2; omega)) (by first | decide | omega) rfl rfl (by decide) ?_
  refine jw_ireturn (pc := 47) dX6_far_47 rfl (rfl) ?_
  exact ⟨rfl, rfl⟩
theorem t_X6_isWalled {op a b : Nat} (hV : jVx M v V) (hw : jWf V) (hop : op < 2 ^ 31) (ha : a < V 0 0) (hb : b < V 0 0) : jE G mi_X6_isWalled 2 [jr (some v), .int (nI a), .int (nI b), .int (nI op)] M (some (.int (jb (walledB V op a b)))) M := by
  have hv := hV.1
  have hn := wf_np hw
  have hnw := wf_nw hw
  refine jE.of (by decide) rfl (Nat.le_of_ble_eq_true rfl) ?_
  have J : ∀ k : Nat, k ≤ V 0 3 → jW G mi_X6_isWalled 2 M 6 [some (jr (some v)), some (.int (nI a)), some (.int (nI b)), some (.int (nI op)), some (.int (jb (anyB k (wallB V op a b)))), some (.int (nI k))] [] M (fun r M' => r = .inl (some (.int (jb (walledB V op a b)))) ∧ M' = M) := by
    refine jW.loop _ (fun k => V 0 3 - k) _ (fun _ => []) (fun _ => M) (fun k hk ih => ?_)
    by_cases hkn : k < V 0 3
    · obtain ⟨w1, w2⟩ := hV.2.2.1.1 k hkn
      obtain ⟨u1, u2⟩ := wf_w hw hkn
      have J78 : jW G mi_X6_isWalled 2 M 78 [some (jr (some v)), some (.int (nI a)), some (.int (nI b)), some (.int (nI op)), some (.int (jb (anyB k (wallB V op a b)))), some (.int (nI k))] [.int (jb (anyB (k + 1) (wallB V op a b)))] M (fun r M' => r = .inl (some (.int (jb (walledB V op a b)))) ∧ M' = M) := by
        refine jw_istore (pc := 78) dX6_isWalled_78 (Nat.le_of_ble_eq_true rfl) rfl ?_
        try dsimp only [jput1, jput2, jkill, jclr, jis2, cond]
        first | refine jx_iinc (pc := 80) dX6_isWalled_80 rfl rfl ?_ | refine jw_iinc (pc := 80) dX6_isWalled_80 rfl rfl rfl ?_
        try dsimp only [jput1, jkill, jclr, jis2, cond]
        refine jw_goto (pc := 83) (tgt := 6) dX6_isWalled_83 (by decide) ?_
        exact ih (k + 1) hkn (by omega)
      refine jw_iload (pc := 6) dX6_isWalled_6 rfl ?_
      refine jw_aload_n (pc := 8) dX6_isWalled_8 rfl ?_
      refine jx_getIs (pc := 9) (jf_X6_94_5.r) rfl dX6_isWalled_9 rfl (vis hv) (by decide) (xi_nw hV) ?_
      first | refine jx_icmp_ge (pc := 12) (tgt := 86) dX6_isWalled_12 (by decide) (by omega) (by omega) ?_ ?_ | refine jw_icmp_ge (pc := 12) (tgt := 86) dX6_isWalled_12 (by decide) ?_ ?_
      · intro h_12
        omega
      · intro h_12
        refine jw_iload (pc := 15) dX6_isWalled_15 rfl ?_
        first | refine jx_ifb_ne (pc := 17) (tgt := 73) dX6_isWalled_17 (by decide) ?_ ?_ | refine jx_if_ne (pc := 17) (tgt := 73) dX6_isWalled_17 (by decide) (by omega) ?_ ?_ | refine jw_if_ne (pc := 17) (tgt := 73) dX6_isWalled_17 (by decide) ?_ ?_
        · intro h_17
          refine jw_iconst (pc := 73) dX6_isWalled_73 ic_1 ?_
          refine jw_goto (pc := 74) (tgt := 78) dX6_isWalled_74 (by decide) ?_
          refine jw_tt ?_ J78; simp_all [anyB, wallB]
        · intro h_17
          refine jw_iload_n (pc := 20) dX6_isWalled_20 rfl ?_
          refine jw_iload (pc := 21) dX6_isWalled_21 rfl ?_
          refine jx_cSNE (mi1 := mi_X1_lies) (pc := 23) rfl dX6_isWalled_23 q837 q152 q838 q839 rfl fi_X1_lies (t_X1_lies hop (by omega)) (by first | decide | omega) rfl rfl (by decide) ?_
          first | refine jx_ifb_ne (pc := 26) (tgt := 77) dX6_isWalled_26 (by decide) ?_ ?_ | refine jx_if_ne (pc := 26) (tgt := 77) dX6_isWalled_26 (by decide) (by omega) ?_ ?_ | refine jw_if_ne (pc := 26) (tgt := 77) dX6_isWalled_26 (by decide) ?_ ?_
          · intro h_26
            refine jw_iconst (pc := 77) dX6_isWalled_77 ic_0 ?_
            refine jw_ff ?_ J78; simp_all [anyB, wallB]
          · intro h_26
            refine jw_aload_n (pc := 29) dX6_isWalled_29 rfl ?_
            refine jx_getRs (pc := 30) (jf_X6_29_5.r) rfl dX6_isWalled_30 rfl (vis hv) (by decide) (vr_4 hv) ?_
            refine jw_iload (pc := 33) dX6_isWalled_33 rfl ?_
            refine jx_iald (pc := 35) dX6_isWalled_35 (vok_4 hv) (vnn_4 hv) rfl (by omega) ?_
            rw [w1]
            refine jw_iload_n (pc := 36) dX6_isWalled_36 rfl ?_
            first | refine jx_icmp_ne (pc := 37) (tgt := 51) dX6_isWalled_37 (by decide) (by omega) (by omega) ?_ ?_ | refine jw_icmp_ne (pc := 37) (tgt := 51) dX6_isWalled_37 (by decide) ?_ ?_
            · intro h_37
              refine jw_aload_n (pc := 51) dX6_isWalled_51 rfl ?_
              refine jx_getRs (pc := 52) (jf_X6_29_5.r) rfl dX6_isWalled_52 rfl (vis hv) (by decide) (vr_4 hv) ?_
              refine jw_iload (pc := 55) dX6_isWalled_55 rfl ?_
              refine jx_iald (pc := 57) dX6_isWalled_57 (vok_4 hv) (vnn_4 hv) rfl (by omega) ?_
              rw [w1]
              refine jw_iload_n (pc := 58) dX6_isWalled_58 rfl ?_
              first | refine jx_icmp_ne (pc := 59) (tgt := 77) dX6_isWalled_59 (by decide) (by omega) (by omega) ?_ ?_ | refine jw_icmp_ne (pc := 59) (tgt := 77) dX6_isWalled_59 (by decide) ?_ ?_
              · intro h_59
                refine jw_iconst (pc := 77) dX6_isWalled_77 ic_0 ?_
                refine jw_ff ?_ J78; simp_all [anyB, wallB]
              · intro h_59
                refine jw_aload_n (pc := 62) dX6_isWalled_62 rfl ?_
                refine jx_getRs (pc := 63) (jf_X6_33_5.r) rfl dX6_isWalled_63 rfl (vis hv) (by decide) (vr_5 hv) ?_
                refine jw_iload (pc := 66) dX6_isWalled_66 rfl ?_
                refine jx_iald (pc := 68) dX6_isWalled_68 (vok_5 hv) (vnn_5 hv) rfl (by omega) ?_
                rw [w2]
                refine jw_iload_n (pc := 69) dX6_isWalled_69 rfl ?_
                first | refine jx_icmp_ne (pc := 70) (tgt := 77) dX6_isWalled_70 (by decide) (by omega) (by omega) ?_ ?_ | refine jw_icmp_ne (pc := 70) (tgt := 77) dX6_isWalled_70 (by decide) ?_ ?_
                · intro h_70
                  refine jw_iconst (pc := 77) dX6_isWalled_77 ic_0 ?_
                  refine jw_ff ?_ J78; simp_all [anyB, wallB]
                · intro h_70
                  refine jw_iconst (pc := 73) dX6_isWalled_73 ic_1 ?_
                  refine jw_goto (pc := 74) (tgt := 78) dX6_isWalled_74 (by decide) ?_
                  refine jw_tt ?_ J78; simp_all [anyB, wallB]
            · intro h_37
              refine jw_aload_n (pc := 40) dX6_isWalled_40 rfl ?_
              refine jx_getRs (pc := 41) (jf_X6_33_5.r) rfl dX6_isWalled_41 rfl (vis hv) (by decide) (vr_5 hv) ?_
              refine jw_iload (pc := 44) dX6_isWalled_44 rfl ?_
              refine jx_iald (pc := 46) dX6_isWalled_46 (vok_5 hv) (vnn_5 hv) rfl (by omega) ?_
              rw [w2]
              refine jw_iload_n (pc := 47) dX6_isWalled_47 rfl ?_
              first | refine jx_icmp_eq (pc := 48) (tgt := 73) dX6_isWalled_48 (by decide) (by omega) (by omega) ?_ ?_ | refine jw_icmp_eq (pc := 48) (tgt := 73) dX6_isWalled_48 (by decide) ?_ ?_
              · intro h_48
                refine jw_iconst (pc := 73) dX6_isWalled_73 ic_1 ?_
                refine jw_goto (pc := 74) (tgt := 78) dX6_isWalled_74 (by decide) ?_
                refine jw_tt ?_ J78; simp_all [anyB, wallB]
              · intro h_48
                refine jw_aload_n (pc := 51) dX6_isWalled_51 rfl ?_
                refine jx_getRs (pc := 52) (jf_X6_29_5.r) rfl dX6_isWalled_52 rfl (vis hv) (by decide) (vr_4 hv) ?_
                refine jw_iload (pc := 55) dX6_isWalled_55 rfl ?_
                refine jx_iald (pc := 57) dX6_isWalled_57 (vok_4 hv) (vnn_4 hv) rfl (by omega) ?_
                rw [w1]
                refine jw_iload_n (pc := 58) dX6_isWalled_58 rfl ?_
                first | refine jx_icmp_ne (pc := 59) (tgt := 77) dX6_isWalled_59 (by decide) (by omega) (by omega) ?_ ?_ | refine jw_icmp_ne (pc := 59) (tgt := 77) dX6_isWalled_59 (by decide) ?_ ?_
                · intro h_59
                  refine jw_iconst (pc := 77) dX6_isWalled_77 ic_0 ?_
                  refine jw_ff ?_ J78; simp_all [anyB, wallB]
                · intro h_59
                  refine jw_aload_n (pc := 62) dX6_isWalled_62 rfl ?_
                  refine jx_getRs (pc := 63) (jf_X6_33_5.r) rfl dX6_isWalled_63 rfl (vis hv) (by decide) (vr_5 hv) ?_
                  refine jw_iload (pc := 66) dX6_isWalled_66 rfl ?_
                  refine jx_iald (pc := 68) dX6_isWalled_68 (vok_5 hv) (vnn_5 hv) rfl (by omega) ?_
                  rw [w2]
                  refine jw_iload_n (pc := 69) dX6_isWalled_69 rfl ?_
                  first | refine jx_icmp_ne (pc := 70) (tgt := 77) dX6_isWalled_70 (by decide) (by omega) (by omega) ?_ ?_ | refine jw_icmp_ne (pc := 70) (tgt := 77) dX6_isWalled_70 (by decide) ?_ ?_
                  · intro h_70
                    refine jw_iconst (pc := 77) dX6_isWalled_77 ic_0 ?_
                    refine jw_ff ?_ J78; simp_all [anyB, wallB]
                  · intro h_70
                    refine jw_iconst (pc := 73) dX6_isWalled_73 ic_1 ?_
                    refine jw_goto (pc := 74) (tgt := 78) dX6_isWalled_74 (by decide) ?_
                    refine jw_tt ?_ J78; simp_all [anyB, wallB]
    · have hk' : k = V 0 3 := by omega
      subst hk'
      refine jw_iload (pc := 6) dX6_isWalled_6 rfl ?_
      refine jw_aload_n (pc := 8) dX6_isWalled_8 rfl ?_
      refine jx_getIs (pc := 9) (jf_X6_94_5.r) rfl dX6_isWalled_9 rfl (vis hv) (by decide) (xi_nw hV) ?_
      first | refine jx_icmp_ge (pc := 12) (tgt := 86) dX6_isWalled_12 (by decide) (by omega) (by omega) ?_ ?_ | refine jw_icmp_ge (pc := 12) (tgt := 86) dX6_isWalled_12 (by decide) ?_ ?_
      · intro h_12
        refine jw_iload (pc := 86) dX6_isWalled_86 rfl ?_
        refine jw_ireturn (pc := 88) dX6_isWalled_88 rfl (by first | exact jnar_b _ | exact jnar_0 | exact jnar_1 | decide +kernel) ?_
        exact ⟨rfl, rfl⟩
      · intro h_12
        omega
  refine jw_iconst (pc := 0) dX6_isWalled_0 ic_0 ?_
  refine jw_istore (pc := 1) dX6_isWalled_1 (Nat.le_of_ble_eq_true rfl) rfl ?_
  try dsimp only [jput1, jput2, jkill, jclr, jis2, cond]
  refine jw_iconst (pc := 3) dX6_isWalled_3 ic_0 ?_
  refine jw_istore (pc := 4) dX6_isWalled_4 (Nat.le_of_ble_eq_true rfl) rfl ?_
  try dsimp only [jput1, jput2, jkill, jclr, jis2, cond]
  exact J 0 (Nat.zero_le _)
theorem t_X6_areLinked {a b : Nat} (hV : jVx M v V) (hw : jWf V) (ha : a < V 0 0) (hb : b < V 0 0) : jE G mi_X6_areLinked 2 [jr (some v), .int (nI a), .int (nI b)] M (some (.int (jb (linkB V a b)))) M := by
  have hv := hV.1
  have hn := wf_np hw
  obtain ⟨p, p1, p2, p3, p4, p5⟩ := pl_x hV ha
  obtain ⟨x1, x2, x3, x4⟩ := wf_pl hw ha
  have x5 := p10 hn
  refine jE.of (by decide) rfl (Nat.le_of_ble_eq_true rfl) ?_
  refine jw_iload_n (pc := 0) dX6_areLinked_0 rfl ?_
  refine jw_iload_n (pc := 1) dX6_areLinked_1 rfl ?_
  first | refine jx_icmp_eq (pc := 2) (tgt := 21) dX6_areLinked_2 (by decide) (by omega) (by omega) ?_ ?_ | refine jw_icmp_eq (pc := 2) (tgt := 21) dX6_areLinked_2 (by decide) ?_ ?_
  · intro h_2
    refine jw_iconst (pc := 21) dX6_areLinked_21 ic_1 ?_
    refine jw_goto (pc := 22) (tgt := 26) dX6_areLinked_22 (by decide) ?_
    refine jw_ireturn (pc := 26) dX6_areLinked_26 rfl (by first | exact jnar_b _ | exact jnar_0 | exact jnar_1 | decide +kernel) ?_
    refine ⟨jret_t ?_, rfl⟩
    first | simp [linkB, h_2]; done | simp [linkB, h_18]
  · intro h_2
    refine jw_aload_n (pc := 5) dX6_areLinked_5 rfl ?_
    refine jx_getRs (pc := 6) (jf_X6_11_5.r) rfl dX6_areLinked_6 rfl (vis hv) (by decide) (vr_1 hv) ?_
    refine jw_iload_n (pc := 9) dX6_areLinked_9 rfl ?_
    refine jx_aalds (pc := 10) (by decide) (by decide) dX6_areLinked_10 (vok_1 hv) (vnn_1 hv) rfl (by omega) (p1) ?_
    refine jx_getIs (pc := 11) (jf_X6_117_6.r) rfl dX6_areLinked_11 rfl (p2) (by decide) (p5) ?_
    refine jw_iload_n (pc := 14) dX6_areLinked_14 rfl ?_
    refine jx_cSNE (mi1 := mi_X1_lies) (pc := 15) rfl dX6_areLinked_15 q837 q152 q838 q839 rfl fi_X1_lies (t_X1_lies (by omega) (by omega)) (by first | decide | omega) rfl rfl (by decide) ?_
    first | refine jx_ifb_eq (pc := 18) (tgt := 25) dX6_areLinked_18 (by decide) ?_ ?_ | refine jx_if_eq (pc := 18) (tgt := 25) dX6_areLinked_18 (by decide) (by omega) ?_ ?_ | refine jw_if_eq (pc := 18) (tgt := 25) dX6_areLinked_18 (by decide) ?_ ?_
    · intro h_18
      refine jw_iconst (pc := 25) dX6_areLinked_25 ic_0 ?_
      refine jw_ireturn (pc := 26) dX6_areLinked_26 rfl (by first | exact jnar_b _ | exact jnar_0 | exact jnar_1 | decide +kernel) ?_
      refine ⟨jret_f ?_, rfl⟩
      simp [linkB, h_2, h_18]
    · intro h_18
      refine jw_iconst (pc := 21) dX6_areLinked_21 ic_1 ?_
      refine jw_goto (pc := 22) (tgt := 26) dX6_areLinked_22 (by decide) ?_
      refine jw_ireturn (pc := 26) dX6_areLinked_26 rfl (by first | exact jnar_b _ | exact jnar_0 | exact jnar_1 | decide +kernel) ?_
      refine ⟨jret_t ?_, rfl⟩
      first | simp [linkB, h_2]; done | simp [linkB, h_18]
end JX
