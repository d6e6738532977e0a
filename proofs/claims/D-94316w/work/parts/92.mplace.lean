/-! ===== m's lines: place, law ===== -/
theorem pNum_in {c : Nat → Int32} {n p : Nat} {lo hi : Int32} {q : Nat × Nat} (h : pNum c n lo hi p = .ok q) : inb (nI q.1) lo hi = true ∧ tkK c n p = 3 ∧ q = (tkV c n p, tkE c n p) := by
  unfold pNum at h
  by_cases h3 : tkK c n p = 3
  · rw [if_pos h3] at h
    by_cases h4 : inb (nI (tkV c n p)) lo hi = true
    · rw [if_pos h4] at h; cases h; exact ⟨h4, h3, rfl⟩
    · rw [if_neg h4] at h; cases h
  · rw [if_neg h3] at h; cases h
theorem pAfter_in {c : Nat → Int32} {n p k : Nat} {lo hi : Int32} {q : Nat × Nat} (h : pAfter c n k lo hi p = .ok q) : ∃ p1, pMust c n k p = .ok p1 ∧ pNum c n lo hi p1 = .ok q := by
  unfold pAfter at h
  cases h1 : pMust c n k p with
  | error g => rw [h1] at h; cases h
  | ok p1 => rw [h1] at h; exact ⟨p1, rfl, h⟩
theorem pAfter_lt {σ : Sg} {n p k : Nat} {lo hi : Int32} {q : Nat × Nat} (h : pAfter (chI σ n) n k lo hi p = .ok q) : inb (nI q.1) lo hi = true ∧ q.1 < 1000 := by
  obtain ⟨p1, -, h2⟩ := pAfter_in h
  obtain ⟨a, b, e⟩ := pNum_in h2
  refine ⟨a, ?_⟩
  rw [e]; exact tkV_lt b
theorem inb_le {m a b : Nat} (hm : m < 2 ^ 31) (ha : a < 2 ^ 31) (hb : b < 2 ^ 31) (h : inb (nI m) (nI a) (nI b) = true) : a ≤ m ∧ m ≤ b := by
  have := of_decide_eq_true h
  exact ⟨(nI_leI ha hm).mp this.1, (nI_leI hm hb).mp this.2⟩
def sD (s : Except Fl (Vt × Nat)) (idx : Nat) (x : Int32) : Except Fl (Vt × Nat) := s.bind (fun r => .ok (vS r.1 0 idx (cNt x), r.2))
section JLP
variable {G : Gh} {M : Mm} {σ : Sg} {n w : Nat}
theorem ln_place {c : Nat → Int32} {p : Nat} {V : Vt} {S1 S2 S3 S4 S5 : Except Fl (Vt × Nat)} {x y : Int32} (d1 : S1 = sB (.ok (V, p)) (fun _ p => pBegin c n (decide (V 0 0 < 10)) 5 p)) (d2 : S2 = sFr c n 0 (fun V => V 0 0) S1) (d3 : S3 = sP S2 (fun _ p => pAfter c n (kwc 18) (nI 0) (nI 19) p)) (d4 : S4 = sB S3 (fun _ p => pSign c n 44 p)) (d5 : S5 = sP S4 (fun _ p => pNum c n (nI 0) (nI 19) p))
    (v1 : sX S2 (fun _ p => pAfter c n (kwc 18) (nI 0) (nI 19) p) x) (v2 : sX S4 (fun _ p => pNum c n (nI 0) (nI 19) p) y) :
    (∀ f, S5 = .error f → lPlace c n V p = .error f) ∧ (∀ r, S5 = .ok r → ∃ u a b p2, x = nI a ∧ y = nI b ∧ r = (vName V u 0 (V 0 0), p2) ∧ V 0 0 < 10 ∧ lPlace c n V p = .ok (vPlace V u a b, p2)) := by
  unfold lPlace
  cases h1 : pBegin c n (decide (V 0 0 < 10)) 5 p with
  | error g =>
    subst d5; subst d4; subst d3; subst d2; subst d1
    simp only [sB, sP, sFr, h1, Except.bind]; exact ⟨fun f h => h, fun r h => by cases h⟩
  | ok p1 =>
    have hS1 : S1 = .ok (V, p1) := by rw [d1]; simp only [sB, h1, Except.bind]
    have hlt := (ln_begin (d1.symm.trans hS1)).2
    subst hS1
    cases h2 : pFresh c n V p1 with
    | error g =>
      subst d5; subst d4; subst d3; subst d2
      simp only [sB, sP, sFr, h2, Except.bind]; exact ⟨fun f h => h, fun r h => by cases h⟩
    | ok q2 =>
      have hS2 : S2 = .ok (vName V q2.1 0 (V 0 0), q2.2) := by rw [d2]; simp only [sFr, h2, Except.bind]
      subst hS2
      cases h3 : pAfter c n (kwc 18) (nI 0) (nI 19) q2.2 with
      | error g =>
        subst d5; subst d4; subst d3
        simp only [sB, sP, h2, h3, Except.bind]; exact ⟨fun f h => h, fun r h => by cases h⟩
      | ok q3 =>
        have hS3 : S3 = .ok (vName V q2.1 0 (V 0 0), q3.2) := by rw [d3]; simp only [sP, h3, Except.bind]
        have y1 := v1 _ _ rfl h3
        subst hS3
        cases h4 : pSign c n 44 q3.2 with
        | error g =>
          subst d5; subst d4
          simp only [sB, sP, h2, h3, h4, Except.bind]; exact ⟨fun f h => h, fun r h => by cases h⟩
        | ok p4 =>
          have hS4 : S4 = .ok (vName V q2.1 0 (V 0 0), p4) := by rw [d4]; simp only [sB, h4, Except.bind]
          subst hS4
          cases h5 : pNum c n (nI 0) (nI 19) p4 with
          | error g =>
            subst d5
            simp only [sP, h2, h3, h4, h5, Except.bind]; exact ⟨fun f h => h, fun r h => by cases h⟩
          | ok q5 =>
            have y2 := v2 _ _ rfl h5
            subst d5
            simp only [sP, h2, h3, h4, h5, Except.bind]
            exact ⟨fun f h => (by cases h), fun r h => by cases h; exact ⟨q2.1, q3.1, q5.1, q5.2, y1, y2, rfl, of_decide_eq_true hlt, rfl⟩⟩
theorem lp_plaE {M9 : Mm} {V : Vt} {p : Nat} {f : Fl} {x y : Int32} (h : mRd M σ n w (.error f)) (hk : mKp M9 M w) (he : lPlace (chI σ n) n V p = .error f) : jW G mi_X5_readPlace 12 M9 49 [some (jr (some 90)), some (.int x), none] [.int y] M (jPv (fun M' => mRd M' σ n w (lPlace (chI σ n) n V p) ∧ mKq M9 M' w)) := by
  have hS := h.S
  refine jw_istore_n (pc := 49) dX5_readPlace_49 (Nat.le_of_ble_eq_true rfl) rfl ?_
  try dsimp only [jput1, jput2, jkill, jclr, jis2_i, jis2_l, jis2_rs, jis2_rn, cond]
  refine jw_aload_n (pc := 50) dX5_readPlace_50 rfl ?_
  refine jx_getIs (pc := 51) (jf_X5_85_4.r) rfl dX5_readPlace_51 rfl (is_90 hS) (by decide) (h.2.1) ?_
  refine jw_iconst (pc := 54) dX5_readPlace_54 ic_5 ?_
  first | refine jx_icmp_ne (pc := 55) (tgt := 59) dX5_readPlace_55 (by decide) (by omega) (by omega) ?_ ?_ | refine jw_icmp_ne (pc := 55) (tgt := 59) dX5_readPlace_55 (by decide) ?_ ?_
  · intro h_55
    exact absurd rfl h_55
  · intro h_55
    refine jw_return (pc := 58) dX5_readPlace_58 rfl ?_
    exact ⟨rfl, by rw [he]; exact h, hk.q⟩
theorem lp_plaO {M9 : Mm} {V : Vt} {p p2 a b u : Nat} (h : mRd M σ n w (.ok (vName V u 0 (V 0 0), p2))) (hk : mKp M9 M w) (hlt : V 0 0 < 10) (he : lPlace (chI σ n) n V p = .ok (vPlace V u a b, p2)) : jW G mi_X5_readPlace 12 M9 49 [some (jr (some 90)), some (.int (nI a)), none] [.int (nI b)] M (jPv (fun M' => mRd M' σ n w (lPlace (chI σ n) n V p) ∧ mKq M9 M' w)) := by
  have hS := h.S
  have hR := h.1.2.2.2.2.2.1
  have hV := h.2.2.2.2.1
  have hw := hV.1
  have h104 := hw.2.1
  have hs5 := @srt_lt (tkK (chI σ n) n p2)
  have hct : jm_I M w 132 = nI (V 0 0) := mi_np hV
  refine jw_istore_n (pc := 49) dX5_readPlace_49 (Nat.le_of_ble_eq_true rfl) rfl ?_
  try dsimp only [jput1, jput2, jkill, jclr, jis2_i, jis2_l, jis2_rs, jis2_rn, cond]
  refine jw_aload_n (pc := 50) dX5_readPlace_50 rfl ?_
  refine jx_getIs (pc := 51) (jf_X5_85_4.r) rfl dX5_readPlace_51 rfl (is_90 hS) (by decide) (h.2.2.1.2.1) ?_
  refine jw_iconst (pc := 54) dX5_readPlace_54 ic_5 ?_
  first | refine jx_icmp_ne (pc := 55) (tgt := 59) dX5_readPlace_55 (by decide) (by omega) (by omega) ?_ ?_ | refine jw_icmp_ne (pc := 55) (tgt := 59) dX5_readPlace_55 (by decide) ?_ ?_
  · intro h_55
    refine jw_aload_n (pc := 59) dX5_readPlace_59 rfl ?_
    refine jx_getRs (pc := 60) (jf_X5_173_4.r) rfl dX5_readPlace_60 rfl (is_90 hS) (by decide) (hR) ?_
    refine jx_getRs (pc := 63) jg_X5_283_12 rfl dX5_readPlace_63 rfl (wis hw) (by decide) (wr_1 hw) ?_
    refine jw_aload_n (pc := 66) dX5_readPlace_66 rfl ?_
    refine jx_getRs (pc := 67) (jf_X5_173_4.r) rfl dX5_readPlace_67 rfl (is_90 hS) (by decide) (hR) ?_
    refine jx_getIs (pc := 70) (jf_X5_218_12.r) rfl dX5_readPlace_70 rfl (wis hw) (by decide) (hct) ?_
    refine jw_iload_n (pc := 73) dX5_readPlace_73 rfl ?_
    refine jx_iast (pc := 74) dX5_readPlace_74 (by omega) (wok_1 hw) (wnn_1 hw) rfl (by omega) ?_
    refine jw_aload_n (pc := 75) dX5_readPlace_75 rfl ?_
    refine jx_getRs (pc := 76) (jf_X5_173_4.r) rfl dX5_readPlace_76 rfl (is_90 hS) (by decide) (hR) ?_
    refine jx_getRs (pc := 79) jg_X5_286_12 rfl dX5_readPlace_79 rfl (wis hw) (by decide) (wr_2 hw) ?_
    refine jw_aload_n (pc := 82) dX5_readPlace_82 rfl ?_
    refine jx_getRs (pc := 83) (jf_X5_173_4.r) rfl dX5_readPlace_83 rfl (is_90 hS) (by decide) (hR) ?_
    refine jx_getIs (pc := 86) (jf_X5_218_12.r) rfl dX5_readPlace_86 rfl (wis hw) (by decide) (hct) ?_
    refine jw_iload_n (pc := 89) dX5_readPlace_89 rfl ?_
    refine jx_iast (pc := 90) dX5_readPlace_90 (by omega) (wok_2 hw) (wnn_2 hw) rfl (by omega) ?_
    refine jw_aload_n (pc := 91) dX5_readPlace_91 rfl ?_
    refine jx_getRs (pc := 92) (jf_X5_173_4.r) rfl dX5_readPlace_92 rfl (is_90 hS) (by decide) (hR) ?_
    refine jw_dup (pc := 95) dX5_readPlace_95 (jis2_r _) ?_
    refine jx_getIs (pc := 96) (jf_X5_218_12.r) rfl dX5_readPlace_96 rfl (wis hw) (by decide) (hct) ?_
    refine jw_iconst (pc := 99) dX5_readPlace_99 ic_1 ?_
    first | refine jx_iadd (pc := 100) dX5_readPlace_100 ?_ | refine jw_iadd (pc := 100) dX5_readPlace_100 ?_
    refine jx_putI (pc := 101) jf_X5_218_12 rfl dX5_readPlace_101 rfl rfl (wis hw) (by decide) ?_
    refine jw_return (pc := 104) dX5_readPlace_104 rfl ?_
    refine ⟨rfl, ?_, (hk.tr ?_).q⟩
    · rw [he, vPl_e]; exact mPl (u := u) h hlt
    · exact ((mKp.A (by omega) (by omega)).tr (mKp.A (by omega) (by omega))).tr (mKp.W h104)
  · intro h_55
    omega
theorem t_X5_readPlace {V : Vt} {p : Nat} (hG : jGs G) (h : mRd M σ n w (.ok (V, p))) (hk : tkK (chI σ n) n p = 2) (hW : jWf V) (hn13 : V 0 13 = V 0 0 + V 0 1) : jT G mi_X5_readPlace 12 [jr (some 90)] M (jPv (fun M' => mRd M' σ n w (lPlace (chI σ n) n V p) ∧ mKq M M' w)) := by
  have hS := h.S
  have hR := h.1.2.2.2.2.2.1
  have hV := h.2.2.2.2.1
  have hN9 : V 0 0 ≤ 10 := hW.n.1
  have hN5 : V 0 1 ≤ 5 := hW.n.2.1
  refine jT.of (by decide) rfl (Nat.le_of_ble_eq_true rfl) ?_
  refine jw_aload_n (pc := 0) dX5_readPlace_0 rfl ?_
  refine jw_aload_n (pc := 1) dX5_readPlace_1 rfl ?_
  refine jx_getRs (pc := 2) (jf_X5_173_4.r) rfl dX5_readPlace_2 rfl (is_90 hS) (by decide) (hR) ?_
  refine jx_getIs (pc := 5) (jf_X5_218_12.r) rfl dX5_readPlace_5 rfl (wis hV.1) (by decide) (mi_np hV) ?_
  refine jw_bipush (pc := 8) dX5_readPlace_8 bp_10 ?_
  refine jx_cVv (mi1 := mi_X5_begins) (pc := 10) rfl dX5_readPlace_10 lk_X5_275 rfl fi_X5_begins rfl rfl rfl (by decide) (is_90 hS) (t_X5_begins h (by rw [hk]; decide) (by omega) (by omega) hN9) (by first | decide | omega) rfl rfl (by decide) ?_
  intro M_10 q_10
  have hS := q_10.1.S
  have hR := q_10.1.1.2.2.2.2.2.1
  have hw := q_10.1.1.2.2.2.2.2.2.1
  obtain ⟨m, hm1, hm2⟩ := q_10.1.1.2.2.2.2.2.2.2 (132, 10) (by decide)
  refine jw_aload_n (pc := 13) dX5_readPlace_13 rfl ?_
  refine jw_iconst (pc := 14) dX5_readPlace_14 ic_0 ?_
  refine jw_aload_n (pc := 15) dX5_readPlace_15 rfl ?_
  refine jx_getRs (pc := 16) (jf_X5_173_4.r) rfl dX5_readPlace_16 rfl (is_90 hS) (by decide) (hR) ?_
  refine jx_getIs (pc := 19) (jf_X5_218_12.r) rfl dX5_readPlace_19 rfl (wis hw) (by decide) (hm2) ?_
  refine jx_cVv (mi1 := mi_X5_readFresh) (pc := 22) rfl dX5_readPlace_22 lk_X5_279 rfl fi_X5_readFresh rfl rfl rfl (by decide) (is_90 hS) (t_X5_readFresh (sort := 0) (num := fun V => V 0 0) hG q_10.1 (by decide) (fun r e => by
    obtain ⟨V', p'⟩ := r
    have hq := q_10.1
    rw [e] at hq
    obtain ⟨eV, eb⟩ := ln_begin e
    have eb := of_decide_eq_true eb
    subst eV
    have e2 := mi_np hq.2.2.2.2.1
    exact ⟨hm2.symm.trans (hm2.trans (hm2.symm.trans e2)), by dsimp only; omega, by dsimp only; omega⟩)) (by first | decide | omega) rfl rfl (by decide) ?_
  intro M_22 q_22
  have hS := q_22.1.S
  have hT := q_22.1.T
  refine jw_aload_n (pc := 25) dX5_readPlace_25 rfl ?_
  refine jw_ldcsW (pc := 26) (js_X5_282) rfl (by decide) dX5_readPlace_26 ?_
  refine jw_iconst (pc := 29) dX5_readPlace_29 ic_0 ?_
  refine jw_bipush (pc := 30) dX5_readPlace_30 bp_19 ?_
  refine jx_cVi (mi1 := mi_X5_readPart) (pc := 32) rfl dX5_readPlace_32 lk_X5_253 rfl fi_X5_readPart rfl rfl rfl (by decide) (is_90 hS) (t_X5_readPart hG q_22.1 (hT 18 (by decide) (by decide))) (by first | decide | omega) rfl rfl (by decide) ?_
  intro x_32 M_32 q_32
  have hS := q_32.1.S
  refine jw_istore_n (pc := 35) dX5_readPlace_35 (Nat.le_of_ble_eq_true rfl) rfl ?_
  try dsimp only [jput1, jput2, jkill, jclr, jis2_i, jis2_l, jis2_rs, jis2_rn, cond]
  refine jw_aload_n (pc := 36) dX5_readPlace_36 rfl ?_
  refine jw_bipush (pc := 37) dX5_readPlace_37 bp_44 ?_
  refine jx_cVv (mi1 := mi_X5_needsSign) (pc := 39) rfl dX5_readPlace_39 lk_X5_205 rfl fi_X5_needsSign rfl rfl rfl (by decide) (is_90 hS) (t_X5_needsSign q_32.1 (by decide) (by decide)) (by first | decide | omega) rfl rfl (by decide) ?_
  intro M_39 q_39
  have hS := q_39.1.S
  refine jw_aload_n (pc := 42) dX5_readPlace_42 rfl ?_
  refine jw_iconst (pc := 43) dX5_readPlace_43 ic_0 ?_
  refine jw_bipush (pc := 44) dX5_readPlace_44 bp_19 ?_
  refine jx_cVi (mi1 := mi_X5_readWhole) (pc := 46) rfl dX5_readPlace_46 lk_X5_143 rfl fi_X5_readWhole rfl rfl rfl (by decide) (is_90 hS) (t_X5_readWhole q_39.1) (by first | decide | omega) rfl rfl (by decide) ?_
  intro x_46 M_46 q_46
  obtain ⟨hq, hkq, hval⟩ := q_46
  have hkk := ((((q_10.2.tr q_22.2).tr q_32.2.1).tr q_39.2).tr hkq)
  obtain ⟨lE, lO⟩ := ln_place (V := V) (p := p) rfl rfl rfl rfl rfl q_32.2.2 hval
  generalize hs : sP _ (fun _ p => pNum (chI σ n) n (nI 0) (nI 19) p) = S7 at hq lE lO
  cases S7 with
  | error f => exact lp_plaE hq hkk (lE f rfl)
  | ok r =>
    obtain ⟨u, a, b, p2, z1, z2, z3, z4, z5⟩ := lO r rfl
    subst z3
    subst z1
    subst z2
    exact lp_plaO hq hkk z4 z5
/-- a number of the law is written -/
theorem mRd.D {s : Except Fl (Vt × Nat)} {k idx : Nat} {x : Int32} (h : mRd M σ n w s) (hki : (k = 127 ∧ idx = 8) ∨ (k = 128 ∧ idx = 9) ∨ (k = 129 ∧ idx = 10) ∨ (k = 130 ∧ idx = 11)) (hx : ∀ r, s = .ok r → x = nI (cNt x)) : mRd (js_I M w k x) σ n w (sD s idx x) ∧ mKp M (js_I M w k x) w := by
  have h104 := h.1.2.2.2.2.2.2.1.2.1
  have hB : mBs (js_I M w k x) σ n w := h.1.I (fun q hq e => by
    simp only [wCn, List.mem_cons, List.not_mem_nil, or_false] at hq
    rcases hki with z | z | z | z <;> obtain ⟨z, -⟩ := z <;> subst z <;> rcases hq with rfl | rfl | rfl | rfl | rfl | rfl | rfl | rfl | rfl <;> exact absurd e (by decide))
  refine ⟨?_, mKp.W h104⟩
  have e90 : ∀ j, jm_I (js_I M w k x) 90 j = jm_I M 90 j := fun j => by rw [jI_I, if_neg (by omega)]
  cases s with
  | error f => exact ⟨hB, (e90 _).trans h.2.1, (e90 _).trans h.2.2.1, (e90 _).trans h.2.2.2.1, h.2.2.2.2⟩
  | ok r =>
    obtain ⟨V, p⟩ := r
    have hx := hx _ rfl
    have hV := h.2.2.2.2.1
    obtain ⟨i0, i1, i2, i3, i4, i5, i6, i7, i8, i9, i10, i11, i12⟩ := hV.2.1
    refine mRd.up (V := V) (M := M) h hB e90 rfl ⟨hV.1, ?_, ?_⟩ ?_ ?_ ?_
    · rcases hki with z | z | z | z <;> obtain ⟨z, z2⟩ := z <;> subst z <;> subst z2
      · exact ⟨i0, i1, i2, i3, i4, i5, i6, i7, jI_same.trans hx, i9, i10, i11, i12⟩
      · exact ⟨i0, i1, i2, i3, i4, i5, i6, i7, i8, jI_same.trans hx, i10, i11, i12⟩
      · exact ⟨i0, i1, i2, i3, i4, i5, i6, i7, i8, i9, jI_same.trans hx, i11, i12⟩
      · exact ⟨i0, i1, i2, i3, i4, i5, i6, i7, i8, i9, i10, jI_same.trans hx, i12⟩
    · rcases hki with z | z | z | z <;> obtain ⟨z, z2⟩ := z <;> subst z <;> subst z2 <;> exact hV.2.2
    · rcases hki with z | z | z | z <;> obtain ⟨z, z2⟩ := z <;> subst z <;> subst z2 <;> exact h.2.2.2.2.2.1
    · rcases hki with z | z | z | z <;> obtain ⟨z, z2⟩ := z <;> subst z <;> subst z2 <;> exact h.2.2.2.2.2.2.1
    · rcases hki with z | z | z | z <;> obtain ⟨z, z2⟩ := z <;> subst z <;> subst z2 <;> exact h.2.2.2.2.2.2.2
end JLP
