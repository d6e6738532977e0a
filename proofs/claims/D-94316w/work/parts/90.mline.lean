/-! ===== m's lines: two of a sort ===== -/
theorem ln_two {c : Nat → Int32} {n sort i j p : Nat} {mm : Vt → Nat} {V : Vt} {b : Bool} (vU : Nat → Nat → Vt) : (∀ f, sTw c n sort i j mm (sB (.ok (V, p)) (fun _ p => pBegin c n b 5 p)) = .error f → ((pBegin c n b 5 p).bind (fun p1 => (pTwo c n sort i j V (mm V) p1).bind (fun t => .ok (vU t.1 t.2.1, t.2.2))) : Except Fl (Vt × Nat)) = .error f) ∧
    (∀ r, sTw c n sort i j mm (sB (.ok (V, p)) (fun _ p => pBegin c n b 5 p)) = .ok r → ∃ p1 t, sB (.ok (V, p)) (fun _ p => pBegin c n b 5 p) = .ok (V, p1) ∧ pTwo c n sort i j V (mm V) p1 = .ok t ∧ r = (V, t.2.2) ∧ ((pBegin c n b 5 p).bind (fun p1 => (pTwo c n sort i j V (mm V) p1).bind (fun t => .ok (vU t.1 t.2.1, t.2.2))) : Except Fl (Vt × Nat)) = .ok (vU t.1 t.2.1, t.2.2)) := by
  have e1 : sB (.ok (V, p)) (fun _ p => pBegin c n b 5 p) = (pBegin c n b 5 p).bind (fun q => .ok (V, q)) := rfl
  cases h1 : pBegin c n b 5 p with
  | error g =>
    rw [h1] at e1
    rw [e1]
    exact ⟨fun f h => h, fun r h => by cases h⟩
  | ok p1 =>
    rw [h1] at e1
    rw [e1]
    have e2 : sTw c n sort i j mm (.ok (V, p1)) = (pTwo c n sort i j V (mm V) p1).bind (fun q => .ok (V, q.2.2)) := rfl
    cases h2 : pTwo c n sort i j V (mm V) p1 with
    | error g =>
      rw [h2] at e2
      show (∀ f, sTw c n sort i j mm (.ok (V, p1)) = .error f → ((pTwo c n sort i j V (mm V) p1).bind _ : Except Fl (Vt × Nat)) = .error f) ∧ (∀ r, sTw c n sort i j mm (.ok (V, p1)) = .ok r → _)
      rw [e2, h2]
      exact ⟨fun f h => h, fun r h => by cases h⟩
    | ok t =>
      rw [h2] at e2
      refine ⟨fun f h => ?_, fun r h => ⟨p1, t, rfl, h2, ?_, ?_⟩⟩
      · have h : sTw c n sort i j mm (.ok (V, p1)) = .error f := h
        rw [e2] at h; cases h
      · have h : sTw c n sort i j mm (.ok (V, p1)) = .ok r := h
        rw [e2] at h; cases h; rfl
      · show ((pTwo c n sort i j V (mm V) p1).bind _ : Except Fl (Vt × Nat)) = _
        rw [h2]; rfl
/-- a line has been read: the valley's new numbers -/
theorem mRd.up {M M1 : Mm} {σ : Sg} {n w p : Nat} {V V1 : Vt} (h : mRd M σ n w (.ok (V, p))) (hB : mBs M1 σ n w) (hI : ∀ j, jm_I M1 90 j = jm_I M 90 j) (hL : jm_L M1 90 64 = jm_L M 90 64) (hV : jVm M1 w V1) (hN : jNm M1 w V1) (hl : jm_I M1 w 126 = jb (decide (V1 0 12 ≠ 0))) (hv : vNm V1) : mRd M1 σ n w (.ok (V1, p)) := by
  obtain ⟨-, hp, ⟨g1, g2, g3, g4, g5, g6⟩, hF, -⟩ := h
  exact ⟨hB, hp, ⟨fun q => (hI _).trans (g1 q), (hI _).trans g2, (hI _).trans g3, (hI _).trans g4, fun q => (hI _).trans (g5 q), fun q => hL.trans (g6 q)⟩, (hI _).trans hF, hV, hN, hl, hv⟩
theorem jNm.A {M : Mm} {w a k : Nat} {x : Int32} {V : Vt} (h : jNm M w V) (ha : a ≤ w + 21) : jNm (js_A M a k x) w V := ⟨h.1, fun j hj => ⟨(h.2 j hj).1, (jA_oth2 (by omega)).trans (h.2 j hj).2.1, (jA_oth2 (by omega)).trans (h.2 j hj).2.2⟩⟩
/-- one more at the end of a row -/
theorem row_1 {M : Mm} {a N x : Nat} {f g : Nat → Nat} (h : ∀ k, k < N → jm_A M a k = nI (f k)) (hg : g N = x) (hfg : ∀ k, k < N → g k = f k) : ∀ k, k < N + 1 → jm_A (js_A M a N (nI x)) a k = nI (g k) := fun k hk => by
  by_cases e : k = N
  · subst e; rw [jA_same, hg]
  · rw [jA_oth e, h k (by omega), hfg k (by omega)]
theorem mWall {M : Mm} {σ : Sg} {n w p a b : Nat} {V : Vt} (h : mRd M σ n w (.ok (V, p))) (hN9 : V 0 3 < 10) : mRd (js_I (js_A (js_A M (w + 3) (V 0 3) (nI a)) (w + 4) (V 0 3) (nI b)) w 133 (nI (V 0 3 + 1))) σ n w (.ok (vWall V a b, p)) := by
  obtain ⟨hB, hp, hG, hF, hV, hN, hL, hv⟩ := id h
  have h104 := hV.1.2.1
  obtain ⟨c1, c2, c3, c4, c5, c6, c7, c8⟩ := hV.2.2
  have oA : ∀ i k, i ≤ 21 → i ≠ 3 → i ≠ 4 → jm_A (js_I (js_A (js_A M (w + 3) (V 0 3) (nI a)) (w + 4) (V 0 3) (nI b)) w 133 (nI (V 0 3 + 1))) (w + i) k = jm_A M (w + i) k := fun i k h1 h2 h3 => by rw [jA_I, jA_oth2 (by omega), jA_oth2 (by omega)]
  refine h.up (((hB.A (by omega) (by omega)).A (by omega) (by omega)).I (fun q hq e => ?_)) (fun j => by rw [jI_I, if_neg (by omega)]; rfl) rfl ⟨hV.1, ?_, ?_⟩ ⟨?_, fun k hk => ?_⟩ ?_ ?_
  · simp only [wCn, List.mem_cons, List.not_mem_nil, or_false] at hq
    rcases hq with rfl | rfl | rfl | rfl | rfl | rfl | rfl | rfl | rfl <;> first | (exact absurd e (by decide)) | exact ⟨_, by omega, rfl⟩
  · obtain ⟨i0, i1, i2, i3, i4, i5, i6, i7, i8, i9, i10, i11, i12⟩ := hV.2.1
    exact ⟨i0, i1, i2, jI_same, i4, i5, i6, i7, i8, i9, i10, i11, i12⟩
  · refine ⟨?_, ?_, ?_, ?_, ?_, ?_, ?_, ?_⟩
    · intro k hk
      exact ⟨(oA 1 k (by decide) (by decide) (by decide)).trans (c1 k hk).1, (oA 2 k (by decide) (by decide) (by decide)).trans (c1 k hk).2⟩
    · intro k hk
      refine ⟨?_, ?_⟩
      · rw [jA_I, jA_oth2 (by omega)]
        exact row_1 (f := V 4) (g := vWall V a b 4) (fun k hk => (c2 k hk).1) (by unfold vWall; simp [vS]) (fun k hk => by unfold vWall; simp [vS, Nat.ne_of_lt hk]) k hk
      · rw [jA_I]
        exact row_1 (f := V 5) (g := vWall V a b 5) (fun k hk => (jA_oth2 (by omega)).trans (c2 k hk).2) (by unfold vWall; simp [vS]) (fun k hk => by unfold vWall; simp [vS, Nat.ne_of_lt hk]) k hk
    · intro k hk
      exact ⟨(oA 5 k (by decide) (by decide) (by decide)).trans (c3 k hk).1, (oA 6 k (by decide) (by decide) (by decide)).trans (c3 k hk).2⟩
    · intro k hk
      exact (oA 7 k (by decide) (by decide) (by decide)).trans (c4 k hk)
    · intro k hk
      exact ⟨(oA 8 k (by decide) (by decide) (by decide)).trans (c5 k hk).1, (oA 9 k (by decide) (by decide) (by decide)).trans (c5 k hk).2.1, (oA 10 k (by decide) (by decide) (by decide)).trans (c5 k hk).2.2.1, (oA 11 k (by decide) (by decide) (by decide)).trans (c5 k hk).2.2.2.1, (oA 14 k (by decide) (by decide) (by decide)).trans (c5 k hk).2.2.2.2⟩
    · intro k hk
      exact ⟨(oA 12 k (by decide) (by decide) (by decide)).trans (c6 k hk).1, (oA 13 k (by decide) (by decide) (by decide)).trans (c6 k hk).2⟩
    · intro k hk
      exact ⟨(oA 15 k (by decide) (by decide) (by decide)).trans (c7 k hk).1, (oA 16 k (by decide) (by decide) (by decide)).trans (c7 k hk).2.1, (oA 17 k (by decide) (by decide) (by decide)).trans (c7 k hk).2.2.1, (oA 18 k (by decide) (by decide) (by decide)).trans (c7 k hk).2.2.2.1, (oA 19 k (by decide) (by decide) (by decide)).trans (c7 k hk).2.2.2.2⟩
    · intro k hk
      exact ⟨(oA 20 k (by decide) (by decide) (by decide)).trans (c8 k hk).1, (oA 21 k (by decide) (by decide) (by decide)).trans (c8 k hk).2⟩
  · rw [jI_I, if_neg (by omega)]; exact hN.1
  · have hA := (((hN.A (k := V 0 3) (x := nI a) (a := w + 3) (by omega)).A (k := V 0 3) (x := nI b) (a := w + 4) (by omega)).2 k hk)
    exact hA
  · rw [jI_I, if_neg (by omega)]; exact hL
  · exact hv
section JKWall
variable {G : Gh} {M : Mm} {σ : Sg} {n w : Nat}
theorem lp_WallE {M9 : Mm} {V : Vt} {p : Nat} {f : Fl} {x : Int32} (h : mRd M σ n w (.error f)) (hk : mKq M9 M w) (he : lWall (chI σ n) n V p = .error f) : jW G mi_X5_readWall 12 M9 39 (jent [jr (some 90)] mi_X5_readWall.2.2.1) [.int x] M (jPv (fun M' => mRd M' σ n w (lWall (chI σ n) n V p) ∧ mKq M9 M' w)) := by
  have hS := h.S
  refine jw_istore_n (pc := 39) dX5_readWall_39 (Nat.le_of_ble_eq_true rfl) rfl ?_
  try dsimp only [jput1, jput2, jkill, jclr, jis2_i, jis2_l, jis2_rs, jis2_rn, cond]
  refine jw_aload_n (pc := 40) dX5_readWall_40 rfl ?_
  refine jx_getIs (pc := 41) (jf_X5_85_4.r) rfl dX5_readWall_41 rfl (is_90 hS) (by decide) (h.2.1) ?_
  refine jw_iconst (pc := 44) dX5_readWall_44 ic_5 ?_
  first | refine jx_icmp_ne (pc := 45) (tgt := 49) dX5_readWall_45 (by decide) (by omega) (by omega) ?_ ?_ | refine jw_icmp_ne (pc := 45) (tgt := 49) dX5_readWall_45 (by decide) ?_ ?_
  · intro h_45
    exact absurd rfl h_45
  · intro h_45
    refine jw_return (pc := 48) dX5_readWall_48 rfl ?_
    exact ⟨rfl, by rw [he]; exact h, hk⟩
theorem lp_WallO {M9 : Mm} {V : Vt} {p p2 a b : Nat} (h : mRd M σ n w (.ok (V, p2))) (hk : mKq M9 M w) (hf : jm_I M 90 65 = nI a) (hlt : V 0 3 < 10) (he : lWall (chI σ n) n V p = .ok (vWall V a b, p2)) : jW G mi_X5_readWall 12 M9 39 (jent [jr (some 90)] mi_X5_readWall.2.2.1) [.int (nI b)] M (jPv (fun M' => mRd M' σ n w (lWall (chI σ n) n V p) ∧ mKq M9 M' w)) := by
  have hS := h.S
  have hR := h.1.2.2.2.2.2.1
  have hV := h.2.2.2.2.1
  have hw := hV.1
  have h104 := hw.2.1
  have hs5 := @srt_lt (tkK (chI σ n) n p2)
  have hct := mi_nw hV
  refine jw_istore_n (pc := 39) dX5_readWall_39 (Nat.le_of_ble_eq_true rfl) rfl ?_
  try dsimp only [jput1, jput2, jkill, jclr, jis2_i, jis2_l, jis2_rs, jis2_rn, cond]
  refine jw_aload_n (pc := 40) dX5_readWall_40 rfl ?_
  refine jx_getIs (pc := 41) (jf_X5_85_4.r) rfl dX5_readWall_41 rfl (is_90 hS) (by decide) (h.2.2.1.2.1) ?_
  refine jw_iconst (pc := 44) dX5_readWall_44 ic_5 ?_
  first | refine jx_icmp_ne (pc := 45) (tgt := 49) dX5_readWall_45 (by decide) (by omega) (by omega) ?_ ?_ | refine jw_icmp_ne (pc := 45) (tgt := 49) dX5_readWall_45 (by decide) ?_ ?_
  · intro h_45
    refine jw_aload_n (pc := 49) dX5_readWall_49 rfl ?_
    refine jx_getRs (pc := 50) (jf_X5_173_4.r) rfl dX5_readWall_50 rfl (is_90 hS) (by decide) (hR) ?_
    refine jx_getRs (pc := 53) jg_X5_292_12 rfl dX5_readWall_53 rfl (wis hw) (by decide) (wr_3 hw) ?_
    refine jw_aload_n (pc := 56) dX5_readWall_56 rfl ?_
    refine jx_getRs (pc := 57) (jf_X5_173_4.r) rfl dX5_readWall_57 rfl (is_90 hS) (by decide) (hR) ?_
    refine jx_getIs (pc := 60) (jf_X5_289_12.r) rfl dX5_readWall_60 rfl (wis hw) (by decide) (hct) ?_
    refine jw_aload_n (pc := 63) dX5_readWall_63 rfl ?_
    refine jx_getIs (pc := 64) (jf_X5_202_4.r) rfl dX5_readWall_64 rfl (is_90 hS) (by decide) (hf) ?_
    refine jx_iast (pc := 67) dX5_readWall_67 (by omega) (wok_3 hw) (wnn_3 hw) rfl (by omega) ?_
    refine jw_aload_n (pc := 68) dX5_readWall_68 rfl ?_
    refine jx_getRs (pc := 69) (jf_X5_173_4.r) rfl dX5_readWall_69 rfl (is_90 hS) (by decide) (hR) ?_
    refine jx_getRs (pc := 72) jg_X5_295_12 rfl dX5_readWall_72 rfl (wis hw) (by decide) (wr_4 hw) ?_
    refine jw_aload_n (pc := 75) dX5_readWall_75 rfl ?_
    refine jx_getRs (pc := 76) (jf_X5_173_4.r) rfl dX5_readWall_76 rfl (is_90 hS) (by decide) (hR) ?_
    refine jx_getIs (pc := 79) (jf_X5_289_12.r) rfl dX5_readWall_79 rfl (wis hw) (by decide) (hct) ?_
    refine jw_iload_n (pc := 82) dX5_readWall_82 rfl ?_
    refine jx_iast (pc := 83) dX5_readWall_83 (by omega) (wok_4 hw) (wnn_4 hw) rfl (by omega) ?_
    refine jw_aload_n (pc := 84) dX5_readWall_84 rfl ?_
    refine jx_getRs (pc := 85) (jf_X5_173_4.r) rfl dX5_readWall_85 rfl (is_90 hS) (by decide) (hR) ?_
    refine jw_dup (pc := 88) dX5_readWall_88 (jis2_r _) ?_
    refine jx_getIs (pc := 89) (jf_X5_289_12.r) rfl dX5_readWall_89 rfl (wis hw) (by decide) (hct) ?_
    refine jw_iconst (pc := 92) dX5_readWall_92 ic_1 ?_
    first | refine jx_iadd (pc := 93) dX5_readWall_93 ?_ | refine jw_iadd (pc := 93) dX5_readWall_93 ?_
    refine jx_putI (pc := 94) jf_X5_289_12 rfl dX5_readWall_94 rfl rfl (wis hw) (by decide) ?_
    refine jw_return (pc := 97) dX5_readWall_97 rfl ?_
    refine ⟨rfl, ?_, hk.tr ?_⟩
    · rw [he]; exact mWall h hlt
    · exact (((mKp.A (by omega) (by omega)).tr (mKp.A (by omega) (by omega))).tr (mKp.W h104)).q
  · intro h_45
    omega
end JKWall
section JLWall
variable {G : Gh} {M : Mm} {σ : Sg} {n w : Nat}
theorem t_X5_readWall {V : Vt} {p : Nat} (hG : jGs G) (h : mRd M σ n w (.ok (V, p))) (hk : tkK (chI σ n) n p = 2) (hW : jWf V) (hb15 : ∀ k, k < V 0 3 → V 4 k ≤ 15 ∧ V 5 k ≤ 15) : jT G mi_X5_readWall 12 [jr (some 90)] M (jPv (fun M' => mRd M' σ n w (lWall (chI σ n) n V p) ∧ mKq M M' w)) := by
  have hS := h.S
  have hR := h.1.2.2.2.2.2.1
  have hV := h.2.2.2.2.1
  have hN9 : V 0 3 ≤ 10 := by have := hW; unfold jWf at this; omega
  obtain ⟨lE, lO⟩ := ln_two (c := chI σ n) (n := n) (sort := 0) (i := 4) (j := 5) (p := p) (mm := fun V => V 0 3) (V := V) (b := decide (V 0 3 < 10)) (fun a b => vWall V a b)
  refine jT.of (by decide) rfl (Nat.le_of_ble_eq_true rfl) ?_
  refine jw_aload_n (pc := 0) dX5_readWall_0 rfl ?_
  refine jw_aload_n (pc := 1) dX5_readWall_1 rfl ?_
  refine jx_getRs (pc := 2) (jf_X5_173_4.r) rfl dX5_readWall_2 rfl (is_90 hS) (by decide) (hR) ?_
  refine jx_getIs (pc := 5) (jf_X5_289_12.r) rfl dX5_readWall_5 rfl (wis hV.1) (by decide) (mi_nw hV) ?_
  refine jw_bipush (pc := 8) dX5_readWall_8 bp_10 ?_
  refine jx_cVv (mi1 := mi_X5_begins) (pc := 10) rfl dX5_readWall_10 lk_X5_275 rfl fi_X5_begins rfl rfl rfl (by decide) (is_90 hS) (t_X5_begins h (by rw [hk]; decide) (by omega) (by omega) hN9) (by first | decide | omega) rfl rfl (by decide) ?_
  intro M_10 q_10
  have hS := q_10.1.S
  have hR := q_10.1.1.2.2.2.2.2.1
  have hw := q_10.1.1.2.2.2.2.2.2.1
  obtain ⟨m, hm1, hm2⟩ := q_10.1.1.2.2.2.2.2.2.2 (133, 10) (by decide)
  refine jw_aload_n (pc := 13) dX5_readWall_13 rfl ?_
  refine jw_iconst (pc := 14) dX5_readWall_14 ic_0 ?_
  refine jw_aload_n (pc := 15) dX5_readWall_15 rfl ?_
  refine jx_getRs (pc := 16) (jf_X5_173_4.r) rfl dX5_readWall_16 rfl (is_90 hS) (by decide) (hR) ?_
  refine jx_getRs (pc := 19) jg_X5_292_12 rfl dX5_readWall_19 rfl (wis hw) (by decide) (wr_3 hw) ?_
  refine jw_aload_n (pc := 22) dX5_readWall_22 rfl ?_
  refine jx_getRs (pc := 23) (jf_X5_173_4.r) rfl dX5_readWall_23 rfl (is_90 hS) (by decide) (hR) ?_
  refine jx_getRs (pc := 26) jg_X5_295_12 rfl dX5_readWall_26 rfl (wis hw) (by decide) (wr_4 hw) ?_
  refine jw_aload_n (pc := 29) dX5_readWall_29 rfl ?_
  refine jx_getRs (pc := 30) (jf_X5_173_4.r) rfl dX5_readWall_30 rfl (is_90 hS) (by decide) (hR) ?_
  refine jx_getIs (pc := 33) (jf_X5_289_12.r) rfl dX5_readWall_33 rfl (wis hw) (by decide) (hm2) ?_
  refine jx_cVi (mi1 := mi_X5_readTwo) (pc := 36) rfl dX5_readWall_36 lk_X5_298 rfl fi_X5_readTwo rfl rfl rfl (by decide) (is_90 hS) (t_X5_readTwo (i := 4) (j := 5) (L := 10) (mm := fun V => V 0 3) (a := w + 3) (b := w + 4) hG q_10.1 (by decide) (wok_3 hw) (wok_4 hw) ⟨by omega, by omega⟩ ⟨by omega, by omega⟩ (fun M' z => ⟨wok_3 z, wnn_3 z⟩) (fun M' z => ⟨wok_4 z, wnn_4 z⟩) hm1 (by decide) (fun r e => by
    obtain ⟨V', p'⟩ := r
    have hq := q_10.1
    rw [e] at hq
    have eV : V' = V := by
      have e : ((pBegin (chI σ n) n (decide (V 0 3 < 10)) 5 p).bind (fun q => .ok (V, q)) : Except Fl (Vt × Nat)) = .ok (V', p') := e
      cases hb : pBegin (chI σ n) n (decide (V 0 3 < 10)) 5 p with
      | error g => rw [hb] at e; cases e
      | ok g => rw [hb] at e; cases e; rfl
    subst eV
    have e2 := mi_nw hq.2.2.2.2.1
    show m = V' 0 3
    exact (nI_eq (by omega) (by omega)).mp (hm2.symm.trans e2)) (fun M' V' z k hk => z.2.2.2.1 k hk) (fun r e k hk => by
    obtain ⟨V', p'⟩ := r
    have eV : V' = V := by
      have e : ((pBegin (chI σ n) n (decide (V 0 3 < 10)) 5 p).bind (fun q => .ok (V, q)) : Except Fl (Vt × Nat)) = .ok (V', p') := e
      cases hb : pBegin (chI σ n) n (decide (V 0 3 < 10)) 5 p with
      | error g => rw [hb] at e; cases e
      | ok g => rw [hb] at e; cases e; rfl
    subst eV
    exact hb15 k hk)) (by first | decide | omega) rfl rfl (by decide) ?_
  intro x_36 M_36 q_36
  obtain ⟨hq, hkq, hval⟩ := q_36
  cases hs : sTw (chI σ n) n 0 4 5 (fun V => V 0 3) (sB (.ok (V, p)) (fun _ p => pBegin (chI σ n) n (decide (V 0 3 < 10)) 5 p)) with
  | error f =>
    rw [hs] at hq
    have he := lE f hs
    exact lp_WallE hq (q_10.2.q.tr hkq) (by unfold lWall; exact he)
  | ok r =>
    rw [hs] at hq
    obtain ⟨p1, t, z1, z2, z3, z4⟩ := lO r hs
    subst z3
    obtain ⟨y1, y2⟩ := hval _ _ z1 z2
    have hlt : V 0 3 < 10 := by
      refine Classical.byContradiction (fun q => ?_)
      have z1 : ((pBegin (chI σ n) n (decide (V 0 3 < 10)) 5 p).bind (fun q => .ok (V, q)) : Except Fl (Vt × Nat)) = .ok (V, p1) := z1
      unfold pBegin at z1
      rw [decide_eq_false q] at z1
      cases z1
    subst y1
    exact lp_WallO hq (q_10.2.q.tr hkq) y2 hlt (by unfold lWall; exact z4)
end JLWall
theorem mWay {M : Mm} {σ : Sg} {n w p a b : Nat} {V : Vt} (h : mRd M σ n w (.ok (V, p))) (hN9 : V 0 4 < 16) : mRd (js_I (js_A (js_A M (w + 5) (V 0 4) (nI a)) (w + 6) (V 0 4) (nI b)) w 134 (nI (V 0 4 + 1))) σ n w (.ok (vWay V a b, p)) := by
  obtain ⟨hB, hp, hG, hF, hV, hN, hL, hv⟩ := id h
  have h104 := hV.1.2.1
  obtain ⟨c1, c2, c3, c4, c5, c6, c7, c8⟩ := hV.2.2
  have oA : ∀ i k, i ≤ 21 → i ≠ 5 → i ≠ 6 → jm_A (js_I (js_A (js_A M (w + 5) (V 0 4) (nI a)) (w + 6) (V 0 4) (nI b)) w 134 (nI (V 0 4 + 1))) (w + i) k = jm_A M (w + i) k := fun i k h1 h2 h3 => by rw [jA_I, jA_oth2 (by omega), jA_oth2 (by omega)]
  refine h.up (((hB.A (by omega) (by omega)).A (by omega) (by omega)).I (fun q hq e => ?_)) (fun j => by rw [jI_I, if_neg (by omega)]; rfl) rfl ⟨hV.1, ?_, ?_⟩ ⟨?_, fun k hk => ?_⟩ ?_ ?_
  · simp only [wCn, List.mem_cons, List.not_mem_nil, or_false] at hq
    rcases hq with rfl | rfl | rfl | rfl | rfl | rfl | rfl | rfl | rfl <;> first | (exact absurd e (by decide)) | exact ⟨_, by omega, rfl⟩
  · obtain ⟨i0, i1, i2, i3, i4, i5, i6, i7, i8, i9, i10, i11, i12⟩ := hV.2.1
    exact ⟨i0, i1, i2, i3, jI_same, i5, i6, i7, i8, i9, i10, i11, i12⟩
  · refine ⟨?_, ?_, ?_, ?_, ?_, ?_, ?_, ?_⟩
    · intro k hk
      exact ⟨(oA 1 k (by decide) (by decide) (by decide)).trans (c1 k hk).1, (oA 2 k (by decide) (by decide) (by decide)).trans (c1 k hk).2⟩
    · intro k hk
      exact ⟨(oA 3 k (by decide) (by decide) (by decide)).trans (c2 k hk).1, (oA 4 k (by decide) (by decide) (by decide)).trans (c2 k hk).2⟩
    · intro k hk
      refine ⟨?_, ?_⟩
      · rw [jA_I, jA_oth2 (by omega)]
        exact row_1 (f := V 21) (g := vWay V a b 21) (fun k hk => (c3 k hk).1) (by unfold vWay; simp [vS]) (fun k hk => by unfold vWay; simp [vS, Nat.ne_of_lt hk]) k hk
      · rw [jA_I]
        exact row_1 (f := V 22) (g := vWay V a b 22) (fun k hk => (jA_oth2 (by omega)).trans (c3 k hk).2) (by unfold vWay; simp [vS]) (fun k hk => by unfold vWay; simp [vS, Nat.ne_of_lt hk]) k hk
    · intro k hk
      exact (oA 7 k (by decide) (by decide) (by decide)).trans (c4 k hk)
    · intro k hk
      exact ⟨(oA 8 k (by decide) (by decide) (by decide)).trans (c5 k hk).1, (oA 9 k (by decide) (by decide) (by decide)).trans (c5 k hk).2.1, (oA 10 k (by decide) (by decide) (by decide)).trans (c5 k hk).2.2.1, (oA 11 k (by decide) (by decide) (by decide)).trans (c5 k hk).2.2.2.1, (oA 14 k (by decide) (by decide) (by decide)).trans (c5 k hk).2.2.2.2⟩
    · intro k hk
      exact ⟨(oA 12 k (by decide) (by decide) (by decide)).trans (c6 k hk).1, (oA 13 k (by decide) (by decide) (by decide)).trans (c6 k hk).2⟩
    · intro k hk
      exact ⟨(oA 15 k (by decide) (by decide) (by decide)).trans (c7 k hk).1, (oA 16 k (by decide) (by decide) (by decide)).trans (c7 k hk).2.1, (oA 17 k (by decide) (by decide) (by decide)).trans (c7 k hk).2.2.1, (oA 18 k (by decide) (by decide) (by decide)).trans (c7 k hk).2.2.2.1, (oA 19 k (by decide) (by decide) (by decide)).trans (c7 k hk).2.2.2.2⟩
    · intro k hk
      exact ⟨(oA 20 k (by decide) (by decide) (by decide)).trans (c8 k hk).1, (oA 21 k (by decide) (by decide) (by decide)).trans (c8 k hk).2⟩
  · rw [jI_I, if_neg (by omega)]; exact hN.1
  · have hA := (((hN.A (k := V 0 4) (x := nI a) (a := w + 5) (by omega)).A (k := V 0 4) (x := nI b) (a := w + 6) (by omega)).2 k hk)
    exact hA
  · rw [jI_I, if_neg (by omega)]; exact hL
  · exact hv
section JKWay
variable {G : Gh} {M : Mm} {σ : Sg} {n w : Nat}
theorem lp_WayE {M9 : Mm} {V : Vt} {p : Nat} {f : Fl} {x : Int32} (h : mRd M σ n w (.error f)) (hk : mKq M9 M w) (he : lWay (chI σ n) n V p = .error f) : jW G mi_X5_readWay 12 M9 39 (jent [jr (some 90)] mi_X5_readWay.2.2.1) [.int x] M (jPv (fun M' => mRd M' σ n w (lWay (chI σ n) n V p) ∧ mKq M9 M' w)) := by
  have hS := h.S
  refine jw_istore_n (pc := 39) dX5_readWay_39 (Nat.le_of_ble_eq_true rfl) rfl ?_
  try dsimp only [jput1, jput2, jkill, jclr, jis2_i, jis2_l, jis2_rs, jis2_rn, cond]
  refine jw_aload_n (pc := 40) dX5_readWay_40 rfl ?_
  refine jx_getIs (pc := 41) (jf_X5_85_4.r) rfl dX5_readWay_41 rfl (is_90 hS) (by decide) (h.2.1) ?_
  refine jw_iconst (pc := 44) dX5_readWay_44 ic_5 ?_
  first | refine jx_icmp_ne (pc := 45) (tgt := 49) dX5_readWay_45 (by decide) (by omega) (by omega) ?_ ?_ | refine jw_icmp_ne (pc := 45) (tgt := 49) dX5_readWay_45 (by decide) ?_ ?_
  · intro h_45
    exact absurd rfl h_45
  · intro h_45
    refine jw_return (pc := 48) dX5_readWay_48 rfl ?_
    exact ⟨rfl, by rw [he]; exact h, hk⟩
theorem lp_WayO {M9 : Mm} {V : Vt} {p p2 a b : Nat} (h : mRd M σ n w (.ok (V, p2))) (hk : mKq M9 M w) (hf : jm_I M 90 65 = nI a) (hlt : V 0 4 < 16) (he : lWay (chI σ n) n V p = .ok (vWay V a b, p2)) : jW G mi_X5_readWay 12 M9 39 (jent [jr (some 90)] mi_X5_readWay.2.2.1) [.int (nI b)] M (jPv (fun M' => mRd M' σ n w (lWay (chI σ n) n V p) ∧ mKq M9 M' w)) := by
  have hS := h.S
  have hR := h.1.2.2.2.2.2.1
  have hV := h.2.2.2.2.1
  have hw := hV.1
  have h104 := hw.2.1
  have hs5 := @srt_lt (tkK (chI σ n) n p2)
  have hct := mi_ny hV
  refine jw_istore_n (pc := 39) dX5_readWay_39 (Nat.le_of_ble_eq_true rfl) rfl ?_
  try dsimp only [jput1, jput2, jkill, jclr, jis2_i, jis2_l, jis2_rs, jis2_rn, cond]
  refine jw_aload_n (pc := 40) dX5_readWay_40 rfl ?_
  refine jx_getIs (pc := 41) (jf_X5_85_4.r) rfl dX5_readWay_41 rfl (is_90 hS) (by decide) (h.2.2.1.2.1) ?_
  refine jw_iconst (pc := 44) dX5_readWay_44 ic_5 ?_
  first | refine jx_icmp_ne (pc := 45) (tgt := 49) dX5_readWay_45 (by decide) (by omega) (by omega) ?_ ?_ | refine jw_icmp_ne (pc := 45) (tgt := 49) dX5_readWay_45 (by decide) ?_ ?_
  · intro h_45
    refine jw_aload_n (pc := 49) dX5_readWay_49 rfl ?_
    refine jx_getRs (pc := 50) (jf_X5_173_4.r) rfl dX5_readWay_50 rfl (is_90 hS) (by decide) (hR) ?_
    refine jx_getRs (pc := 53) jg_X5_305_12 rfl dX5_readWay_53 rfl (wis hw) (by decide) (wr_5 hw) ?_
    refine jw_aload_n (pc := 56) dX5_readWay_56 rfl ?_
    refine jx_getRs (pc := 57) (jf_X5_173_4.r) rfl dX5_readWay_57 rfl (is_90 hS) (by decide) (hR) ?_
    refine jx_getIs (pc := 60) (jf_X5_302_12.r) rfl dX5_readWay_60 rfl (wis hw) (by decide) (hct) ?_
    refine jw_aload_n (pc := 63) dX5_readWay_63 rfl ?_
    refine jx_getIs (pc := 64) (jf_X5_202_4.r) rfl dX5_readWay_64 rfl (is_90 hS) (by decide) (hf) ?_
    refine jx_iast (pc := 67) dX5_readWay_67 (by omega) (wok_5 hw) (wnn_5 hw) rfl (by omega) ?_
    refine jw_aload_n (pc := 68) dX5_readWay_68 rfl ?_
    refine jx_getRs (pc := 69) (jf_X5_173_4.r) rfl dX5_readWay_69 rfl (is_90 hS) (by decide) (hR) ?_
    refine jx_getRs (pc := 72) jg_X5_308_12 rfl dX5_readWay_72 rfl (wis hw) (by decide) (wr_6 hw) ?_
    refine jw_aload_n (pc := 75) dX5_readWay_75 rfl ?_
    refine jx_getRs (pc := 76) (jf_X5_173_4.r) rfl dX5_readWay_76 rfl (is_90 hS) (by decide) (hR) ?_
    refine jx_getIs (pc := 79) (jf_X5_302_12.r) rfl dX5_readWay_79 rfl (wis hw) (by decide) (hct) ?_
    refine jw_iload_n (pc := 82) dX5_readWay_82 rfl ?_
    refine jx_iast (pc := 83) dX5_readWay_83 (by omega) (wok_6 hw) (wnn_6 hw) rfl (by omega) ?_
    refine jw_aload_n (pc := 84) dX5_readWay_84 rfl ?_
    refine jx_getRs (pc := 85) (jf_X5_173_4.r) rfl dX5_readWay_85 rfl (is_90 hS) (by decide) (hR) ?_
    refine jw_dup (pc := 88) dX5_readWay_88 (jis2_r _) ?_
    refine jx_getIs (pc := 89) (jf_X5_302_12.r) rfl dX5_readWay_89 rfl (wis hw) (by decide) (hct) ?_
    refine jw_iconst (pc := 92) dX5_readWay_92 ic_1 ?_
    first | refine jx_iadd (pc := 93) dX5_readWay_93 ?_ | refine jw_iadd (pc := 93) dX5_readWay_93 ?_
    refine jx_putI (pc := 94) jf_X5_302_12 rfl dX5_readWay_94 rfl rfl (wis hw) (by decide) ?_
    refine jw_return (pc := 97) dX5_readWay_97 rfl ?_
    refine ⟨rfl, ?_, hk.tr ?_⟩
    · rw [he]; exact mWay h hlt
    · exact (((mKp.A (by omega) (by omega)).tr (mKp.A (by omega) (by omega))).tr (mKp.W h104)).q
  · intro h_45
    omega
end JKWay
section JLWay
variable {G : Gh} {M : Mm} {σ : Sg} {n w : Nat}
theorem t_X5_readWay {V : Vt} {p : Nat} (hG : jGs G) (h : mRd M σ n w (.ok (V, p))) (hk : tkK (chI σ n) n p = 2) (hW : jWf V) (hb15 : ∀ k, k < V 0 4 → V 21 k ≤ 15 ∧ V 22 k ≤ 15) : jT G mi_X5_readWay 12 [jr (some 90)] M (jPv (fun M' => mRd M' σ n w (lWay (chI σ n) n V p) ∧ mKq M M' w)) := by
  have hS := h.S
  have hR := h.1.2.2.2.2.2.1
  have hV := h.2.2.2.2.1
  have hN9 : V 0 4 ≤ 16 := by have := hW; unfold jWf at this; omega
  obtain ⟨lE, lO⟩ := ln_two (c := chI σ n) (n := n) (sort := 0) (i := 21) (j := 22) (p := p) (mm := fun V => V 0 4) (V := V) (b := decide (V 0 4 < 16)) (fun a b => vWay V a b)
  refine jT.of (by decide) rfl (Nat.le_of_ble_eq_true rfl) ?_
  refine jw_aload_n (pc := 0) dX5_readWay_0 rfl ?_
  refine jw_aload_n (pc := 1) dX5_readWay_1 rfl ?_
  refine jx_getRs (pc := 2) (jf_X5_173_4.r) rfl dX5_readWay_2 rfl (is_90 hS) (by decide) (hR) ?_
  refine jx_getIs (pc := 5) (jf_X5_302_12.r) rfl dX5_readWay_5 rfl (wis hV.1) (by decide) (mi_ny hV) ?_
  refine jw_bipush (pc := 8) dX5_readWay_8 bp_16 ?_
  refine jx_cVv (mi1 := mi_X5_begins) (pc := 10) rfl dX5_readWay_10 lk_X5_275 rfl fi_X5_begins rfl rfl rfl (by decide) (is_90 hS) (t_X5_begins h (by rw [hk]; decide) (by omega) (by omega) hN9) (by first | decide | omega) rfl rfl (by decide) ?_
  intro M_10 q_10
  have hS := q_10.1.S
  have hR := q_10.1.1.2.2.2.2.2.1
  have hw := q_10.1.1.2.2.2.2.2.2.1
  obtain ⟨m, hm1, hm2⟩ := q_10.1.1.2.2.2.2.2.2.2 (134, 16) (by decide)
  refine jw_aload_n (pc := 13) dX5_readWay_13 rfl ?_
  refine jw_iconst (pc := 14) dX5_readWay_14 ic_0 ?_
  refine jw_aload_n (pc := 15) dX5_readWay_15 rfl ?_
  refine jx_getRs (pc := 16) (jf_X5_173_4.r) rfl dX5_readWay_16 rfl (is_90 hS) (by decide) (hR) ?_
  refine jx_getRs (pc := 19) jg_X5_305_12 rfl dX5_readWay_19 rfl (wis hw) (by decide) (wr_5 hw) ?_
  refine jw_aload_n (pc := 22) dX5_readWay_22 rfl ?_
  refine jx_getRs (pc := 23) (jf_X5_173_4.r) rfl dX5_readWay_23 rfl (is_90 hS) (by decide) (hR) ?_
  refine jx_getRs (pc := 26) jg_X5_308_12 rfl dX5_readWay_26 rfl (wis hw) (by decide) (wr_6 hw) ?_
  refine jw_aload_n (pc := 29) dX5_readWay_29 rfl ?_
  refine jx_getRs (pc := 30) (jf_X5_173_4.r) rfl dX5_readWay_30 rfl (is_90 hS) (by decide) (hR) ?_
  refine jx_getIs (pc := 33) (jf_X5_302_12.r) rfl dX5_readWay_33 rfl (wis hw) (by decide) (hm2) ?_
  refine jx_cVi (mi1 := mi_X5_readTwo) (pc := 36) rfl dX5_readWay_36 lk_X5_298 rfl fi_X5_readTwo rfl rfl rfl (by decide) (is_90 hS) (t_X5_readTwo (i := 21) (j := 22) (L := 16) (mm := fun V => V 0 4) (a := w + 5) (b := w + 6) hG q_10.1 (by decide) (wok_5 hw) (wok_6 hw) ⟨by omega, by omega⟩ ⟨by omega, by omega⟩ (fun M' z => ⟨wok_5 z, wnn_5 z⟩) (fun M' z => ⟨wok_6 z, wnn_6 z⟩) hm1 (by decide) (fun r e => by
    obtain ⟨V', p'⟩ := r
    have hq := q_10.1
    rw [e] at hq
    have eV : V' = V := by
      have e : ((pBegin (chI σ n) n (decide (V 0 4 < 16)) 5 p).bind (fun q => .ok (V, q)) : Except Fl (Vt × Nat)) = .ok (V', p') := e
      cases hb : pBegin (chI σ n) n (decide (V 0 4 < 16)) 5 p with
      | error g => rw [hb] at e; cases e
      | ok g => rw [hb] at e; cases e; rfl
    subst eV
    have e2 := mi_ny hq.2.2.2.2.1
    show m = V' 0 4
    exact (nI_eq (by omega) (by omega)).mp (hm2.symm.trans e2)) (fun M' V' z k hk => z.2.2.2.2.1 k hk) (fun r e k hk => by
    obtain ⟨V', p'⟩ := r
    have eV : V' = V := by
      have e : ((pBegin (chI σ n) n (decide (V 0 4 < 16)) 5 p).bind (fun q => .ok (V, q)) : Except Fl (Vt × Nat)) = .ok (V', p') := e
      cases hb : pBegin (chI σ n) n (decide (V 0 4 < 16)) 5 p with
      | error g => rw [hb] at e; cases e
      | ok g => rw [hb] at e; cases e; rfl
    subst eV
    exact hb15 k hk)) (by first | decide | omega) rfl rfl (by decide) ?_
  intro x_36 M_36 q_36
  obtain ⟨hq, hkq, hval⟩ := q_36
  cases hs : sTw (chI σ n) n 0 21 22 (fun V => V 0 4) (sB (.ok (V, p)) (fun _ p => pBegin (chI σ n) n (decide (V 0 4 < 16)) 5 p)) with
  | error f =>
    rw [hs] at hq
    have he := lE f hs
    exact lp_WayE hq (q_10.2.q.tr hkq) (by unfold lWay; exact he)
  | ok r =>
    rw [hs] at hq
    obtain ⟨p1, t, z1, z2, z3, z4⟩ := lO r hs
    subst z3
    obtain ⟨y1, y2⟩ := hval _ _ z1 z2
    have hlt : V 0 4 < 16 := by
      refine Classical.byContradiction (fun q => ?_)
      have z1 : ((pBegin (chI σ n) n (decide (V 0 4 < 16)) 5 p).bind (fun q => .ok (V, q)) : Except Fl (Vt × Nat)) = .ok (V, p1) := z1
      unfold pBegin at z1
      rw [decide_eq_false q] at z1
      cases z1
    subst y1
    exact lp_WayO hq (q_10.2.q.tr hkq) y2 hlt (by unfold lWay; exact z4)
end JLWay
theorem mPair {M : Mm} {σ : Sg} {n w p a b : Nat} {V : Vt} (h : mRd M σ n w (.ok (V, p))) (hN9 : V 0 6 < 3) : mRd (js_I (js_A (js_A M (w + 12) (V 0 6) (nI a)) (w + 13) (V 0 6) (nI b)) w 137 (nI (V 0 6 + 1))) σ n w (.ok (vPair V a b, p)) := by
  obtain ⟨hB, hp, hG, hF, hV, hN, hL, hv⟩ := id h
  have h104 := hV.1.2.1
  obtain ⟨c1, c2, c3, c4, c5, c6, c7, c8⟩ := hV.2.2
  have oA : ∀ i k, i ≤ 21 → i ≠ 12 → i ≠ 13 → jm_A (js_I (js_A (js_A M (w + 12) (V 0 6) (nI a)) (w + 13) (V 0 6) (nI b)) w 137 (nI (V 0 6 + 1))) (w + i) k = jm_A M (w + i) k := fun i k h1 h2 h3 => by rw [jA_I, jA_oth2 (by omega), jA_oth2 (by omega)]
  refine h.up (((hB.A (by omega) (by omega)).A (by omega) (by omega)).I (fun q hq e => ?_)) (fun j => by rw [jI_I, if_neg (by omega)]; rfl) rfl ⟨hV.1, ?_, ?_⟩ ⟨?_, fun k hk => ?_⟩ ?_ ?_
  · simp only [wCn, List.mem_cons, List.not_mem_nil, or_false] at hq
    rcases hq with rfl | rfl | rfl | rfl | rfl | rfl | rfl | rfl | rfl <;> first | (exact absurd e (by decide)) | exact ⟨_, by omega, rfl⟩
  · obtain ⟨i0, i1, i2, i3, i4, i5, i6, i7, i8, i9, i10, i11, i12⟩ := hV.2.1
    exact ⟨i0, i1, i2, i3, i4, i5, jI_same, i7, i8, i9, i10, i11, i12⟩
  · refine ⟨?_, ?_, ?_, ?_, ?_, ?_, ?_, ?_⟩
    · intro k hk
      exact ⟨(oA 1 k (by decide) (by decide) (by decide)).trans (c1 k hk).1, (oA 2 k (by decide) (by decide) (by decide)).trans (c1 k hk).2⟩
    · intro k hk
      exact ⟨(oA 3 k (by decide) (by decide) (by decide)).trans (c2 k hk).1, (oA 4 k (by decide) (by decide) (by decide)).trans (c2 k hk).2⟩
    · intro k hk
      exact ⟨(oA 5 k (by decide) (by decide) (by decide)).trans (c3 k hk).1, (oA 6 k (by decide) (by decide) (by decide)).trans (c3 k hk).2⟩
    · intro k hk
      exact (oA 7 k (by decide) (by decide) (by decide)).trans (c4 k hk)
    · intro k hk
      exact ⟨(oA 8 k (by decide) (by decide) (by decide)).trans (c5 k hk).1, (oA 9 k (by decide) (by decide) (by decide)).trans (c5 k hk).2.1, (oA 10 k (by decide) (by decide) (by decide)).trans (c5 k hk).2.2.1, (oA 11 k (by decide) (by decide) (by decide)).trans (c5 k hk).2.2.2.1, (oA 14 k (by decide) (by decide) (by decide)).trans (c5 k hk).2.2.2.2⟩
    · intro k hk
      refine ⟨?_, ?_⟩
      · rw [jA_I, jA_oth2 (by omega)]
        exact row_1 (f := V 7) (g := vPair V a b 7) (fun k hk => (c6 k hk).1) (by unfold vPair; simp [vS]) (fun k hk => by unfold vPair; simp [vS, Nat.ne_of_lt hk]) k hk
      · rw [jA_I]
        exact row_1 (f := V 8) (g := vPair V a b 8) (fun k hk => (jA_oth2 (by omega)).trans (c6 k hk).2) (by unfold vPair; simp [vS]) (fun k hk => by unfold vPair; simp [vS, Nat.ne_of_lt hk]) k hk
    · intro k hk
      exact ⟨(oA 15 k (by decide) (by decide) (by decide)).trans (c7 k hk).1, (oA 16 k (by decide) (by decide) (by decide)).trans (c7 k hk).2.1, (oA 17 k (by decide) (by decide) (by decide)).trans (c7 k hk).2.2.1, (oA 18 k (by decide) (by decide) (by decide)).trans (c7 k hk).2.2.2.1, (oA 19 k (by decide) (by decide) (by decide)).trans (c7 k hk).2.2.2.2⟩
    · intro k hk
      exact ⟨(oA 20 k (by decide) (by decide) (by decide)).trans (c8 k hk).1, (oA 21 k (by decide) (by decide) (by decide)).trans (c8 k hk).2⟩
  · rw [jI_I, if_neg (by omega)]; exact hN.1
  · have hA := (((hN.A (k := V 0 6) (x := nI a) (a := w + 12) (by omega)).A (k := V 0 6) (x := nI b) (a := w + 13) (by omega)).2 k hk)
    exact hA
  · rw [jI_I, if_neg (by omega)]; exact hL
  · exact hv
section JKPair
variable {G : Gh} {M : Mm} {σ : Sg} {n w : Nat}
theorem lp_PairE {M9 : Mm} {V : Vt} {p : Nat} {f : Fl} {x : Int32} (h : mRd M σ n w (.error f)) (hk : mKq M9 M w) (he : lPair (chI σ n) n V p = .error f) : jW G mi_X5_readPair 12 M9 38 (jent [jr (some 90)] mi_X5_readPair.2.2.1) [.int x] M (jPv (fun M' => mRd M' σ n w (lPair (chI σ n) n V p) ∧ mKq M9 M' w)) := by
  have hS := h.S
  refine jw_istore_n (pc := 38) dX5_readPair_38 (Nat.le_of_ble_eq_true rfl) rfl ?_
  try dsimp only [jput1, jput2, jkill, jclr, jis2_i, jis2_l, jis2_rs, jis2_rn, cond]
  refine jw_aload_n (pc := 39) dX5_readPair_39 rfl ?_
  refine jx_getIs (pc := 40) (jf_X5_85_4.r) rfl dX5_readPair_40 rfl (is_90 hS) (by decide) (h.2.1) ?_
  refine jw_iconst (pc := 43) dX5_readPair_43 ic_5 ?_
  first | refine jx_icmp_ne (pc := 44) (tgt := 48) dX5_readPair_44 (by decide) (by omega) (by omega) ?_ ?_ | refine jw_icmp_ne (pc := 44) (tgt := 48) dX5_readPair_44 (by decide) ?_ ?_
  · intro h_44
    exact absurd rfl h_44
  · intro h_44
    refine jw_return (pc := 47) dX5_readPair_47 rfl ?_
    exact ⟨rfl, by rw [he]; exact h, hk⟩
theorem lp_PairO {M9 : Mm} {V : Vt} {p p2 a b : Nat} (h : mRd M σ n w (.ok (V, p2))) (hk : mKq M9 M w) (hf : jm_I M 90 65 = nI a) (hlt : V 0 6 < 3) (he : lPair (chI σ n) n V p = .ok (vPair V a b, p2)) : jW G mi_X5_readPair 12 M9 38 (jent [jr (some 90)] mi_X5_readPair.2.2.1) [.int (nI b)] M (jPv (fun M' => mRd M' σ n w (lPair (chI σ n) n V p) ∧ mKq M9 M' w)) := by
  have hS := h.S
  have hR := h.1.2.2.2.2.2.1
  have hV := h.2.2.2.2.1
  have hw := hV.1
  have h104 := hw.2.1
  have hs5 := @srt_lt (tkK (chI σ n) n p2)
  have hct := mi_nr hV
  refine jw_istore_n (pc := 38) dX5_readPair_38 (Nat.le_of_ble_eq_true rfl) rfl ?_
  try dsimp only [jput1, jput2, jkill, jclr, jis2_i, jis2_l, jis2_rs, jis2_rn, cond]
  refine jw_aload_n (pc := 39) dX5_readPair_39 rfl ?_
  refine jx_getIs (pc := 40) (jf_X5_85_4.r) rfl dX5_readPair_40 rfl (is_90 hS) (by decide) (h.2.2.1.2.1) ?_
  refine jw_iconst (pc := 43) dX5_readPair_43 ic_5 ?_
  first | refine jx_icmp_ne (pc := 44) (tgt := 48) dX5_readPair_44 (by decide) (by omega) (by omega) ?_ ?_ | refine jw_icmp_ne (pc := 44) (tgt := 48) dX5_readPair_44 (by decide) ?_ ?_
  · intro h_44
    refine jw_aload_n (pc := 48) dX5_readPair_48 rfl ?_
    refine jx_getRs (pc := 49) (jf_X5_173_4.r) rfl dX5_readPair_49 rfl (is_90 hS) (by decide) (hR) ?_
    refine jx_getRs (pc := 52) jg_X5_338_12 rfl dX5_readPair_52 rfl (wis hw) (by decide) (wr_12 hw) ?_
    refine jw_aload_n (pc := 55) dX5_readPair_55 rfl ?_
    refine jx_getRs (pc := 56) (jf_X5_173_4.r) rfl dX5_readPair_56 rfl (is_90 hS) (by decide) (hR) ?_
    refine jx_getIs (pc := 59) (jf_X5_335_12.r) rfl dX5_readPair_59 rfl (wis hw) (by decide) (hct) ?_
    refine jw_aload_n (pc := 62) dX5_readPair_62 rfl ?_
    refine jx_getIs (pc := 63) (jf_X5_202_4.r) rfl dX5_readPair_63 rfl (is_90 hS) (by decide) (hf) ?_
    refine jx_iast (pc := 66) dX5_readPair_66 (by omega) (wok_12 hw) (wnn_12 hw) rfl (by omega) ?_
    refine jw_aload_n (pc := 67) dX5_readPair_67 rfl ?_
    refine jx_getRs (pc := 68) (jf_X5_173_4.r) rfl dX5_readPair_68 rfl (is_90 hS) (by decide) (hR) ?_
    refine jx_getRs (pc := 71) jg_X5_341_12 rfl dX5_readPair_71 rfl (wis hw) (by decide) (wr_13 hw) ?_
    refine jw_aload_n (pc := 74) dX5_readPair_74 rfl ?_
    refine jx_getRs (pc := 75) (jf_X5_173_4.r) rfl dX5_readPair_75 rfl (is_90 hS) (by decide) (hR) ?_
    refine jx_getIs (pc := 78) (jf_X5_335_12.r) rfl dX5_readPair_78 rfl (wis hw) (by decide) (hct) ?_
    refine jw_iload_n (pc := 81) dX5_readPair_81 rfl ?_
    refine jx_iast (pc := 82) dX5_readPair_82 (by omega) (wok_13 hw) (wnn_13 hw) rfl (by omega) ?_
    refine jw_aload_n (pc := 83) dX5_readPair_83 rfl ?_
    refine jx_getRs (pc := 84) (jf_X5_173_4.r) rfl dX5_readPair_84 rfl (is_90 hS) (by decide) (hR) ?_
    refine jw_dup (pc := 87) dX5_readPair_87 (jis2_r _) ?_
    refine jx_getIs (pc := 88) (jf_X5_335_12.r) rfl dX5_readPair_88 rfl (wis hw) (by decide) (hct) ?_
    refine jw_iconst (pc := 91) dX5_readPair_91 ic_1 ?_
    first | refine jx_iadd (pc := 92) dX5_readPair_92 ?_ | refine jw_iadd (pc := 92) dX5_readPair_92 ?_
    refine jx_putI (pc := 93) jf_X5_335_12 rfl dX5_readPair_93 rfl rfl (wis hw) (by decide) ?_
    refine jw_return (pc := 96) dX5_readPair_96 rfl ?_
    refine ⟨rfl, ?_, hk.tr ?_⟩
    · rw [he]; exact mPair h hlt
    · exact (((mKp.A (by omega) (by omega)).tr (mKp.A (by omega) (by omega))).tr (mKp.W h104)).q
  · intro h_44
    omega
end JKPair
section JLPair
variable {G : Gh} {M : Mm} {σ : Sg} {n w : Nat}
theorem t_X5_readPair {V : Vt} {p : Nat} (hG : jGs G) (h : mRd M σ n w (.ok (V, p))) (hk : tkK (chI σ n) n p = 2) (hW : jWf V) (hb15 : ∀ k, k < V 0 6 → V 7 k ≤ 15 ∧ V 8 k ≤ 15) : jT G mi_X5_readPair 12 [jr (some 90)] M (jPv (fun M' => mRd M' σ n w (lPair (chI σ n) n V p) ∧ mKq M M' w)) := by
  have hS := h.S
  have hR := h.1.2.2.2.2.2.1
  have hV := h.2.2.2.2.1
  have hN9 : V 0 6 ≤ 3 := by have := hW; unfold jWf at this; omega
  obtain ⟨lE, lO⟩ := ln_two (c := chI σ n) (n := n) (sort := 1) (i := 7) (j := 8) (p := p) (mm := fun V => V 0 6) (V := V) (b := decide (V 0 6 < 3)) (fun a b => vPair V a b)
  refine jT.of (by decide) rfl (Nat.le_of_ble_eq_true rfl) ?_
  refine jw_aload_n (pc := 0) dX5_readPair_0 rfl ?_
  refine jw_aload_n (pc := 1) dX5_readPair_1 rfl ?_
  refine jx_getRs (pc := 2) (jf_X5_173_4.r) rfl dX5_readPair_2 rfl (is_90 hS) (by decide) (hR) ?_
  refine jx_getIs (pc := 5) (jf_X5_335_12.r) rfl dX5_readPair_5 rfl (wis hV.1) (by decide) (mi_nr hV) ?_
  refine jw_iconst (pc := 8) dX5_readPair_8 ic_3 ?_
  refine jx_cVv (mi1 := mi_X5_begins) (pc := 9) rfl dX5_readPair_9 lk_X5_275 rfl fi_X5_begins rfl rfl rfl (by decide) (is_90 hS) (t_X5_begins h (by rw [hk]; decide) (by omega) (by omega) hN9) (by first | decide | omega) rfl rfl (by decide) ?_
  intro M_9 q_9
  have hS := q_9.1.S
  have hR := q_9.1.1.2.2.2.2.2.1
  have hw := q_9.1.1.2.2.2.2.2.2.1
  obtain ⟨m, hm1, hm2⟩ := q_9.1.1.2.2.2.2.2.2.2 (137, 3) (by decide)
  refine jw_aload_n (pc := 12) dX5_readPair_12 rfl ?_
  refine jw_iconst (pc := 13) dX5_readPair_13 ic_1 ?_
  refine jw_aload_n (pc := 14) dX5_readPair_14 rfl ?_
  refine jx_getRs (pc := 15) (jf_X5_173_4.r) rfl dX5_readPair_15 rfl (is_90 hS) (by decide) (hR) ?_
  refine jx_getRs (pc := 18) jg_X5_338_12 rfl dX5_readPair_18 rfl (wis hw) (by decide) (wr_12 hw) ?_
  refine jw_aload_n (pc := 21) dX5_readPair_21 rfl ?_
  refine jx_getRs (pc := 22) (jf_X5_173_4.r) rfl dX5_readPair_22 rfl (is_90 hS) (by decide) (hR) ?_
  refine jx_getRs (pc := 25) jg_X5_341_12 rfl dX5_readPair_25 rfl (wis hw) (by decide) (wr_13 hw) ?_
  refine jw_aload_n (pc := 28) dX5_readPair_28 rfl ?_
  refine jx_getRs (pc := 29) (jf_X5_173_4.r) rfl dX5_readPair_29 rfl (is_90 hS) (by decide) (hR) ?_
  refine jx_getIs (pc := 32) (jf_X5_335_12.r) rfl dX5_readPair_32 rfl (wis hw) (by decide) (hm2) ?_
  refine jx_cVi (mi1 := mi_X5_readTwo) (pc := 35) rfl dX5_readPair_35 lk_X5_298 rfl fi_X5_readTwo rfl rfl rfl (by decide) (is_90 hS) (t_X5_readTwo (i := 7) (j := 8) (L := 3) (mm := fun V => V 0 6) (a := w + 12) (b := w + 13) hG q_9.1 (by decide) (wok_12 hw) (wok_13 hw) ⟨by omega, by omega⟩ ⟨by omega, by omega⟩ (fun M' z => ⟨wok_12 z, wnn_12 z⟩) (fun M' z => ⟨wok_13 z, wnn_13 z⟩) hm1 (by decide) (fun r e => by
    obtain ⟨V', p'⟩ := r
    have hq := q_9.1
    rw [e] at hq
    have eV : V' = V := by
      have e : ((pBegin (chI σ n) n (decide (V 0 6 < 3)) 5 p).bind (fun q => .ok (V, q)) : Except Fl (Vt × Nat)) = .ok (V', p') := e
      cases hb : pBegin (chI σ n) n (decide (V 0 6 < 3)) 5 p with
      | error g => rw [hb] at e; cases e
      | ok g => rw [hb] at e; cases e; rfl
    subst eV
    have e2 := mi_nr hq.2.2.2.2.1
    show m = V' 0 6
    exact (nI_eq (by omega) (by omega)).mp (hm2.symm.trans e2)) (fun M' V' z k hk => z.2.2.2.2.2.2.2.1 k hk) (fun r e k hk => by
    obtain ⟨V', p'⟩ := r
    have eV : V' = V := by
      have e : ((pBegin (chI σ n) n (decide (V 0 6 < 3)) 5 p).bind (fun q => .ok (V, q)) : Except Fl (Vt × Nat)) = .ok (V', p') := e
      cases hb : pBegin (chI σ n) n (decide (V 0 6 < 3)) 5 p with
      | error g => rw [hb] at e; cases e
      | ok g => rw [hb] at e; cases e; rfl
    subst eV
    exact hb15 k hk)) (by first | decide | omega) rfl rfl (by decide) ?_
  intro x_35 M_35 q_35
  obtain ⟨hq, hkq, hval⟩ := q_35
  cases hs : sTw (chI σ n) n 1 7 8 (fun V => V 0 6) (sB (.ok (V, p)) (fun _ p => pBegin (chI σ n) n (decide (V 0 6 < 3)) 5 p)) with
  | error f =>
    rw [hs] at hq
    have he := lE f hs
    exact lp_PairE hq (q_9.2.q.tr hkq) (by unfold lPair; exact he)
  | ok r =>
    rw [hs] at hq
    obtain ⟨p1, t, z1, z2, z3, z4⟩ := lO r hs
    subst z3
    obtain ⟨y1, y2⟩ := hval _ _ z1 z2
    have hlt : V 0 6 < 3 := by
      refine Classical.byContradiction (fun q => ?_)
      have z1 : ((pBegin (chI σ n) n (decide (V 0 6 < 3)) 5 p).bind (fun q => .ok (V, q)) : Except Fl (Vt × Nat)) = .ok (V, p1) := z1
      unfold pBegin at z1
      rw [decide_eq_false q] at z1
      cases z1
    subst y1
    exact lp_PairO hq (q_9.2.q.tr hkq) y2 hlt (by unfold lPair; exact z4)
end JLPair
