/-! ===== x reads: a line ===== -/
section JLN
variable {G : Gh} {M : Mm} {σ : Sg} {n v p zb sb' : Nat} {V : Vt}
theorem kwc_ne : ∀ i, i < 13 → ∀ j, j < 13 → kwc i = kwc j → i = j := by decide +kernel
theorem lLine_no (h : ∀ j, j < 12 → (j < 6 ∨ 9 ≤ j) → ¬ (tkK (chI σ n) n p = 2 ∧ tkV (chI σ n) n p = kwc (j + 1))) : lLine (chI σ n) n V p = .error (1, tkA (chI σ n) n p) := by
  unfold lLine
  rw [if_neg (h 0 (by decide) (by decide)), if_neg (h 1 (by decide) (by decide)), if_neg (h 2 (by decide) (by decide)), if_neg (h 3 (by decide) (by decide)), if_neg (h 4 (by decide) (by decide)), if_neg (h 5 (by decide) (by decide)), if_neg (h 9 (by decide) (by decide)), if_neg (h 10 (by decide) (by decide)), if_neg (h 11 (by decide) (by decide))]
theorem lLine_1 (hk : tkK (chI σ n) n p = 2) (e : tkV (chI σ n) n p = kwc 1) : lLine (chI σ n) n V p = lLaw (chI σ n) n V p := by
  unfold lLine
  rw [if_pos ⟨hk, e⟩]
theorem lLine_2 (hk : tkK (chI σ n) n p = 2) (e : tkV (chI σ n) n p = kwc 2) : lLine (chI σ n) n V p = lPlace (chI σ n) n V p := by
  unfold lLine
  rw [if_neg (fun q => absurd (kwc_ne _ (by decide) _ (by decide) (q.2.symm.trans e)) (by decide)), if_pos ⟨hk, e⟩]
theorem lLine_3 (hk : tkK (chI σ n) n p = 2) (e : tkV (chI σ n) n p = kwc 3) : lLine (chI σ n) n V p = lWall (chI σ n) n V p := by
  unfold lLine
  rw [if_neg (fun q => absurd (kwc_ne _ (by decide) _ (by decide) (q.2.symm.trans e)) (by decide)), if_neg (fun q => absurd (kwc_ne _ (by decide) _ (by decide) (q.2.symm.trans e)) (by decide)), if_pos ⟨hk, e⟩]
theorem lLine_4 (hk : tkK (chI σ n) n p = 2) (e : tkV (chI σ n) n p = kwc 4) : lLine (chI σ n) n V p = lWay (chI σ n) n V p := by
  unfold lLine
  rw [if_neg (fun q => absurd (kwc_ne _ (by decide) _ (by decide) (q.2.symm.trans e)) (by decide)), if_neg (fun q => absurd (kwc_ne _ (by decide) _ (by decide) (q.2.symm.trans e)) (by decide)), if_neg (fun q => absurd (kwc_ne _ (by decide) _ (by decide) (q.2.symm.trans e)) (by decide)), if_pos ⟨hk, e⟩]
theorem lLine_5 (hk : tkK (chI σ n) n p = 2) (e : tkV (chI σ n) n p = kwc 5) : lLine (chI σ n) n V p = lMirror (chI σ n) n V p := by
  unfold lLine
  rw [if_neg (fun q => absurd (kwc_ne _ (by decide) _ (by decide) (q.2.symm.trans e)) (by decide)), if_neg (fun q => absurd (kwc_ne _ (by decide) _ (by decide) (q.2.symm.trans e)) (by decide)), if_neg (fun q => absurd (kwc_ne _ (by decide) _ (by decide) (q.2.symm.trans e)) (by decide)), if_neg (fun q => absurd (kwc_ne _ (by decide) _ (by decide) (q.2.symm.trans e)) (by decide)), if_pos ⟨hk, e⟩]
theorem lLine_6 (hk : tkK (chI σ n) n p = 2) (e : tkV (chI σ n) n p = kwc 6) : lLine (chI σ n) n V p = lPerson (chI σ n) n V p := by
  unfold lLine
  rw [if_neg (fun q => absurd (kwc_ne _ (by decide) _ (by decide) (q.2.symm.trans e)) (by decide)), if_neg (fun q => absurd (kwc_ne _ (by decide) _ (by decide) (q.2.symm.trans e)) (by decide)), if_neg (fun q => absurd (kwc_ne _ (by decide) _ (by decide) (q.2.symm.trans e)) (by decide)), if_neg (fun q => absurd (kwc_ne _ (by decide) _ (by decide) (q.2.symm.trans e)) (by decide)), if_neg (fun q => absurd (kwc_ne _ (by decide) _ (by decide) (q.2.symm.trans e)) (by decide)), if_pos ⟨hk, e⟩]
theorem lLine_10 (hk : tkK (chI σ n) n p = 2) (e : tkV (chI σ n) n p = kwc 10) : lLine (chI σ n) n V p = lPair (chI σ n) n V p := by
  unfold lLine
  rw [if_neg (fun q => absurd (kwc_ne _ (by decide) _ (by decide) (q.2.symm.trans e)) (by decide)), if_neg (fun q => absurd (kwc_ne _ (by decide) _ (by decide) (q.2.symm.trans e)) (by decide)), if_neg (fun q => absurd (kwc_ne _ (by decide) _ (by decide) (q.2.symm.trans e)) (by decide)), if_neg (fun q => absurd (kwc_ne _ (by decide) _ (by decide) (q.2.symm.trans e)) (by decide)), if_neg (fun q => absurd (kwc_ne _ (by decide) _ (by decide) (q.2.symm.trans e)) (by decide)), if_neg (fun q => absurd (kwc_ne _ (by decide) _ (by decide) (q.2.symm.trans e)) (by decide)), if_pos ⟨hk, e⟩]
theorem lLine_11 (hk : tkK (chI σ n) n p = 2) (e : tkV (chI σ n) n p = kwc 11) : lLine (chI σ n) n V p = lErrand (chI σ n) n V p := by
  unfold lLine
  rw [if_neg (fun q => absurd (kwc_ne _ (by decide) _ (by decide) (q.2.symm.trans e)) (by decide)), if_neg (fun q => absurd (kwc_ne _ (by decide) _ (by decide) (q.2.symm.trans e)) (by decide)), if_neg (fun q => absurd (kwc_ne _ (by decide) _ (by decide) (q.2.symm.trans e)) (by decide)), if_neg (fun q => absurd (kwc_ne _ (by decide) _ (by decide) (q.2.symm.trans e)) (by decide)), if_neg (fun q => absurd (kwc_ne _ (by decide) _ (by decide) (q.2.symm.trans e)) (by decide)), if_neg (fun q => absurd (kwc_ne _ (by decide) _ (by decide) (q.2.symm.trans e)) (by decide)), if_neg (fun q => absurd (kwc_ne _ (by decide) _ (by decide) (q.2.symm.trans e)) (by decide)), if_pos ⟨hk, e⟩]
theorem lLine_12 (hk : tkK (chI σ n) n p = 2) (e : tkV (chI σ n) n p = kwc 12) : lLine (chI σ n) n V p = lFog (chI σ n) n V p := by
  unfold lLine
  rw [if_neg (fun q => absurd (kwc_ne _ (by decide) _ (by decide) (q.2.symm.trans e)) (by decide)), if_neg (fun q => absurd (kwc_ne _ (by decide) _ (by decide) (q.2.symm.trans e)) (by decide)), if_neg (fun q => absurd (kwc_ne _ (by decide) _ (by decide) (q.2.symm.trans e)) (by decide)), if_neg (fun q => absurd (kwc_ne _ (by decide) _ (by decide) (q.2.symm.trans e)) (by decide)), if_neg (fun q => absurd (kwc_ne _ (by decide) _ (by decide) (q.2.symm.trans e)) (by decide)), if_neg (fun q => absurd (kwc_ne _ (by decide) _ (by decide) (q.2.symm.trans e)) (by decide)), if_neg (fun q => absurd (kwc_ne _ (by decide) _ (by decide) (q.2.symm.trans e)) (by decide)), if_neg (fun q => absurd (kwc_ne _ (by decide) _ (by decide) (q.2.symm.trans e)) (by decide)), if_pos ⟨hk, e⟩]
theorem t_X2_line (hG : jGs G) (h : xRd M σ n v V p zb sb') : jT G mi_X2_line 11 [jr (some 66)] M (xL M σ n v zb sb' (lLine (chI σ n) n V p)) := by
  have hS := h.S
  have hk9 := tkK_lt (chI σ n) n p
  have ht := h.tok
  refine jT.of (by decide) rfl (Nat.le_of_ble_eq_true rfl) ?_
  by_cases hk : tkK (chI σ n) n p = 2
  · obtain ⟨o, w1, w2, w3⟩ := h.1.2.2.2.2.1.2.2.2.2.2 hk
    have h104 := h.2.1.1.2.1
    have ho : jis M o 13 := ⟨w3.it.1, w3.it.2, by omega⟩
    -- behind the switch
    have LF : ∀ (M1 : Mm), (∀ j, j < 12 → (j < 6 ∨ 9 ≤ j) → ¬ tkV (chI σ n) n p = kwc (j + 1)) → xRd M1 σ n v V p zb sb' → xS v M M1 → jW G mi_X2_line 11 M 234 [some (jr (some 66)), some (jr (some o)), some (.int (-1))] [] M1 (xL M σ n v zb sb' (lLine (chI σ n) n V p)) := by
      intro M1 hr h1 hs
      have hS := h1.S
      have e2 := lLine_no (V := V) (fun j hj hj2 q => hr j hj hj2 q.2)
      refine jw_iload_n (pc := 234) dX2_line_234 rfl ?_
      refine jw_tableOut (pc := 235) dX2_line_235 (Or.inl (by decide)) (tgt := 347) (by decide) ?_
      refine jw_aload_n (pc := 347) dX2_line_347 rfl ?_
      refine jw_iconst (pc := 348) dX2_line_348 ic_1 ?_
      refine jx_cVE (mi1 := mi_X2_fail) (pc := 349) rfl dX2_line_349 lk_X2_85 rfl fi_X2_fail rfl rfl rfl (by decide) (is_66 hS) (t_X2_fail h1) (by first | decide | omega) rfl rfl (by decide) ?_
      refine jw_athrow (pc := 352) dX2_line_352 rfl ?_
      refine jx_out67 rfl hS ?_
      exact Or.inr ⟨rfl, _, e2, h1.fl.j hs.1⟩
    have L1 : ∀ (M1 : Mm), tkV (chI σ n) n p = kwc 1 → xRd M1 σ n v V p zb sb' → xS v M M1 → jW G mi_X2_line 11 M 234 [some (jr (some 66)), some (jr (some o)), some (.int (nI 0))] [] M1 (xL M σ n v zb sb' (lLine (chI σ n) n V p)) := by
      intro M1 hr h1 hs
      have hS := h1.S
      have e2 := lLine_1 (V := V) hk hr
      refine jw_iload_n (pc := 234) dX2_line_234 rfl ?_
      refine jw_tableIn (pc := 235) dX2_line_235 (off := 49) (by decide +kernel) (by decide +kernel) (by decide +kernel) (tgt := 284) (by decide) ?_
      refine jw_aload_n (pc := 284) dX2_line_284 rfl ?_
      refine jx_cVt (mi1 := mi_X2_law) (pc := 285) rfl dX2_line_285 lk_X2_162 rfl fi_X2_law rfl rfl rfl (by decide) (is_66 hS) (t_X2_law hG h1) (by first | decide | omega) rfl rfl (by decide) ?_ ?_
      rotate_left
      · intro M_285 q_285
        obtain ⟨f, e4, e5⟩ := q_285
        refine jx_out67 rfl e5.2.2.2.1 ?_
        exact Or.inr ⟨rfl, f, by rw [e2]; exact e4, e5.tr hs.1⟩
      intro v_285 M_285 q_285
      obtain ⟨e0, a, e4, e5, e6⟩ := q_285
      cases e0
      have hS := e5.S
      dsimp only [Option.toList, List.nil_append, List.cons_append]
      refine jw_goto (pc := 288) (tgt := 353) dX2_line_288 (by decide) ?_
      refine jw_return (pc := 353) dX2_line_353 rfl ?_
      exact Or.inl ⟨_, rfl, rfl, a, by rw [e2]; exact e4, e5, hs.1.tr e6⟩
    have L2 : ∀ (M1 : Mm), tkV (chI σ n) n p = kwc 2 → xRd M1 σ n v V p zb sb' → xS v M M1 → jW G mi_X2_line 11 M 234 [some (jr (some 66)), some (jr (some o)), some (.int (nI 1))] [] M1 (xL M σ n v zb sb' (lLine (chI σ n) n V p)) := by
      intro M1 hr h1 hs
      have hS := h1.S
      have e2 := lLine_2 (V := V) hk hr
      refine jw_iload_n (pc := 234) dX2_line_234 rfl ?_
      refine jw_tableIn (pc := 235) dX2_line_235 (off := 56) (by decide +kernel) (by decide +kernel) (by decide +kernel) (tgt := 291) (by decide) ?_
      refine jw_aload_n (pc := 291) dX2_line_291 rfl ?_
      refine jx_cVt (mi1 := mi_X2_placeLine) (pc := 292) rfl dX2_line_292 lk_X2_164 rfl fi_X2_placeLine rfl rfl rfl (by decide) (is_66 hS) (t_X2_placeLine hG h1) (by first | decide | omega) rfl rfl (by decide) ?_ ?_
      rotate_left
      · intro M_292 q_292
        obtain ⟨f, e4, e5⟩ := q_292
        refine jx_out67 rfl e5.2.2.2.1 ?_
        exact Or.inr ⟨rfl, f, by rw [e2]; exact e4, e5.tr hs.1⟩
      intro v_292 M_292 q_292
      obtain ⟨e0, a, e4, e5, e6⟩ := q_292
      cases e0
      have hS := e5.S
      dsimp only [Option.toList, List.nil_append, List.cons_append]
      refine jw_goto (pc := 295) (tgt := 353) dX2_line_295 (by decide) ?_
      refine jw_return (pc := 353) dX2_line_353 rfl ?_
      exact Or.inl ⟨_, rfl, rfl, a, by rw [e2]; exact e4, e5, hs.1.tr e6⟩
    have L3 : ∀ (M1 : Mm), tkV (chI σ n) n p = kwc 3 → xRd M1 σ n v V p zb sb' → xS v M M1 → jW G mi_X2_line 11 M 234 [some (jr (some 66)), some (jr (some o)), some (.int (nI 2))] [] M1 (xL M σ n v zb sb' (lLine (chI σ n) n V p)) := by
      intro M1 hr h1 hs
      have hS := h1.S
      have e2 := lLine_3 (V := V) hk hr
      refine jw_iload_n (pc := 234) dX2_line_234 rfl ?_
      refine jw_tableIn (pc := 235) dX2_line_235 (off := 63) (by decide +kernel) (by decide +kernel) (by decide +kernel) (tgt := 298) (by decide) ?_
      refine jw_aload_n (pc := 298) dX2_line_298 rfl ?_
      refine jx_cVt (mi1 := mi_X2_wall) (pc := 299) rfl dX2_line_299 lk_X2_167 rfl fi_X2_wall rfl rfl rfl (by decide) (is_66 hS) (t_X2_wall hG h1) (by first | decide | omega) rfl rfl (by decide) ?_ ?_
      rotate_left
      · intro M_299 q_299
        obtain ⟨f, e4, e5⟩ := q_299
        refine jx_out67 rfl e5.2.2.2.1 ?_
        exact Or.inr ⟨rfl, f, by rw [e2]; exact e4, e5.tr hs.1⟩
      intro v_299 M_299 q_299
      obtain ⟨e0, a, e4, e5, e6⟩ := q_299
      cases e0
      have hS := e5.S
      dsimp only [Option.toList, List.nil_append, List.cons_append]
      refine jw_goto (pc := 302) (tgt := 353) dX2_line_302 (by decide) ?_
      refine jw_return (pc := 353) dX2_line_353 rfl ?_
      exact Or.inl ⟨_, rfl, rfl, a, by rw [e2]; exact e4, e5, hs.1.tr e6⟩
    have L4 : ∀ (M1 : Mm), tkV (chI σ n) n p = kwc 4 → xRd M1 σ n v V p zb sb' → xS v M M1 → jW G mi_X2_line 11 M 234 [some (jr (some 66)), some (jr (some o)), some (.int (nI 3))] [] M1 (xL M σ n v zb sb' (lLine (chI σ n) n V p)) := by
      intro M1 hr h1 hs
      have hS := h1.S
      have e2 := lLine_4 (V := V) hk hr
      refine jw_iload_n (pc := 234) dX2_line_234 rfl ?_
      refine jw_tableIn (pc := 235) dX2_line_235 (off := 70) (by decide +kernel) (by decide +kernel) (by decide +kernel) (tgt := 305) (by decide) ?_
      refine jw_aload_n (pc := 305) dX2_line_305 rfl ?_
      refine jx_cVt (mi1 := mi_X2_way) (pc := 306) rfl dX2_line_306 lk_X2_169 rfl fi_X2_way rfl rfl rfl (by decide) (is_66 hS) (t_X2_way hG h1) (by first | decide | omega) rfl rfl (by decide) ?_ ?_
      rotate_left
      · intro M_306 q_306
        obtain ⟨f, e4, e5⟩ := q_306
        refine jx_out67 rfl e5.2.2.2.1 ?_
        exact Or.inr ⟨rfl, f, by rw [e2]; exact e4, e5.tr hs.1⟩
      intro v_306 M_306 q_306
      obtain ⟨e0, a, e4, e5, e6⟩ := q_306
      cases e0
      have hS := e5.S
      dsimp only [Option.toList, List.nil_append, List.cons_append]
      refine jw_goto (pc := 309) (tgt := 353) dX2_line_309 (by decide) ?_
      refine jw_return (pc := 353) dX2_line_353 rfl ?_
      exact Or.inl ⟨_, rfl, rfl, a, by rw [e2]; exact e4, e5, hs.1.tr e6⟩
    have L5 : ∀ (M1 : Mm), tkV (chI σ n) n p = kwc 5 → xRd M1 σ n v V p zb sb' → xS v M M1 → jW G mi_X2_line 11 M 234 [some (jr (some 66)), some (jr (some o)), some (.int (nI 4))] [] M1 (xL M σ n v zb sb' (lLine (chI σ n) n V p)) := by
      intro M1 hr h1 hs
      have hS := h1.S
      have e2 := lLine_5 (V := V) hk hr
      refine jw_iload_n (pc := 234) dX2_line_234 rfl ?_
      refine jw_tableIn (pc := 235) dX2_line_235 (off := 77) (by decide +kernel) (by decide +kernel) (by decide +kernel) (tgt := 312) (by decide) ?_
      refine jw_aload_n (pc := 312) dX2_line_312 rfl ?_
      refine jx_cVt (mi1 := mi_X2_mirror) (pc := 313) rfl dX2_line_313 lk_X2_171 rfl fi_X2_mirror rfl rfl rfl (by decide) (is_66 hS) (t_X2_mirror hG h1) (by first | decide | omega) rfl rfl (by decide) ?_ ?_
      rotate_left
      · intro M_313 q_313
        obtain ⟨f, e4, e5⟩ := q_313
        refine jx_out67 rfl e5.2.2.2.1 ?_
        exact Or.inr ⟨rfl, f, by rw [e2]; exact e4, e5.tr hs.1⟩
      intro v_313 M_313 q_313
      obtain ⟨e0, a, e4, e5, e6⟩ := q_313
      cases e0
      have hS := e5.S
      dsimp only [Option.toList, List.nil_append, List.cons_append]
      refine jw_goto (pc := 316) (tgt := 353) dX2_line_316 (by decide) ?_
      refine jw_return (pc := 353) dX2_line_353 rfl ?_
      exact Or.inl ⟨_, rfl, rfl, a, by rw [e2]; exact e4, e5, hs.1.tr e6⟩
    have L6 : ∀ (M1 : Mm), tkV (chI σ n) n p = kwc 6 → xRd M1 σ n v V p zb sb' → xS v M M1 → jW G mi_X2_line 11 M 234 [some (jr (some 66)), some (jr (some o)), some (.int (nI 5))] [] M1 (xL M σ n v zb sb' (lLine (chI σ n) n V p)) := by
      intro M1 hr h1 hs
      have hS := h1.S
      have e2 := lLine_6 (V := V) hk hr
      refine jw_iload_n (pc := 234) dX2_line_234 rfl ?_
      refine jw_tableIn (pc := 235) dX2_line_235 (off := 84) (by decide +kernel) (by decide +kernel) (by decide +kernel) (tgt := 319) (by decide) ?_
      refine jw_aload_n (pc := 319) dX2_line_319 rfl ?_
      refine jx_cVt (mi1 := mi_X2_person) (pc := 320) rfl dX2_line_320 lk_X2_173 rfl fi_X2_person rfl rfl rfl (by decide) (is_66 hS) (t_X2_person hG h1) (by first | decide | omega) rfl rfl (by decide) ?_ ?_
      rotate_left
      · intro M_320 q_320
        obtain ⟨f, e4, e5⟩ := q_320
        refine jx_out67 rfl e5.2.2.2.1 ?_
        exact Or.inr ⟨rfl, f, by rw [e2]; exact e4, e5.tr hs.1⟩
      intro v_320 M_320 q_320
      obtain ⟨e0, a, e4, e5, e6⟩ := q_320
      cases e0
      have hS := e5.S
      dsimp only [Option.toList, List.nil_append, List.cons_append]
      refine jw_goto (pc := 323) (tgt := 353) dX2_line_323 (by decide) ?_
      refine jw_return (pc := 353) dX2_line_353 rfl ?_
      exact Or.inl ⟨_, rfl, rfl, a, by rw [e2]; exact e4, e5, hs.1.tr e6⟩
    have L10 : ∀ (M1 : Mm), tkV (chI σ n) n p = kwc 10 → xRd M1 σ n v V p zb sb' → xS v M M1 → jW G mi_X2_line 11 M 234 [some (jr (some 66)), some (jr (some o)), some (.int (nI 6))] [] M1 (xL M σ n v zb sb' (lLine (chI σ n) n V p)) := by
      intro M1 hr h1 hs
      have hS := h1.S
      have e2 := lLine_10 (V := V) hk hr
      refine jw_iload_n (pc := 234) dX2_line_234 rfl ?_
      refine jw_tableIn (pc := 235) dX2_line_235 (off := 91) (by decide +kernel) (by decide +kernel) (by decide +kernel) (tgt := 326) (by decide) ?_
      refine jw_aload_n (pc := 326) dX2_line_326 rfl ?_
      refine jx_cVt (mi1 := mi_X2_pair) (pc := 327) rfl dX2_line_327 lk_X2_175 rfl fi_X2_pair rfl rfl rfl (by decide) (is_66 hS) (t_X2_pair hG h1) (by first | decide | omega) rfl rfl (by decide) ?_ ?_
      rotate_left
      · intro M_327 q_327
        obtain ⟨f, e4, e5⟩ := q_327
        refine jx_out67 rfl e5.2.2.2.1 ?_
        exact Or.inr ⟨rfl, f, by rw [e2]; exact e4, e5.tr hs.1⟩
      intro v_327 M_327 q_327
      obtain ⟨e0, a, e4, e5, e6⟩ := q_327
      cases e0
      have hS := e5.S
      dsimp only [Option.toList, List.nil_append, List.cons_append]
      refine jw_goto (pc := 330) (tgt := 353) dX2_line_330 (by decide) ?_
      refine jw_return (pc := 353) dX2_line_353 rfl ?_
      exact Or.inl ⟨_, rfl, rfl, a, by rw [e2]; exact e4, e5, hs.1.tr e6⟩
    have L11 : ∀ (M1 : Mm), tkV (chI σ n) n p = kwc 11 → xRd M1 σ n v V p zb sb' → xS v M M1 → jW G mi_X2_line 11 M 234 [some (jr (some 66)), some (jr (some o)), some (.int (nI 7))] [] M1 (xL M σ n v zb sb' (lLine (chI σ n) n V p)) := by
      intro M1 hr h1 hs
      have hS := h1.S
      have e2 := lLine_11 (V := V) hk hr
      refine jw_iload_n (pc := 234) dX2_line_234 rfl ?_
      refine jw_tableIn (pc := 235) dX2_line_235 (off := 98) (by decide +kernel) (by decide +kernel) (by decide +kernel) (tgt := 333) (by decide) ?_
      refine jw_aload_n (pc := 333) dX2_line_333 rfl ?_
      refine jx_cVt (mi1 := mi_X2_errand) (pc := 334) rfl dX2_line_334 lk_X2_177 rfl fi_X2_errand rfl rfl rfl (by decide) (is_66 hS) (t_X2_errand hG h1) (by first | decide | omega) rfl rfl (by decide) ?_ ?_
      rotate_left
      · intro M_334 q_334
        obtain ⟨f, e4, e5⟩ := q_334
        refine jx_out67 rfl e5.2.2.2.1 ?_
        exact Or.inr ⟨rfl, f, by rw [e2]; exact e4, e5.tr hs.1⟩
      intro v_334 M_334 q_334
      obtain ⟨e0, a, e4, e5, e6⟩ := q_334
      cases e0
      have hS := e5.S
      dsimp only [Option.toList, List.nil_append, List.cons_append]
      refine jw_goto (pc := 337) (tgt := 353) dX2_line_337 (by decide) ?_
      refine jw_return (pc := 353) dX2_line_353 rfl ?_
      exact Or.inl ⟨_, rfl, rfl, a, by rw [e2]; exact e4, e5, hs.1.tr e6⟩
    have L12 : ∀ (M1 : Mm), tkV (chI σ n) n p = kwc 12 → xRd M1 σ n v V p zb sb' → xS v M M1 → jW G mi_X2_line 11 M 234 [some (jr (some 66)), some (jr (some o)), some (.int (nI 8))] [] M1 (xL M σ n v zb sb' (lLine (chI σ n) n V p)) := by
      intro M1 hr h1 hs
      have hS := h1.S
      have e2 := lLine_12 (V := V) hk hr
      refine jw_iload_n (pc := 234) dX2_line_234 rfl ?_
      refine jw_tableIn (pc := 235) dX2_line_235 (off := 105) (by decide +kernel) (by decide +kernel) (by decide +kernel) (tgt := 340) (by decide) ?_
      refine jw_aload_n (pc := 340) dX2_line_340 rfl ?_
      refine jx_cVt (mi1 := mi_X2_fog) (pc := 341) rfl dX2_line_341 lk_X2_179 rfl fi_X2_fog rfl rfl rfl (by decide) (is_66 hS) (t_X2_fog hG h1) (by first | decide | omega) rfl rfl (by decide) ?_ ?_
      rotate_left
      · intro M_341 q_341
        obtain ⟨f, e4, e5⟩ := q_341
        refine jx_out67 rfl e5.2.2.2.1 ?_
        exact Or.inr ⟨rfl, f, by rw [e2]; exact e4, e5.tr hs.1⟩
      intro v_341 M_341 q_341
      obtain ⟨e0, a, e4, e5, e6⟩ := q_341
      cases e0
      have hS := e5.S
      dsimp only [Option.toList, List.nil_append, List.cons_append]
      refine jw_goto (pc := 344) (tgt := 353) dX2_line_344 (by decide) ?_
      refine jw_return (pc := 353) dX2_line_353 rfl ?_
      exact Or.inl ⟨_, rfl, rfl, a, by rw [e2]; exact e4, e5, hs.1.tr e6⟩
    -- the switch
    have L25 : ∀ (r : Int32) (M1 : Mm) (f : Nat → Nat) (k : Nat), txl f k → txc f k = tkV (chI σ n) n p → r = hsF f k → xRd M1 σ n v V p zb sb' → xS v M M1 → jm_R M1 66 37 = some o → jTx M1 o (tkV (chI σ n) n p) → jW G mi_X2_line 11 M 25 [some (jr (some 66)), some (jr (some o)), some (.int (-1))] [.int r] M1 (xL M σ n v zb sb' (lLine (chI σ n) n V p)) := by
      intro r M1 f k hl hc hr h1 hs hw1 hw3
      have hS := h1.S
      have hT := h1.1.2.2.1
      have ho1 : jis M1 o 13 := ⟨hw3.it.1, hw3.it.2, by omega⟩
      by_cases e11 : r = (-1294648750 : Int32)
      · have hone := kw_one hl hc hr (i := 10) (by decide) (by rw [e11]; rfl)
        refine jw_lookup (pc := 25) dX2_line_25 (by decide +kernel) (off := 182) (by rw [e11]; decide +kernel) (tgt := 207) (by decide) ?_
        refine jw_aload_n (pc := 207) dX2_line_207 rfl ?_
        refine jw_ldcs (pc := 208) (js_X2_113) rfl (by decide) dX2_line_208 ?_
        refine jx_cVE (mi1 := mi_J3_equals) (pc := 210) rfl dX2_line_210 lk_X2_71 rfl fi_J3_equals rfl rfl rfl (by decide) (ho1) (t_J3_equals hG hw3 (hT 11 (by decide) (by decide)) (by omega)) (by first | decide | omega) rfl rfl (by decide) ?_
        first | refine jx_ifb_eq (pc := 213) (tgt := 234) dX2_line_213 (by decide) ?_ ?_ | refine jx_if_eq (pc := 213) (tgt := 234) dX2_line_213 (by decide) (by omega) ?_ ?_ | refine jw_if_eq (pc := 213) (tgt := 234) dX2_line_213 (by decide) ?_ ?_
        · intro h_213
          first
          | exact L11 M1 (of_decide_eq_true h_213) h1 hs
          | exact LF M1 (fun j hj _ q => of_decide_eq_false h_213 (by rw [q, hone j hj q])) h1 hs
        · intro h_213
          refine jw_bipush (pc := 216) dX2_line_216 bp_7 ?_
          refine jw_istore_n (pc := 218) dX2_line_218 (Nat.le_of_ble_eq_true rfl) rfl ?_
          try dsimp only [jput1, jput2, jkill, jclr, jis2_i, jis2_l, jis2_rs, jis2_rn, cond]
          refine jw_goto (pc := 219) (tgt := 234) dX2_line_219 (by decide) ?_
          first
          | exact L11 M1 (of_decide_eq_true h_213) h1 hs
          | exact LF M1 (fun j hj _ q => of_decide_eq_false h_213 (by rw [q, hone j hj q])) h1 hs
      by_cases e5 : r = (-1073910849 : Int32)
      · have hone := kw_one hl hc hr (i := 4) (by decide) (by rw [e5]; rfl)
        refine jw_lookup (pc := 25) dX2_line_25 (by decide +kernel) (off := 139) (by rw [e5]; decide +kernel) (tgt := 164) (by decide) ?_
        refine jw_aload_n (pc := 164) dX2_line_164 rfl ?_
        refine jw_ldcs (pc := 165) (js_X2_101) rfl (by decide) dX2_line_165 ?_
        refine jx_cVE (mi1 := mi_J3_equals) (pc := 167) rfl dX2_line_167 lk_X2_71 rfl fi_J3_equals rfl rfl rfl (by decide) (ho1) (t_J3_equals hG hw3 (hT 5 (by decide) (by decide)) (by omega)) (by first | decide | omega) rfl rfl (by decide) ?_
        first | refine jx_ifb_eq (pc := 170) (tgt := 234) dX2_line_170 (by decide) ?_ ?_ | refine jx_if_eq (pc := 170) (tgt := 234) dX2_line_170 (by decide) (by omega) ?_ ?_ | refine jw_if_eq (pc := 170) (tgt := 234) dX2_line_170 (by decide) ?_ ?_
        · intro h_170
          first
          | exact L5 M1 (of_decide_eq_true h_170) h1 hs
          | exact LF M1 (fun j hj _ q => of_decide_eq_false h_170 (by rw [q, hone j hj q])) h1 hs
        · intro h_170
          refine jw_iconst (pc := 173) dX2_line_173 ic_4 ?_
          refine jw_istore_n (pc := 174) dX2_line_174 (Nat.le_of_ble_eq_true rfl) rfl ?_
          try dsimp only [jput1, jput2, jkill, jclr, jis2_i, jis2_l, jis2_rs, jis2_rn, cond]
          refine jw_goto (pc := 175) (tgt := 234) dX2_line_175 (by decide) ?_
          first
          | exact L5 M1 (of_decide_eq_true h_170) h1 hs
          | exact LF M1 (fun j hj _ q => of_decide_eq_false h_170 (by rw [q, hone j hj q])) h1 hs
      by_cases e6 : r = (-991716523 : Int32)
      · have hone := kw_one hl hc hr (i := 5) (by decide) (by rw [e6]; rfl)
        refine jw_lookup (pc := 25) dX2_line_25 (by decide +kernel) (off := 153) (by rw [e6]; decide +kernel) (tgt := 178) (by decide) ?_
        refine jw_aload_n (pc := 178) dX2_line_178 rfl ?_
        refine jw_ldcs (pc := 179) (js_X2_103) rfl (by decide) dX2_line_179 ?_
        refine jx_cVE (mi1 := mi_J3_equals) (pc := 181) rfl dX2_line_181 lk_X2_71 rfl fi_J3_equals rfl rfl rfl (by decide) (ho1) (t_J3_equals hG hw3 (hT 6 (by decide) (by decide)) (by omega)) (by first | decide | omega) rfl rfl (by decide) ?_
        first | refine jx_ifb_eq (pc := 184) (tgt := 234) dX2_line_184 (by decide) ?_ ?_ | refine jx_if_eq (pc := 184) (tgt := 234) dX2_line_184 (by decide) (by omega) ?_ ?_ | refine jw_if_eq (pc := 184) (tgt := 234) dX2_line_184 (by decide) ?_ ?_
        · intro h_184
          first
          | exact L6 M1 (of_decide_eq_true h_184) h1 hs
          | exact LF M1 (fun j hj _ q => of_decide_eq_false h_184 (by rw [q, hone j hj q])) h1 hs
        · intro h_184
          refine jw_iconst (pc := 187) dX2_line_187 ic_5 ?_
          refine jw_istore_n (pc := 188) dX2_line_188 (Nat.le_of_ble_eq_true rfl) rfl ?_
          try dsimp only [jput1, jput2, jkill, jclr, jis2_i, jis2_l, jis2_rs, jis2_rn, cond]
          refine jw_goto (pc := 189) (tgt := 234) dX2_line_189 (by decide) ?_
          first
          | exact L6 M1 (of_decide_eq_true h_184) h1 hs
          | exact LF M1 (fun j hj _ q => of_decide_eq_false h_184 (by rw [q, hone j hj q])) h1 hs
      by_cases e12 : r = (101566 : Int32)
      · have hone := kw_one hl hc hr (i := 11) (by decide) (by rw [e12]; rfl)
        refine jw_lookup (pc := 25) dX2_line_25 (by decide +kernel) (off := 197) (by rw [e12]; decide +kernel) (tgt := 222) (by decide) ?_
        refine jw_aload_n (pc := 222) dX2_line_222 rfl ?_
        refine jw_ldcs (pc := 223) (js_X2_115) rfl (by decide) dX2_line_223 ?_
        refine jx_cVE (mi1 := mi_J3_equals) (pc := 225) rfl dX2_line_225 lk_X2_71 rfl fi_J3_equals rfl rfl rfl (by decide) (ho1) (t_J3_equals hG hw3 (hT 12 (by decide) (by decide)) (by omega)) (by first | decide | omega) rfl rfl (by decide) ?_
        first | refine jx_ifb_eq (pc := 228) (tgt := 234) dX2_line_228 (by decide) ?_ ?_ | refine jx_if_eq (pc := 228) (tgt := 234) dX2_line_228 (by decide) (by omega) ?_ ?_ | refine jw_if_eq (pc := 228) (tgt := 234) dX2_line_228 (by decide) ?_ ?_
        · intro h_228
          first
          | exact L12 M1 (of_decide_eq_true h_228) h1 hs
          | exact LF M1 (fun j hj _ q => of_decide_eq_false h_228 (by rw [q, hone j hj q])) h1 hs
        · intro h_228
          refine jw_bipush (pc := 231) dX2_line_231 bp_8 ?_
          refine jw_istore_n (pc := 233) dX2_line_233 (Nat.le_of_ble_eq_true rfl) rfl ?_
          try dsimp only [jput1, jput2, jkill, jclr, jis2_i, jis2_l, jis2_rs, jis2_rn, cond]
          first
          | exact L12 M1 (of_decide_eq_true h_228) h1 hs
          | exact LF M1 (fun j hj _ q => of_decide_eq_false h_228 (by rw [q, hone j hj q])) h1 hs
      by_cases e1 : r = (106914 : Int32)
      · have hone := kw_one hl hc hr (i := 0) (by decide) (by rw [e1]; rfl)
        refine jw_lookup (pc := 25) dX2_line_25 (by decide +kernel) (off := 83) (by rw [e1]; decide +kernel) (tgt := 108) (by decide) ?_
        refine jw_aload_n (pc := 108) dX2_line_108 rfl ?_
        refine jw_ldcs (pc := 109) (js_X2_93) rfl (by decide) dX2_line_109 ?_
        refine jx_cVE (mi1 := mi_J3_equals) (pc := 111) rfl dX2_line_111 lk_X2_71 rfl fi_J3_equals rfl rfl rfl (by decide) (ho1) (t_J3_equals hG hw3 (hT 1 (by decide) (by decide)) (by omega)) (by first | decide | omega) rfl rfl (by decide) ?_
        first | refine jx_ifb_eq (pc := 114) (tgt := 234) dX2_line_114 (by decide) ?_ ?_ | refine jx_if_eq (pc := 114) (tgt := 234) dX2_line_114 (by decide) (by omega) ?_ ?_ | refine jw_if_eq (pc := 114) (tgt := 234) dX2_line_114 (by decide) ?_ ?_
        · intro h_114
          first
          | exact L1 M1 (of_decide_eq_true h_114) h1 hs
          | exact LF M1 (fun j hj _ q => of_decide_eq_false h_114 (by rw [q, hone j hj q])) h1 hs
        · intro h_114
          refine jw_iconst (pc := 117) dX2_line_117 ic_0 ?_
          refine jw_istore_n (pc := 118) dX2_line_118 (Nat.le_of_ble_eq_true rfl) rfl ?_
          try dsimp only [jput1, jput2, jkill, jclr, jis2_i, jis2_l, jis2_rs, jis2_rn, cond]
          refine jw_goto (pc := 119) (tgt := 234) dX2_line_119 (by decide) ?_
          first
          | exact L1 M1 (of_decide_eq_true h_114) h1 hs
          | exact LF M1 (fun j hj _ q => of_decide_eq_false h_114 (by rw [q, hone j hj q])) h1 hs
      by_cases e4 : r = (117487 : Int32)
      · have hone := kw_one hl hc hr (i := 3) (by decide) (by rw [e4]; rfl)
        refine jw_lookup (pc := 25) dX2_line_25 (by decide +kernel) (off := 125) (by rw [e4]; decide +kernel) (tgt := 150) (by decide) ?_
        refine jw_aload_n (pc := 150) dX2_line_150 rfl ?_
        refine jw_ldcs (pc := 151) (js_X2_99) rfl (by decide) dX2_line_151 ?_
        refine jx_cVE (mi1 := mi_J3_equals) (pc := 153) rfl dX2_line_153 lk_X2_71 rfl fi_J3_equals rfl rfl rfl (by decide) (ho1) (t_J3_equals hG hw3 (hT 4 (by decide) (by decide)) (by omega)) (by first | decide | omega) rfl rfl (by decide) ?_
        first | refine jx_ifb_eq (pc := 156) (tgt := 234) dX2_line_156 (by decide) ?_ ?_ | refine jx_if_eq (pc := 156) (tgt := 234) dX2_line_156 (by decide) (by omega) ?_ ?_ | refine jw_if_eq (pc := 156) (tgt := 234) dX2_line_156 (by decide) ?_ ?_
        · intro h_156
          first
          | exact L4 M1 (of_decide_eq_true h_156) h1 hs
          | exact LF M1 (fun j hj _ q => of_decide_eq_false h_156 (by rw [q, hone j hj q])) h1 hs
        · intro h_156
          refine jw_iconst (pc := 159) dX2_line_159 ic_3 ?_
          refine jw_istore_n (pc := 160) dX2_line_160 (Nat.le_of_ble_eq_true rfl) rfl ?_
          try dsimp only [jput1, jput2, jkill, jclr, jis2_i, jis2_l, jis2_rs, jis2_rn, cond]
          refine jw_goto (pc := 161) (tgt := 234) dX2_line_161 (by decide) ?_
          first
          | exact L4 M1 (of_decide_eq_true h_156) h1 hs
          | exact LF M1 (fun j hj _ q => of_decide_eq_false h_156 (by rw [q, hone j hj q])) h1 hs
      by_cases e10 : r = (3433178 : Int32)
      · have hone := kw_one hl hc hr (i := 9) (by decide) (by rw [e10]; rfl)
        refine jw_lookup (pc := 25) dX2_line_25 (by decide +kernel) (off := 167) (by rw [e10]; decide +kernel) (tgt := 192) (by decide) ?_
        refine jw_aload_n (pc := 192) dX2_line_192 rfl ?_
        refine jw_ldcs (pc := 193) (js_X2_111) rfl (by decide) dX2_line_193 ?_
        refine jx_cVE (mi1 := mi_J3_equals) (pc := 195) rfl dX2_line_195 lk_X2_71 rfl fi_J3_equals rfl rfl rfl (by decide) (ho1) (t_J3_equals hG hw3 (hT 10 (by decide) (by decide)) (by omega)) (by first | decide | omega) rfl rfl (by decide) ?_
        first | refine jx_ifb_eq (pc := 198) (tgt := 234) dX2_line_198 (by decide) ?_ ?_ | refine jx_if_eq (pc := 198) (tgt := 234) dX2_line_198 (by decide) (by omega) ?_ ?_ | refine jw_if_eq (pc := 198) (tgt := 234) dX2_line_198 (by decide) ?_ ?_
        · intro h_198
          first
          | exact L10 M1 (of_decide_eq_true h_198) h1 hs
          | exact LF M1 (fun j hj _ q => of_decide_eq_false h_198 (by rw [q, hone j hj q])) h1 hs
        · intro h_198
          refine jw_bipush (pc := 201) dX2_line_201 bp_6 ?_
          refine jw_istore_n (pc := 203) dX2_line_203 (Nat.le_of_ble_eq_true rfl) rfl ?_
          try dsimp only [jput1, jput2, jkill, jclr, jis2_i, jis2_l, jis2_rs, jis2_rn, cond]
          refine jw_goto (pc := 204) (tgt := 234) dX2_line_204 (by decide) ?_
          first
          | exact L10 M1 (of_decide_eq_true h_198) h1 hs
          | exact LF M1 (fun j hj _ q => of_decide_eq_false h_198 (by rw [q, hone j hj q])) h1 hs
      by_cases e3 : r = (3641802 : Int32)
      · have hone := kw_one hl hc hr (i := 2) (by decide) (by rw [e3]; rfl)
        refine jw_lookup (pc := 25) dX2_line_25 (by decide +kernel) (off := 111) (by rw [e3]; decide +kernel) (tgt := 136) (by decide) ?_
        refine jw_aload_n (pc := 136) dX2_line_136 rfl ?_
        refine jw_ldcs (pc := 137) (js_X2_97) rfl (by decide) dX2_line_137 ?_
        refine jx_cVE (mi1 := mi_J3_equals) (pc := 139) rfl dX2_line_139 lk_X2_71 rfl fi_J3_equals rfl rfl rfl (by decide) (ho1) (t_J3_equals hG hw3 (hT 3 (by decide) (by decide)) (by omega)) (by first | decide | omega) rfl rfl (by decide) ?_
        first | refine jx_ifb_eq (pc := 142) (tgt := 234) dX2_line_142 (by decide) ?_ ?_ | refine jx_if_eq (pc := 142) (tgt := 234) dX2_line_142 (by decide) (by omega) ?_ ?_ | refine jw_if_eq (pc := 142) (tgt := 234) dX2_line_142 (by decide) ?_ ?_
        · intro h_142
          first
          | exact L3 M1 (of_decide_eq_true h_142) h1 hs
          | exact LF M1 (fun j hj _ q => of_decide_eq_false h_142 (by rw [q, hone j hj q])) h1 hs
        · intro h_142
          refine jw_iconst (pc := 145) dX2_line_145 ic_2 ?_
          refine jw_istore_n (pc := 146) dX2_line_146 (Nat.le_of_ble_eq_true rfl) rfl ?_
          try dsimp only [jput1, jput2, jkill, jclr, jis2_i, jis2_l, jis2_rs, jis2_rn, cond]
          refine jw_goto (pc := 147) (tgt := 234) dX2_line_147 (by decide) ?_
          first
          | exact L3 M1 (of_decide_eq_true h_142) h1 hs
          | exact LF M1 (fun j hj _ q => of_decide_eq_false h_142 (by rw [q, hone j hj q])) h1 hs
      by_cases e2 : r = (106748167 : Int32)
      · have hone := kw_one hl hc hr (i := 1) (by decide) (by rw [e2]; rfl)
        refine jw_lookup (pc := 25) dX2_line_25 (by decide +kernel) (off := 97) (by rw [e2]; decide +kernel) (tgt := 122) (by decide) ?_
        refine jw_aload_n (pc := 122) dX2_line_122 rfl ?_
        refine jw_ldcs (pc := 123) (js_X2_95) rfl (by decide) dX2_line_123 ?_
        refine jx_cVE (mi1 := mi_J3_equals) (pc := 125) rfl dX2_line_125 lk_X2_71 rfl fi_J3_equals rfl rfl rfl (by decide) (ho1) (t_J3_equals hG hw3 (hT 2 (by decide) (by decide)) (by omega)) (by first | decide | omega) rfl rfl (by decide) ?_
        first | refine jx_ifb_eq (pc := 128) (tgt := 234) dX2_line_128 (by decide) ?_ ?_ | refine jx_if_eq (pc := 128) (tgt := 234) dX2_line_128 (by decide) (by omega) ?_ ?_ | refine jw_if_eq (pc := 128) (tgt := 234) dX2_line_128 (by decide) ?_ ?_
        · intro h_128
          first
          | exact L2 M1 (of_decide_eq_true h_128) h1 hs
          | exact LF M1 (fun j hj _ q => of_decide_eq_false h_128 (by rw [q, hone j hj q])) h1 hs
        · intro h_128
          refine jw_iconst (pc := 131) dX2_line_131 ic_1 ?_
          refine jw_istore_n (pc := 132) dX2_line_132 (Nat.le_of_ble_eq_true rfl) rfl ?_
          try dsimp only [jput1, jput2, jkill, jclr, jis2_i, jis2_l, jis2_rs, jis2_rn, cond]
          refine jw_goto (pc := 133) (tgt := 234) dX2_line_133 (by decide) ?_
          first
          | exact L2 M1 (of_decide_eq_true h_128) h1 hs
          | exact LF M1 (fun j hj _ q => of_decide_eq_false h_128 (by rw [q, hone j hj q])) h1 hs
      have hno : ∀ j, j < 12 → (j < 6 ∨ 9 ≤ j) → ¬ tkV (chI σ n) n p = kwc (j + 1) := fun i hi hi2 q0 => by
        have q : r = kht.getD (i + 1) 0 := hr.trans (kw_h hl hi (hc.trans q0))
        have : i = 0 ∨ i = 1 ∨ i = 2 ∨ i = 3 ∨ i = 4 ∨ i = 5 ∨ i = 9 ∨ i = 10 ∨ i = 11 := by omega
        rcases this with z | z | z | z | z | z | z | z | z <;> subst z <;> first | exact e1 q | exact e2 q | exact e3 q | exact e4 q | exact e5 q | exact e6 q | exact e10 q | exact e11 q | exact e12 q
      refine jw_lookup (pc := 25) dX2_line_25 (by decide +kernel) (off := 209) (off_d (fun q hq z => ?_)) (tgt := 234) (by decide) (LF M1 hno h1 hs)
      simp only [List.mem_cons, List.not_mem_nil, or_false] at hq
      rcases hq with rfl | rfl | rfl | rfl | rfl | rfl | rfl | rfl | rfl <;> first | exact e1 (Int32.toInt_inj.mp (z.symm.trans (by decide +kernel))) | exact e2 (Int32.toInt_inj.mp (z.symm.trans (by decide +kernel))) | exact e3 (Int32.toInt_inj.mp (z.symm.trans (by decide +kernel))) | exact e4 (Int32.toInt_inj.mp (z.symm.trans (by decide +kernel))) | exact e5 (Int32.toInt_inj.mp (z.symm.trans (by decide +kernel))) | exact e6 (Int32.toInt_inj.mp (z.symm.trans (by decide +kernel))) | exact e10 (Int32.toInt_inj.mp (z.symm.trans (by decide +kernel))) | exact e11 (Int32.toInt_inj.mp (z.symm.trans (by decide +kernel))) | exact e12 (Int32.toInt_inj.mp (z.symm.trans (by decide +kernel)))
    refine jw_aload_n (pc := 0) dX2_line_0 rfl ?_
    refine jx_getIs (pc := 1) (jf_X2_47_1.r) rfl dX2_line_1 rfl (is_66 hS) (by decide) (ht) ?_
    refine jw_iconst (pc := 4) dX2_line_4 ic_2 ?_
    first | refine jx_icmp_eq (pc := 5) (tgt := 14) dX2_line_5 (by decide) (by omega) (by omega) ?_ ?_ | refine jw_icmp_eq (pc := 5) (tgt := 14) dX2_line_5 (by decide) ?_ ?_
    · intro h_5
      refine jw_aload_n (pc := 14) dX2_line_14 rfl ?_
      refine jx_getRs (pc := 15) (jf_X2_61_1.r) rfl dX2_line_15 rfl (is_66 hS) (by decide) (w1) ?_
      refine jw_astore_n (pc := 18) dX2_line_18 (Nat.le_of_ble_eq_true rfl) rfl ?_
      try dsimp only [jput1, jput2, jkill, jclr, jis2_i, jis2_l, jis2_rs, jis2_rn, cond]
      refine jw_iconst (pc := 19) dX2_line_19 ic_m1 ?_
      refine jw_istore_n (pc := 20) dX2_line_20 (Nat.le_of_ble_eq_true rfl) rfl ?_
      try dsimp only [jput1, jput2, jkill, jclr, jis2_i, jis2_l, jis2_rs, jis2_rn, cond]
      refine jw_aload_n (pc := 21) dX2_line_21 rfl ?_
      refine jx_cVi (mi1 := mi_J3_hashCode) (pc := 22) rfl dX2_line_22 lk_X2_89 rfl fi_J3_hashCode rfl rfl rfl (by decide) (ho) (t_J3_hashCode hG w3 (by omega) (tkV_pos hk)) (by first | decide | omega) rfl rfl (by decide) ?_
      intro x_22 M_22 q_22
      obtain ⟨⟨f, k, hl, hc, hr⟩, hH⟩ := q_22
      obtain ⟨h1, hs⟩ := h.hash ho.1 w2 hH
      refine L25 _ _ f k hl hc hr h1 hs ?_ (hH.2 _ _ w3)
      rcases hH.1 with z | ⟨x, z⟩ | ⟨x, z⟩ <;> rw [z] <;> exact w1
    · intro h_5
      omega
  · have e2 := lLine_no (V := V) (fun j _ _ (q : tkK (chI σ n) n p = 2 ∧ tkV (chI σ n) n p = kwc (j + 1)) => hk q.1)
    refine jw_aload_n (pc := 0) dX2_line_0 rfl ?_
    refine jx_getIs (pc := 1) (jf_X2_47_1.r) rfl dX2_line_1 rfl (is_66 hS) (by decide) (ht) ?_
    refine jw_iconst (pc := 4) dX2_line_4 ic_2 ?_
    first | refine jx_icmp_eq (pc := 5) (tgt := 14) dX2_line_5 (by decide) (by omega) (by omega) ?_ ?_ | refine jw_icmp_eq (pc := 5) (tgt := 14) dX2_line_5 (by decide) ?_ ?_
    · intro h_5
      omega
    · intro h_5
      refine jw_aload_n (pc := 8) dX2_line_8 rfl ?_
      refine jw_iconst (pc := 9) dX2_line_9 ic_1 ?_
      refine jx_cVE (mi1 := mi_X2_fail) (pc := 10) rfl dX2_line_10 lk_X2_85 rfl fi_X2_fail rfl rfl rfl (by decide) (is_66 hS) (t_X2_fail h) (by first | decide | omega) rfl rfl (by decide) ?_
      refine jw_athrow (pc := 13) dX2_line_13 rfl ?_
      refine jx_out67 rfl hS ?_
      exact Or.inr ⟨rfl, _, e2, h.fl.j jsm.rf⟩
end JLN
