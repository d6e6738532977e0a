/-! ===== x: the switch over words ===== -/
def kwf (i j : Nat) : Nat := (jtxt.getD i []).getD j 0
def kwl (i : Nat) : Nat := (jtxt.getD i []).length
theorem kw_l : ∀ i, i < 21 → kwl i ≤ 8 ∧ ∀ j, j < kwl i → 97 ≤ kwf i j ∧ kwf i j ≤ 122 := by decide
def kht : List Int32 := [0, 106914, 106748167, 3641802, 117487, -1073910849, -991716523, 3015894, 3007214, -899765124, 3433178, -1294648750, 101566]
theorem kht_e : ∀ i, i < 12 → hsF (kwf (i + 1)) (kwl (i + 1)) = kht.getD (i + 1) 0 := by decide +kernel
theorem kht_ne : ∀ i, i < 12 → ∀ j, j < 12 → kht.getD (i + 1) 0 = kht.getD (j + 1) 0 → i = j := by decide +kernel
theorem kw_h {f : Nat → Nat} {k i : Nat} (hl : txl f k) (hi : i < 12) (hc : txc f k = kwc (i + 1)) : hsF f k = kht.getD (i + 1) 0 := by
  obtain ⟨e1, e2⟩ := txc_inj k (kwl (i + 1)) hl.2 (kw_l (i + 1) (by omega)).2 hc
  rw [← kht_e i hi, hsF_cg k e2, e1]
theorem res_t {c i : Nat} (hi : i < 12) (h : c = kwc (i + 1)) : resB c = true := anyB_iff.mpr ⟨i, hi, decide_eq_true h⟩
theorem res_n {c : Nat} (h : ∀ i, i < 12 → ¬ c = kwc (i + 1)) : resB c = false := by
  rw [← Bool.not_eq_true]
  intro q
  obtain ⟨i, hi, e⟩ := anyB_iff.mp q
  exact h i hi (of_decide_eq_true e)
/-- of words with the hash of one keyword none is another -/
theorem kw_one {f : Nat → Nat} {k c i : Nat} {r : Int32} (hl : txl f k) (hc : txc f k = c) (hr : r = hsF f k) (hi : i < 12) (hk : r = kht.getD (i + 1) 0) : ∀ j, j < 12 → c = kwc (j + 1) → j = i := fun j hj e => by
  have := kw_h hl hj (hc.trans e)
  exact kht_ne j hj i hi (this.symm.trans (hr.symm.trans hk))
theorem kw_no {f : Nat → Nat} {k c : Nat} {r : Int32} (hl : txl f k) (hc : txc f k = c) (hr : r = hsF f k) (hk : ∀ i, i < 12 → ¬ r = kht.getD (i + 1) 0) : ∀ j, j < 12 → ¬ c = kwc (j + 1) := fun j hj e => hk j hj (hr.trans (kw_h hl hj (hc.trans e)))
theorem off_d {d x : Int} : ∀ {ps : List (Int × Int)}, (∀ q ∈ ps, ¬ q.1 = x) → Op.lookupswitch.offset ps d x = d
  | [], _ => rfl
  | (a, o) :: r, h => by
    rw [Op.lookupswitch.offset_cons, if_neg (h (a, o) List.mem_cons_self)]
    exact off_d (fun q hq => h q (List.mem_cons_of_mem _ hq))
theorem tkV_pos {σ : Sg} {n p : Nat} (h : tkK (chI σ n) n p = 2) : tkV (chI σ n) n p ≠ 0 := by
  have h9 : ¬ chI σ n (tkA (chI σ n) n p) = -1 := fun q => by unfold tkK at h; rw [if_pos q] at h; cases h
  have h8 : smlB (chI σ n (tkA (chI σ n) n p)) = true := Classical.byContradiction (fun q => by
    unfold tkK at h; rw [if_neg h9, if_neg q] at h
    split at h
    · split at h <;> omega
    · split at h
      · omega
      · split at h <;> omega)
  have hgt := tkE_gt (σ := σ) (n := n) (p := p) (by rw [h]; decide)
  have e : tkE (chI σ n) n p = nxtN (chI σ n) n (tkA (chI σ n) n p) (fun x => !smlB x) := by unfold tkE; rw [if_neg h9, if_pos h8]
  obtain ⟨k, hk⟩ : ∃ k, tkE (chI σ n) n p - tkA (chI σ n) n p = k + 1 := ⟨tkE (chI σ n) n p - tkA (chI σ n) n p - 1, by omega⟩
  have hd : smlB (chI σ n (tkA (chI σ n) n p + k)) = true := Classical.byContradiction (fun q => by
    have := nxt_fst (c := chI σ n) (n := n) (p := tkA (chI σ n) n p) (P := fun x => !smlB x) (j := tkA (chI σ n) n p + k) (Nat.le_add_right _ _) (by rw [← e]; omega)
    rw [Bool.not_eq_true] at q
    rw [q] at this; cases this)
  have := sml_n hd
  unfold tkV
  rw [if_pos h8, hk, txc_s]
  omega
/-- the word's hash was asked -/
theorem xRd.hash {M M1 : Mm} {σ : Sg} {n v p zb sb' o : Nat} {V : Vt} (h : xRd M σ n v V p zb sb') (hK : jm_K M o = 14) (ho : v ≤ o) (hH : jHs M o M1) : xRd M1 σ n v V p zb sb' ∧ xS v M M1 := by
  obtain ⟨hM, hJ⟩ := hH
  obtain ⟨⟨b1, b2, b3, b4, ⟨r1, r2, r3, r4, r5, r6⟩, b7, b8⟩, hV, hN, hW, hw⟩ := h
  have hn : ∀ (N1 : Mm), (∀ a k, jm_C N1 a k = jm_C M a k) → (∀ a c, jis M a c → jis N1 a c) → (∀ a k, jm_R N1 a k = jm_R M a k) → (∀ o c, jTx M o c → jTx N1 o c) → jNx N1 v V := fun N1 z1 z2 z3 z4 => by
    refine ⟨fun a ha => ?_, fun a ha => ?_⟩
    · obtain ⟨q, o', a1, a2, a3, a4, a5, a6⟩ := hN.1 a ha
      exact ⟨q, o', (z1 _ _).trans a1, z2 _ _ a2, a3, (z3 _ _).trans a4, a5, z4 _ _ a6⟩
    · obtain ⟨q, o', a1, a2, a3, a4, a5, a6⟩ := hN.2 a ha
      exact ⟨q, o', (z1 _ _).trans a1, z2 _ _ a2, a3, (z3 _ _).trans a4, a5, z4 _ _ a6⟩
  rcases hM with rfl | ⟨x, rfl⟩ | ⟨x, rfl⟩
  · exact ⟨⟨⟨b1, b2, b3, b4, ⟨r1, r2, r3, r4, r5, r6⟩, b7, b8⟩, hV, hN, hW, hw⟩, xS.rf⟩
  all_goals
    refine ⟨⟨⟨b1, b2, fun i h1 h2 => hJ _ _ (b3 i h1 h2), b4, ⟨r1, r2, r3, r4, r5, fun q => ?_⟩, b7, b8⟩, hV, hn _ (fun _ _ => rfl) (fun _ _ q => q) (fun _ _ => rfl) hJ, hW, hw⟩, jsm.I (Or.inr ho), fun _ _ _ => rfl, fun a q1 q2 q3 => jal_I a (fun q => q3 (by rw [q]; exact hK)), hJ⟩
    obtain ⟨o', w1, w2, w3⟩ := r6 q
    exact ⟨o', w1, w2, hJ _ _ w3⟩
section JSW
variable {G : Gh} {M : Mm} {σ : Sg} {n v p zb sb' : Nat} {V : Vt}
/-- the end of a name: it is one -/
def xM (M : Mm) (σ : Sg) (n v : Nat) (V : Vt) (p zb sb' : Nat) : Rs → Mm → Prop := jPt (fun r M' => r = none ∧ pName (chI σ n) n p = .ok (tkV (chI σ n) n p) ∧ tkK (chI σ n) n p = 2 ∧ xRd M' σ n v V p zb sb' ∧ xS v M M') (fun M' => ∃ f, pName (chI σ n) n p = .error f ∧ xFl M M' v f zb sb')
theorem t_X2_mustName (hG : jGs G) (h : xRd M σ n v V p zb sb') : jT G mi_X2_mustName 7 [jr (some 66)] M (xM M σ n v V p zb sb') := by
  have hS := h.S
  have hk9 := tkK_lt (chI σ n) n p
  have ht := h.tok
  refine jT.of (by decide) rfl (Nat.le_of_ble_eq_true rfl) ?_
  by_cases hk : tkK (chI σ n) n p = 2
  · obtain ⟨o, w1, w2, w3⟩ := h.1.2.2.2.2.1.2.2.2.2.2 hk
    have h104 := h.2.1.1.2.1
    have ho : jis M o 13 := ⟨w3.it.1, w3.it.2, by omega⟩
    -- behind the switch
    have LT : ∀ (M1 : Mm) (i : Nat), i < 12 → resB (tkV (chI σ n) n p) = true → xRd M1 σ n v V p zb sb' → xS v M M1 → jW G mi_X2_mustName 7 M 303 [some (jr (some 66)), some (jr (some o)), some (.int (nI i))] [] M1 (xM M σ n v V p zb sb') := by
      intro M1 i hi hr h1 hs
      have hS := h1.S
      have e2 : pName (chI σ n) n p = .error (1, tkA (chI σ n) n p) := by unfold pName; rw [if_neg (fun q => by rw [hr] at q; cases q.2)]
      have t1 : ∀ i, i < 12 → ¬ (nI i).toInt < 0 ∧ ¬ 11 < (nI i).toInt ∧ (#[64, 64, 64, 64, 64, 64, 64, 64, 64, 64, 64, 64] : Array Int)[((nI i).toInt - 0).toNat]? = some 64 := by decide +kernel
      refine jw_iload_n (pc := 303) dX2_mustName_303 rfl ?_
      refine jw_tableIn (pc := 304) dX2_mustName_304 (t1 i hi).1 (t1 i hi).2.1 (t1 i hi).2.2 (tgt := 368) (by decide) ?_
      refine jw_aload_n (pc := 368) dX2_mustName_368 rfl ?_
      refine jw_iconst (pc := 369) dX2_mustName_369 ic_1 ?_
      refine jx_cVE (mi1 := mi_X2_fail) (pc := 370) rfl dX2_mustName_370 lk_X2_85 rfl fi_X2_fail rfl rfl rfl (by decide) (is_66 hS) (t_X2_fail h1) (by first | decide | omega) rfl rfl (by decide) ?_
      refine jw_athrow (pc := 373) dX2_mustName_373 rfl ?_
      refine jx_out67 rfl hS ?_
      exact Or.inr ⟨rfl, _, e2, h1.fl.tr hs.1⟩
    have LF : ∀ (M1 : Mm), resB (tkV (chI σ n) n p) = false → xRd M1 σ n v V p zb sb' → xS v M M1 → jW G mi_X2_mustName 7 M 303 [some (jr (some 66)), some (jr (some o)), some (.int (-1))] [] M1 (xM M σ n v V p zb sb') := by
      intro M1 hr h1 hs
      have hS := h1.S
      have e2 : pName (chI σ n) n p = .ok (tkV (chI σ n) n p) := by unfold pName; rw [if_pos ⟨hk, hr⟩]
      refine jw_iload_n (pc := 303) dX2_mustName_303 rfl ?_
      refine jw_tableOut (pc := 304) dX2_mustName_304 (Or.inl (by decide)) (tgt := 374) (by decide) ?_
      refine jw_return (pc := 374) dX2_mustName_374 rfl ?_
      exact Or.inl ⟨_, rfl, rfl, e2, hk, h1, hs⟩
    -- the switch
    have L25 : ∀ (r : Int32) (M1 : Mm) (f : Nat → Nat) (k : Nat), txl f k → txc f k = tkV (chI σ n) n p → r = hsF f k → xRd M1 σ n v V p zb sb' → xS v M M1 → jm_R M1 66 37 = some o → jTx M1 o (tkV (chI σ n) n p) → jW G mi_X2_mustName 7 M 25 [some (jr (some 66)), some (jr (some o)), some (.int (-1))] [.int r] M1 (xM M σ n v V p zb sb') := by
      intro r M1 f k hl hc hr h1 hs hw1 hw3
      have hS := h1.S
      have hT := h1.1.2.2.1
      have ho1 : jis M1 o 13 := ⟨hw3.it.1, hw3.it.2, by omega⟩
      by_cases e11 : r = (-1294648750 : Int32)
      · have hone := kw_one hl hc hr (i := 10) (by decide) (by rw [e11]; rfl)
        refine jw_lookup (pc := 25) dX2_mustName_25 (by decide +kernel) (off := 251) (by rw [e11]; decide +kernel) (tgt := 276) (by decide) ?_
        refine jw_aload_n (pc := 276) dX2_mustName_276 rfl ?_
        refine jw_ldcs (pc := 277) (js_X2_113) rfl (by decide) dX2_mustName_277 ?_
        refine jx_cVE (mi1 := mi_J3_equals) (pc := 279) rfl dX2_mustName_279 lk_X2_71 rfl fi_J3_equals rfl rfl rfl (by decide) (ho1) (t_J3_equals hG hw3 (hT 11 (by decide) (by decide)) (by omega)) (by first | decide | omega) rfl rfl (by decide) ?_
        first | refine jx_ifb_eq (pc := 282) (tgt := 303) dX2_mustName_282 (by decide) ?_ ?_ | refine jx_if_eq (pc := 282) (tgt := 303) dX2_mustName_282 (by decide) (by omega) ?_ ?_ | refine jw_if_eq (pc := 282) (tgt := 303) dX2_mustName_282 (by decide) ?_ ?_
        · intro h_282
          first
          | exact LT M1 10 (by decide) (res_t (i := 10) (by decide) (of_decide_eq_true h_282)) h1 hs
          | exact LF M1 (res_n (fun j hj q => of_decide_eq_false h_282 (by rw [q, hone j hj q]))) h1 hs
        · intro h_282
          refine jw_bipush (pc := 285) dX2_mustName_285 bp_10 ?_
          refine jw_istore_n (pc := 287) dX2_mustName_287 (Nat.le_of_ble_eq_true rfl) rfl ?_
          try dsimp only [jput1, jput2, jkill, jclr, jis2_i, jis2_l, jis2_rs, jis2_rn, cond]
          refine jw_goto (pc := 288) (tgt := 303) dX2_mustName_288 (by decide) ?_
          first
          | exact LT M1 10 (by decide) (res_t (i := 10) (by decide) (of_decide_eq_true h_282)) h1 hs
          | exact LF M1 (res_n (fun j hj q => of_decide_eq_false h_282 (by rw [q, hone j hj q]))) h1 hs
      by_cases e5 : r = (-1073910849 : Int32)
      · have hone := kw_one hl hc hr (i := 4) (by decide) (by rw [e5]; rfl)
        refine jw_lookup (pc := 25) dX2_mustName_25 (by decide +kernel) (off := 163) (by rw [e5]; decide +kernel) (tgt := 188) (by decide) ?_
        refine jw_aload_n (pc := 188) dX2_mustName_188 rfl ?_
        refine jw_ldcs (pc := 189) (js_X2_101) rfl (by decide) dX2_mustName_189 ?_
        refine jx_cVE (mi1 := mi_J3_equals) (pc := 191) rfl dX2_mustName_191 lk_X2_71 rfl fi_J3_equals rfl rfl rfl (by decide) (ho1) (t_J3_equals hG hw3 (hT 5 (by decide) (by decide)) (by omega)) (by first | decide | omega) rfl rfl (by decide) ?_
        first | refine jx_ifb_eq (pc := 194) (tgt := 303) dX2_mustName_194 (by decide) ?_ ?_ | refine jx_if_eq (pc := 194) (tgt := 303) dX2_mustName_194 (by decide) (by omega) ?_ ?_ | refine jw_if_eq (pc := 194) (tgt := 303) dX2_mustName_194 (by decide) ?_ ?_
        · intro h_194
          first
          | exact LT M1 4 (by decide) (res_t (i := 4) (by decide) (of_decide_eq_true h_194)) h1 hs
          | exact LF M1 (res_n (fun j hj q => of_decide_eq_false h_194 (by rw [q, hone j hj q]))) h1 hs
        · intro h_194
          refine jw_iconst (pc := 197) dX2_mustName_197 ic_4 ?_
          refine jw_istore_n (pc := 198) dX2_mustName_198 (Nat.le_of_ble_eq_true rfl) rfl ?_
          try dsimp only [jput1, jput2, jkill, jclr, jis2_i, jis2_l, jis2_rs, jis2_rn, cond]
          refine jw_goto (pc := 199) (tgt := 303) dX2_mustName_199 (by decide) ?_
          first
          | exact LT M1 4 (by decide) (res_t (i := 4) (by decide) (of_decide_eq_true h_194)) h1 hs
          | exact LF M1 (res_n (fun j hj q => of_decide_eq_false h_194 (by rw [q, hone j hj q]))) h1 hs
      by_cases e6 : r = (-991716523 : Int32)
      · have hone := kw_one hl hc hr (i := 5) (by decide) (by rw [e6]; rfl)
        refine jw_lookup (pc := 25) dX2_mustName_25 (by decide +kernel) (off := 177) (by rw [e6]; decide +kernel) (tgt := 202) (by decide) ?_
        refine jw_aload_n (pc := 202) dX2_mustName_202 rfl ?_
        refine jw_ldcs (pc := 203) (js_X2_103) rfl (by decide) dX2_mustName_203 ?_
        refine jx_cVE (mi1 := mi_J3_equals) (pc := 205) rfl dX2_mustName_205 lk_X2_71 rfl fi_J3_equals rfl rfl rfl (by decide) (ho1) (t_J3_equals hG hw3 (hT 6 (by decide) (by decide)) (by omega)) (by first | decide | omega) rfl rfl (by decide) ?_
        first | refine jx_ifb_eq (pc := 208) (tgt := 303) dX2_mustName_208 (by decide) ?_ ?_ | refine jx_if_eq (pc := 208) (tgt := 303) dX2_mustName_208 (by decide) (by omega) ?_ ?_ | refine jw_if_eq (pc := 208) (tgt := 303) dX2_mustName_208 (by decide) ?_ ?_
        · intro h_208
          first
          | exact LT M1 5 (by decide) (res_t (i := 5) (by decide) (of_decide_eq_true h_208)) h1 hs
          | exact LF M1 (res_n (fun j hj q => of_decide_eq_false h_208 (by rw [q, hone j hj q]))) h1 hs
        · intro h_208
          refine jw_iconst (pc := 211) dX2_mustName_211 ic_5 ?_
          refine jw_istore_n (pc := 212) dX2_mustName_212 (Nat.le_of_ble_eq_true rfl) rfl ?_
          try dsimp only [jput1, jput2, jkill, jclr, jis2_i, jis2_l, jis2_rs, jis2_rn, cond]
          refine jw_goto (pc := 213) (tgt := 303) dX2_mustName_213 (by decide) ?_
          first
          | exact LT M1 5 (by decide) (res_t (i := 5) (by decide) (of_decide_eq_true h_208)) h1 hs
          | exact LF M1 (res_n (fun j hj q => of_decide_eq_false h_208 (by rw [q, hone j hj q]))) h1 hs
      by_cases e9 : r = (-899765124 : Int32)
      · have hone := kw_one hl hc hr (i := 8) (by decide) (by rw [e9]; rfl)
        refine jw_lookup (pc := 25) dX2_mustName_25 (by decide +kernel) (off := 221) (by rw [e9]; decide +kernel) (tgt := 246) (by decide) ?_
        refine jw_aload_n (pc := 246) dX2_mustName_246 rfl ?_
        refine jw_ldcs (pc := 247) (js_X2_109) rfl (by decide) dX2_mustName_247 ?_
        refine jx_cVE (mi1 := mi_J3_equals) (pc := 249) rfl dX2_mustName_249 lk_X2_71 rfl fi_J3_equals rfl rfl rfl (by decide) (ho1) (t_J3_equals hG hw3 (hT 9 (by decide) (by decide)) (by omega)) (by first | decide | omega) rfl rfl (by decide) ?_
        first | refine jx_ifb_eq (pc := 252) (tgt := 303) dX2_mustName_252 (by decide) ?_ ?_ | refine jx_if_eq (pc := 252) (tgt := 303) dX2_mustName_252 (by decide) (by omega) ?_ ?_ | refine jw_if_eq (pc := 252) (tgt := 303) dX2_mustName_252 (by decide) ?_ ?_
        · intro h_252
          first
          | exact LT M1 8 (by decide) (res_t (i := 8) (by decide) (of_decide_eq_true h_252)) h1 hs
          | exact LF M1 (res_n (fun j hj q => of_decide_eq_false h_252 (by rw [q, hone j hj q]))) h1 hs
        · intro h_252
          refine jw_bipush (pc := 255) dX2_mustName_255 bp_8 ?_
          refine jw_istore_n (pc := 257) dX2_mustName_257 (Nat.le_of_ble_eq_true rfl) rfl ?_
          try dsimp only [jput1, jput2, jkill, jclr, jis2_i, jis2_l, jis2_rs, jis2_rn, cond]
          refine jw_goto (pc := 258) (tgt := 303) dX2_mustName_258 (by decide) ?_
          first
          | exact LT M1 8 (by decide) (res_t (i := 8) (by decide) (of_decide_eq_true h_252)) h1 hs
          | exact LF M1 (res_n (fun j hj q => of_decide_eq_false h_252 (by rw [q, hone j hj q]))) h1 hs
      by_cases e12 : r = (101566 : Int32)
      · have hone := kw_one hl hc hr (i := 11) (by decide) (by rw [e12]; rfl)
        refine jw_lookup (pc := 25) dX2_mustName_25 (by decide +kernel) (off := 266) (by rw [e12]; decide +kernel) (tgt := 291) (by decide) ?_
        refine jw_aload_n (pc := 291) dX2_mustName_291 rfl ?_
        refine jw_ldcs (pc := 292) (js_X2_115) rfl (by decide) dX2_mustName_292 ?_
        refine jx_cVE (mi1 := mi_J3_equals) (pc := 294) rfl dX2_mustName_294 lk_X2_71 rfl fi_J3_equals rfl rfl rfl (by decide) (ho1) (t_J3_equals hG hw3 (hT 12 (by decide) (by decide)) (by omega)) (by first | decide | omega) rfl rfl (by decide) ?_
        first | refine jx_ifb_eq (pc := 297) (tgt := 303) dX2_mustName_297 (by decide) ?_ ?_ | refine jx_if_eq (pc := 297) (tgt := 303) dX2_mustName_297 (by decide) (by omega) ?_ ?_ | refine jw_if_eq (pc := 297) (tgt := 303) dX2_mustName_297 (by decide) ?_ ?_
        · intro h_297
          first
          | exact LT M1 11 (by decide) (res_t (i := 11) (by decide) (of_decide_eq_true h_297)) h1 hs
          | exact LF M1 (res_n (fun j hj q => of_decide_eq_false h_297 (by rw [q, hone j hj q]))) h1 hs
        · intro h_297
          refine jw_bipush (pc := 300) dX2_mustName_300 bp_11 ?_
          refine jw_istore_n (pc := 302) dX2_mustName_302 (Nat.le_of_ble_eq_true rfl) rfl ?_
          try dsimp only [jput1, jput2, jkill, jclr, jis2_i, jis2_l, jis2_rs, jis2_rn, cond]
          first
          | exact LT M1 11 (by decide) (res_t (i := 11) (by decide) (of_decide_eq_true h_297)) h1 hs
          | exact LF M1 (res_n (fun j hj q => of_decide_eq_false h_297 (by rw [q, hone j hj q]))) h1 hs
      by_cases e1 : r = (106914 : Int32)
      · have hone := kw_one hl hc hr (i := 0) (by decide) (by rw [e1]; rfl)
        refine jw_lookup (pc := 25) dX2_mustName_25 (by decide +kernel) (off := 107) (by rw [e1]; decide +kernel) (tgt := 132) (by decide) ?_
        refine jw_aload_n (pc := 132) dX2_mustName_132 rfl ?_
        refine jw_ldcs (pc := 133) (js_X2_93) rfl (by decide) dX2_mustName_133 ?_
        refine jx_cVE (mi1 := mi_J3_equals) (pc := 135) rfl dX2_mustName_135 lk_X2_71 rfl fi_J3_equals rfl rfl rfl (by decide) (ho1) (t_J3_equals hG hw3 (hT 1 (by decide) (by decide)) (by omega)) (by first | decide | omega) rfl rfl (by decide) ?_
        first | refine jx_ifb_eq (pc := 138) (tgt := 303) dX2_mustName_138 (by decide) ?_ ?_ | refine jx_if_eq (pc := 138) (tgt := 303) dX2_mustName_138 (by decide) (by omega) ?_ ?_ | refine jw_if_eq (pc := 138) (tgt := 303) dX2_mustName_138 (by decide) ?_ ?_
        · intro h_138
          first
          | exact LT M1 0 (by decide) (res_t (i := 0) (by decide) (of_decide_eq_true h_138)) h1 hs
          | exact LF M1 (res_n (fun j hj q => of_decide_eq_false h_138 (by rw [q, hone j hj q]))) h1 hs
        · intro h_138
          refine jw_iconst (pc := 141) dX2_mustName_141 ic_0 ?_
          refine jw_istore_n (pc := 142) dX2_mustName_142 (Nat.le_of_ble_eq_true rfl) rfl ?_
          try dsimp only [jput1, jput2, jkill, jclr, jis2_i, jis2_l, jis2_rs, jis2_rn, cond]
          refine jw_goto (pc := 143) (tgt := 303) dX2_mustName_143 (by decide) ?_
          first
          | exact LT M1 0 (by decide) (res_t (i := 0) (by decide) (of_decide_eq_true h_138)) h1 hs
          | exact LF M1 (res_n (fun j hj q => of_decide_eq_false h_138 (by rw [q, hone j hj q]))) h1 hs
      by_cases e4 : r = (117487 : Int32)
      · have hone := kw_one hl hc hr (i := 3) (by decide) (by rw [e4]; rfl)
        refine jw_lookup (pc := 25) dX2_mustName_25 (by decide +kernel) (off := 149) (by rw [e4]; decide +kernel) (tgt := 174) (by decide) ?_
        refine jw_aload_n (pc := 174) dX2_mustName_174 rfl ?_
        refine jw_ldcs (pc := 175) (js_X2_99) rfl (by decide) dX2_mustName_175 ?_
        refine jx_cVE (mi1 := mi_J3_equals) (pc := 177) rfl dX2_mustName_177 lk_X2_71 rfl fi_J3_equals rfl rfl rfl (by decide) (ho1) (t_J3_equals hG hw3 (hT 4 (by decide) (by decide)) (by omega)) (by first | decide | omega) rfl rfl (by decide) ?_
        first | refine jx_ifb_eq (pc := 180) (tgt := 303) dX2_mustName_180 (by decide) ?_ ?_ | refine jx_if_eq (pc := 180) (tgt := 303) dX2_mustName_180 (by decide) (by omega) ?_ ?_ | refine jw_if_eq (pc := 180) (tgt := 303) dX2_mustName_180 (by decide) ?_ ?_
        · intro h_180
          first
          | exact LT M1 3 (by decide) (res_t (i := 3) (by decide) (of_decide_eq_true h_180)) h1 hs
          | exact LF M1 (res_n (fun j hj q => of_decide_eq_false h_180 (by rw [q, hone j hj q]))) h1 hs
        · intro h_180
          refine jw_iconst (pc := 183) dX2_mustName_183 ic_3 ?_
          refine jw_istore_n (pc := 184) dX2_mustName_184 (Nat.le_of_ble_eq_true rfl) rfl ?_
          try dsimp only [jput1, jput2, jkill, jclr, jis2_i, jis2_l, jis2_rs, jis2_rn, cond]
          refine jw_goto (pc := 185) (tgt := 303) dX2_mustName_185 (by decide) ?_
          first
          | exact LT M1 3 (by decide) (res_t (i := 3) (by decide) (of_decide_eq_true h_180)) h1 hs
          | exact LF M1 (res_n (fun j hj q => of_decide_eq_false h_180 (by rw [q, hone j hj q]))) h1 hs
      by_cases e8 : r = (3007214 : Int32)
      · have hone := kw_one hl hc hr (i := 7) (by decide) (by rw [e8]; rfl)
        refine jw_lookup (pc := 25) dX2_mustName_25 (by decide +kernel) (off := 206) (by rw [e8]; decide +kernel) (tgt := 231) (by decide) ?_
        refine jw_aload_n (pc := 231) dX2_mustName_231 rfl ?_
        refine jw_ldcs (pc := 232) (js_X2_107) rfl (by decide) dX2_mustName_232 ?_
        refine jx_cVE (mi1 := mi_J3_equals) (pc := 234) rfl dX2_mustName_234 lk_X2_71 rfl fi_J3_equals rfl rfl rfl (by decide) (ho1) (t_J3_equals hG hw3 (hT 8 (by decide) (by decide)) (by omega)) (by first | decide | omega) rfl rfl (by decide) ?_
        first | refine jx_ifb_eq (pc := 237) (tgt := 303) dX2_mustName_237 (by decide) ?_ ?_ | refine jx_if_eq (pc := 237) (tgt := 303) dX2_mustName_237 (by decide) (by omega) ?_ ?_ | refine jw_if_eq (pc := 237) (tgt := 303) dX2_mustName_237 (by decide) ?_ ?_
        · intro h_237
          first
          | exact LT M1 7 (by decide) (res_t (i := 7) (by decide) (of_decide_eq_true h_237)) h1 hs
          | exact LF M1 (res_n (fun j hj q => of_decide_eq_false h_237 (by rw [q, hone j hj q]))) h1 hs
        · intro h_237
          refine jw_bipush (pc := 240) dX2_mustName_240 bp_7 ?_
          refine jw_istore_n (pc := 242) dX2_mustName_242 (Nat.le_of_ble_eq_true rfl) rfl ?_
          try dsimp only [jput1, jput2, jkill, jclr, jis2_i, jis2_l, jis2_rs, jis2_rn, cond]
          refine jw_goto (pc := 243) (tgt := 303) dX2_mustName_243 (by decide) ?_
          first
          | exact LT M1 7 (by decide) (res_t (i := 7) (by decide) (of_decide_eq_true h_237)) h1 hs
          | exact LF M1 (res_n (fun j hj q => of_decide_eq_false h_237 (by rw [q, hone j hj q]))) h1 hs
      by_cases e7 : r = (3015894 : Int32)
      · have hone := kw_one hl hc hr (i := 6) (by decide) (by rw [e7]; rfl)
        refine jw_lookup (pc := 25) dX2_mustName_25 (by decide +kernel) (off := 191) (by rw [e7]; decide +kernel) (tgt := 216) (by decide) ?_
        refine jw_aload_n (pc := 216) dX2_mustName_216 rfl ?_
        refine jw_ldcs (pc := 217) (js_X2_105) rfl (by decide) dX2_mustName_217 ?_
        refine jx_cVE (mi1 := mi_J3_equals) (pc := 219) rfl dX2_mustName_219 lk_X2_71 rfl fi_J3_equals rfl rfl rfl (by decide) (ho1) (t_J3_equals hG hw3 (hT 7 (by decide) (by decide)) (by omega)) (by first | decide | omega) rfl rfl (by decide) ?_
        first | refine jx_ifb_eq (pc := 222) (tgt := 303) dX2_mustName_222 (by decide) ?_ ?_ | refine jx_if_eq (pc := 222) (tgt := 303) dX2_mustName_222 (by decide) (by omega) ?_ ?_ | refine jw_if_eq (pc := 222) (tgt := 303) dX2_mustName_222 (by decide) ?_ ?_
        · intro h_222
          first
          | exact LT M1 6 (by decide) (res_t (i := 6) (by decide) (of_decide_eq_true h_222)) h1 hs
          | exact LF M1 (res_n (fun j hj q => of_decide_eq_false h_222 (by rw [q, hone j hj q]))) h1 hs
        · intro h_222
          refine jw_bipush (pc := 225) dX2_mustName_225 bp_6 ?_
          refine jw_istore_n (pc := 227) dX2_mustName_227 (Nat.le_of_ble_eq_true rfl) rfl ?_
          try dsimp only [jput1, jput2, jkill, jclr, jis2_i, jis2_l, jis2_rs, jis2_rn, cond]
          refine jw_goto (pc := 228) (tgt := 303) dX2_mustName_228 (by decide) ?_
          first
          | exact LT M1 6 (by decide) (res_t (i := 6) (by decide) (of_decide_eq_true h_222)) h1 hs
          | exact LF M1 (res_n (fun j hj q => of_decide_eq_false h_222 (by rw [q, hone j hj q]))) h1 hs
      by_cases e10 : r = (3433178 : Int32)
      · have hone := kw_one hl hc hr (i := 9) (by decide) (by rw [e10]; rfl)
        refine jw_lookup (pc := 25) dX2_mustName_25 (by decide +kernel) (off := 236) (by rw [e10]; decide +kernel) (tgt := 261) (by decide) ?_
        refine jw_aload_n (pc := 261) dX2_mustName_261 rfl ?_
        refine jw_ldcs (pc := 262) (js_X2_111) rfl (by decide) dX2_mustName_262 ?_
        refine jx_cVE (mi1 := mi_J3_equals) (pc := 264) rfl dX2_mustName_264 lk_X2_71 rfl fi_J3_equals rfl rfl rfl (by decide) (ho1) (t_J3_equals hG hw3 (hT 10 (by decide) (by decide)) (by omega)) (by first | decide | omega) rfl rfl (by decide) ?_
        first | refine jx_ifb_eq (pc := 267) (tgt := 303) dX2_mustName_267 (by decide) ?_ ?_ | refine jx_if_eq (pc := 267) (tgt := 303) dX2_mustName_267 (by decide) (by omega) ?_ ?_ | refine jw_if_eq (pc := 267) (tgt := 303) dX2_mustName_267 (by decide) ?_ ?_
        · intro h_267
          first
          | exact LT M1 9 (by decide) (res_t (i := 9) (by decide) (of_decide_eq_true h_267)) h1 hs
          | exact LF M1 (res_n (fun j hj q => of_decide_eq_false h_267 (by rw [q, hone j hj q]))) h1 hs
        · intro h_267
          refine jw_bipush (pc := 270) dX2_mustName_270 bp_9 ?_
          refine jw_istore_n (pc := 272) dX2_mustName_272 (Nat.le_of_ble_eq_true rfl) rfl ?_
          try dsimp only [jput1, jput2, jkill, jclr, jis2_i, jis2_l, jis2_rs, jis2_rn, cond]
          refine jw_goto (pc := 273) (tgt := 303) dX2_mustName_273 (by decide) ?_
          first
          | exact LT M1 9 (by decide) (res_t (i := 9) (by decide) (of_decide_eq_true h_267)) h1 hs
          | exact LF M1 (res_n (fun j hj q => of_decide_eq_false h_267 (by rw [q, hone j hj q]))) h1 hs
      by_cases e3 : r = (3641802 : Int32)
      · have hone := kw_one hl hc hr (i := 2) (by decide) (by rw [e3]; rfl)
        refine jw_lookup (pc := 25) dX2_mustName_25 (by decide +kernel) (off := 135) (by rw [e3]; decide +kernel) (tgt := 160) (by decide) ?_
        refine jw_aload_n (pc := 160) dX2_mustName_160 rfl ?_
        refine jw_ldcs (pc := 161) (js_X2_97) rfl (by decide) dX2_mustName_161 ?_
        refine jx_cVE (mi1 := mi_J3_equals) (pc := 163) rfl dX2_mustName_163 lk_X2_71 rfl fi_J3_equals rfl rfl rfl (by decide) (ho1) (t_J3_equals hG hw3 (hT 3 (by decide) (by decide)) (by omega)) (by first | decide | omega) rfl rfl (by decide) ?_
        first | refine jx_ifb_eq (pc := 166) (tgt := 303) dX2_mustName_166 (by decide) ?_ ?_ | refine jx_if_eq (pc := 166) (tgt := 303) dX2_mustName_166 (by decide) (by omega) ?_ ?_ | refine jw_if_eq (pc := 166) (tgt := 303) dX2_mustName_166 (by decide) ?_ ?_
        · intro h_166
          first
          | exact LT M1 2 (by decide) (res_t (i := 2) (by decide) (of_decide_eq_true h_166)) h1 hs
          | exact LF M1 (res_n (fun j hj q => of_decide_eq_false h_166 (by rw [q, hone j hj q]))) h1 hs
        · intro h_166
          refine jw_iconst (pc := 169) dX2_mustName_169 ic_2 ?_
          refine jw_istore_n (pc := 170) dX2_mustName_170 (Nat.le_of_ble_eq_true rfl) rfl ?_
          try dsimp only [jput1, jput2, jkill, jclr, jis2_i, jis2_l, jis2_rs, jis2_rn, cond]
          refine jw_goto (pc := 171) (tgt := 303) dX2_mustName_171 (by decide) ?_
          first
          | exact LT M1 2 (by decide) (res_t (i := 2) (by decide) (of_decide_eq_true h_166)) h1 hs
          | exact LF M1 (res_n (fun j hj q => of_decide_eq_false h_166 (by rw [q, hone j hj q]))) h1 hs
      by_cases e2 : r = (106748167 : Int32)
      · have hone := kw_one hl hc hr (i := 1) (by decide) (by rw [e2]; rfl)
        refine jw_lookup (pc := 25) dX2_mustName_25 (by decide +kernel) (off := 121) (by rw [e2]; decide +kernel) (tgt := 146) (by decide) ?_
        refine jw_aload_n (pc := 146) dX2_mustName_146 rfl ?_
        refine jw_ldcs (pc := 147) (js_X2_95) rfl (by decide) dX2_mustName_147 ?_
        refine jx_cVE (mi1 := mi_J3_equals) (pc := 149) rfl dX2_mustName_149 lk_X2_71 rfl fi_J3_equals rfl rfl rfl (by decide) (ho1) (t_J3_equals hG hw3 (hT 2 (by decide) (by decide)) (by omega)) (by first | decide | omega) rfl rfl (by decide) ?_
        first | refine jx_ifb_eq (pc := 152) (tgt := 303) dX2_mustName_152 (by decide) ?_ ?_ | refine jx_if_eq (pc := 152) (tgt := 303) dX2_mustName_152 (by decide) (by omega) ?_ ?_ | refine jw_if_eq (pc := 152) (tgt := 303) dX2_mustName_152 (by decide) ?_ ?_
        · intro h_152
          first
          | exact LT M1 1 (by decide) (res_t (i := 1) (by decide) (of_decide_eq_true h_152)) h1 hs
          | exact LF M1 (res_n (fun j hj q => of_decide_eq_false h_152 (by rw [q, hone j hj q]))) h1 hs
        · intro h_152
          refine jw_iconst (pc := 155) dX2_mustName_155 ic_1 ?_
          refine jw_istore_n (pc := 156) dX2_mustName_156 (Nat.le_of_ble_eq_true rfl) rfl ?_
          try dsimp only [jput1, jput2, jkill, jclr, jis2_i, jis2_l, jis2_rs, jis2_rn, cond]
          refine jw_goto (pc := 157) (tgt := 303) dX2_mustName_157 (by decide) ?_
          first
          | exact LT M1 1 (by decide) (res_t (i := 1) (by decide) (of_decide_eq_true h_152)) h1 hs
          | exact LF M1 (res_n (fun j hj q => of_decide_eq_false h_152 (by rw [q, hone j hj q]))) h1 hs
      have hno : ∀ j, j < 12 → ¬ tkV (chI σ n) n p = kwc (j + 1) := kw_no hl hc hr (fun i hi q => by
        have : i = 0 ∨ i = 1 ∨ i = 2 ∨ i = 3 ∨ i = 4 ∨ i = 5 ∨ i = 6 ∨ i = 7 ∨ i = 8 ∨ i = 9 ∨ i = 10 ∨ i = 11 := by omega
        rcases this with z | z | z | z | z | z | z | z | z | z | z | z <;> subst z <;> first | exact e1 q | exact e2 q | exact e3 q | exact e4 q | exact e5 q | exact e6 q | exact e7 q | exact e8 q | exact e9 q | exact e10 q | exact e11 q | exact e12 q)
      refine jw_lookup (pc := 25) dX2_mustName_25 (by decide +kernel) (off := 278) (off_d (fun q hq z => ?_)) (tgt := 303) (by decide) (LF M1 (res_n hno) h1 hs)
      simp only [List.mem_cons, List.not_mem_nil, or_false] at hq
      rcases hq with rfl | rfl | rfl | rfl | rfl | rfl | rfl | rfl | rfl | rfl | rfl | rfl <;> first | exact e1 (Int32.toInt_inj.mp (z.symm.trans (by decide +kernel))) | exact e2 (Int32.toInt_inj.mp (z.symm.trans (by decide +kernel))) | exact e3 (Int32.toInt_inj.mp (z.symm.trans (by decide +kernel))) | exact e4 (Int32.toInt_inj.mp (z.symm.trans (by decide +kernel))) | exact e5 (Int32.toInt_inj.mp (z.symm.trans (by decide +kernel))) | exact e6 (Int32.toInt_inj.mp (z.symm.trans (by decide +kernel))) | exact e7 (Int32.toInt_inj.mp (z.symm.trans (by decide +kernel))) | exact e8 (Int32.toInt_inj.mp (z.symm.trans (by decide +kernel))) | exact e9 (Int32.toInt_inj.mp (z.symm.trans (by decide +kernel))) | exact e10 (Int32.toInt_inj.mp (z.symm.trans (by decide +kernel))) | exact e11 (Int32.toInt_inj.mp (z.symm.trans (by decide +kernel))) | exact e12 (Int32.toInt_inj.mp (z.symm.trans (by decide +kernel)))
    refine jw_aload_n (pc := 0) dX2_mustName_0 rfl ?_
    refine jx_getIs (pc := 1) (jf_X2_47_1.r) rfl dX2_mustName_1 rfl (is_66 hS) (by decide) (ht) ?_
    refine jw_iconst (pc := 4) dX2_mustName_4 ic_2 ?_
    first | refine jx_icmp_eq (pc := 5) (tgt := 14) dX2_mustName_5 (by decide) (by omega) (by omega) ?_ ?_ | refine jw_icmp_eq (pc := 5) (tgt := 14) dX2_mustName_5 (by decide) ?_ ?_
    · intro h_5
      refine jw_aload_n (pc := 14) dX2_mustName_14 rfl ?_
      refine jx_getRs (pc := 15) (jf_X2_61_1.r) rfl dX2_mustName_15 rfl (is_66 hS) (by decide) (w1) ?_
      refine jw_astore_n (pc := 18) dX2_mustName_18 (Nat.le_of_ble_eq_true rfl) rfl ?_
      try dsimp only [jput1, jput2, jkill, jclr, jis2_i, jis2_l, jis2_rs, jis2_rn, cond]
      refine jw_iconst (pc := 19) dX2_mustName_19 ic_m1 ?_
      refine jw_istore_n (pc := 20) dX2_mustName_20 (Nat.le_of_ble_eq_true rfl) rfl ?_
      try dsimp only [jput1, jput2, jkill, jclr, jis2_i, jis2_l, jis2_rs, jis2_rn, cond]
      refine jw_aload_n (pc := 21) dX2_mustName_21 rfl ?_
      refine jx_cVi (mi1 := mi_J3_hashCode) (pc := 22) rfl dX2_mustName_22 lk_X2_89 rfl fi_J3_hashCode rfl rfl rfl (by decide) (ho) (t_J3_hashCode hG w3 (by omega) (tkV_pos hk)) (by first | decide | omega) rfl rfl (by decide) ?_
      intro x_22 M_22 q_22
      obtain ⟨⟨f, k, hl, hc, hr⟩, hH⟩ := q_22
      obtain ⟨h1, hs⟩ := h.hash ho.1 w2 hH
      refine L25 _ _ f k hl hc hr h1 hs ?_ (hH.2 _ _ w3)
      rcases hH.1 with z | ⟨x, z⟩ | ⟨x, z⟩ <;> rw [z] <;> exact w1
    · intro h_5
      omega
  · have e2 : pName (chI σ n) n p = .error (1, tkA (chI σ n) n p) := by unfold pName; rw [if_neg (fun q => hk q.1)]
    refine jw_aload_n (pc := 0) dX2_mustName_0 rfl ?_
    refine jx_getIs (pc := 1) (jf_X2_47_1.r) rfl dX2_mustName_1 rfl (is_66 hS) (by decide) (ht) ?_
    refine jw_iconst (pc := 4) dX2_mustName_4 ic_2 ?_
    first | refine jx_icmp_eq (pc := 5) (tgt := 14) dX2_mustName_5 (by decide) (by omega) (by omega) ?_ ?_ | refine jw_icmp_eq (pc := 5) (tgt := 14) dX2_mustName_5 (by decide) ?_ ?_
    · intro h_5
      omega
    · intro h_5
      refine jw_aload_n (pc := 8) dX2_mustName_8 rfl ?_
      refine jw_iconst (pc := 9) dX2_mustName_9 ic_1 ?_
      refine jx_cVE (mi1 := mi_X2_fail) (pc := 10) rfl dX2_mustName_10 lk_X2_85 rfl fi_X2_fail rfl rfl rfl (by decide) (is_66 hS) (t_X2_fail h) (by first | decide | omega) rfl rfl (by decide) ?_
      refine jw_athrow (pc := 13) dX2_mustName_13 rfl ?_
      refine jx_out67 rfl hS ?_
      exact Or.inr ⟨rfl, _, e2, h.fl⟩
end JSW
