/-! ===== x reads: names ===== -/
theorem pKn_of {c : Nat → Int32} {n s p : Nat} {V : Vt} (h : pName c n p = .ok (tkV c n p)) : pKnown c n s V p = (if nmF V (tkV c n p) < V 0 13 ∧ V 26 (nmF V (tkV c n p)) = s then .ok (V 27 (nmF V (tkV c n p))) else .error (2, tkA c n p)) := by
  unfold pKnown; rw [h]; rfl
theorem pFr_of {c : Nat → Int32} {n p : Nat} {V : Vt} (h : pName c n p = .ok (tkV c n p)) : pFresh c n V p = (if nmF V (tkV c n p) < V 0 13 then .error (3, tkA c n p) else .ok (tkV c n p, tkE c n p)) := by
  unfold pFresh; rw [h]; rfl
theorem pKn_er {c : Nat → Int32} {n s p : Nat} {V : Vt} {f : Fl} (h : pName c n p = .error f) : pKnown c n s V p = .error f := by
  unfold pKnown; rw [h]; rfl
theorem pFr_er {c : Nat → Int32} {n p : Nat} {V : Vt} {f : Fl} (h : pName c n p = .error f) : pFresh c n V p = .error f := by
  unfold pFresh; rw [h]; rfl
section JXN
variable {G : Gh} {M : Mm} {σ : Sg} {n v p zb sb' : Nat} {V : Vt}
/-- ends: a new name; a place that is known; a person that is known -/
def xFrE (M : Mm) (σ : Sg) (n v : Nat) (V : Vt) (p zb sb' : Nat) : Rs → Mm → Prop := jPt (fun r M' => ∃ a o, pFresh (chI σ n) n V p = .ok a ∧ r = some (jr (some o)) ∧ v ≤ o ∧ jTx M' o a.1 ∧ xRd M' σ n v V a.2 zb sb' ∧ xS v M M') (fun M' => ∃ f, pFresh (chI σ n) n V p = .error f ∧ xFl M M' v f zb sb')
def xPlE (M : Mm) (σ : Sg) (n v : Nat) (V : Vt) (p zb sb' : Nat) : Rs → Mm → Prop := jPt (fun r M' => ∃ a, pKnown (chI σ n) n 0 V p = .ok a ∧ a < V 0 0 ∧ r = some (.int (nI a)) ∧ tkK (chI σ n) n p = 2 ∧ xRd M' σ n v V p zb sb' ∧ xS v M M') (fun M' => ∃ f, pKnown (chI σ n) n 0 V p = .error f ∧ xFl M M' v f zb sb')
def xPsE (M : Mm) (σ : Sg) (n v : Nat) (V : Vt) (p zb sb' : Nat) : Rs → Mm → Prop := jPt (fun r M' => ∃ a q, pKnown (chI σ n) n 1 V p = .ok a ∧ a < V 0 1 ∧ r = some (jr (some q)) ∧ jm_C M' (v + 2) a = some q ∧ tkK (chI σ n) n p = 2 ∧ xRd M' σ n v V p zb sb' ∧ xS v M M') (fun M' => ∃ f, pKnown (chI σ n) n 1 V p = .error f ∧ xFl M M' v f zb sb')
theorem fnd_p {c : Nat} (hf : fstN (V 0 0) (fun k => decide (V 23 k = c)) < V 0 0) : fndO M (v + 1) (V 0 0) (V 23) c = jm_C M (v + 1) (fstN (V 0 0) (fun k => decide (V 23 k = c))) := if_pos hf
theorem fnd_q {c : Nat} (hf : fstN (V 0 1) (fun k => decide (V 24 k = c)) < V 0 1) : fndO M (v + 2) (V 0 1) (V 24) c = jm_C M (v + 2) (fstN (V 0 1) (fun k => decide (V 24 k = c))) := if_pos hf
theorem lp_nn {M9 : Mm} {o q : Nat} {d9 : Nat} (hG : jGs G) (h1 : xRd M σ n v V p zb sb') (hs : xS v M9 M) (w1 : jm_R M 66 37 = some o) (hv : jVs M v) (w3 : jTx M o (tkV (chI σ n) n p)) (hfr : pFresh (chI σ n) n V p = .error (3, tkA (chI σ n) n p)) (e9 : jE G mi_X6_find 4 [jr (some v), jr (some o)] M (some (jr (some q))) M) : jW G mi_X2_newName 8 M9 4 (jent [jr (some 66)] mi_X2_newName.2.2.1) [] M (xFrE M9 σ n v V p zb sb') := by
  have hS := h1.S
  refine jw_aload_n (pc := 4) dX2_newName_4 rfl ?_
  refine jx_getRs (pc := 5) (jf_X2_120_1.r) rfl dX2_newName_5 rfl (is_66 hS) (by decide) (h1.1.2.2.2.2.2.1) ?_
  refine jw_aload_n (pc := 8) dX2_newName_8 rfl ?_
  refine jx_getRs (pc := 9) (jf_X2_61_1.r) rfl dX2_newName_9 rfl (is_66 hS) (by decide) (w1) ?_
  refine jx_cVE (mi1 := mi_X6_find) (pc := 12) rfl dX2_newName_12 lk_X2_124 rfl fi_X6_find rfl rfl rfl (by decide) (vis hv) (e9) (by first | decide | omega) rfl rfl (by decide) ?_
  refine jw_ifnull (pc := 15) (tgt := 24) dX2_newName_15 (by decide) (fun h => by cases h) (fun ax h => ?_)
  clear h
  refine jw_aload_n (pc := 18) dX2_newName_18 rfl ?_
  refine jw_iconst (pc := 19) dX2_newName_19 ic_3 ?_
  refine jx_cVE (mi1 := mi_X2_fail) (pc := 20) rfl dX2_newName_20 lk_X2_85 rfl fi_X2_fail rfl rfl rfl (by decide) (is_66 hS) (t_X2_fail h1) (by first | decide | omega) rfl rfl (by decide) ?_
  refine jw_athrow (pc := 23) dX2_newName_23 rfl ?_
  refine jx_out67 rfl hS ?_
  exact Or.inr ⟨rfl, _, hfr, h1.fl.tr hs.1⟩
theorem lp_nf {M9 : Mm} {o q : Nat} {d9 : Nat} (hG : jGs G) (h1 : xRd M σ n v V p zb sb') (hs : xS v M9 M) (w1 : jm_R M 66 37 = some o) (hv : jVs M v) (w3 : jTx M o (tkV (chI σ n) n p)) (hfr : pFresh (chI σ n) n V p = .ok (tkV (chI σ n) n p, tkE (chI σ n) n p)) (wv : v ≤ o) (e9 : jE G mi_X6_find 4 [jr (some v), jr (some o)] M (some (jr (none))) M) : jW G mi_X2_newName 8 M9 4 (jent [jr (some 66)] mi_X2_newName.2.2.1) [] M (xFrE M9 σ n v V p zb sb') := by
  have hS := h1.S
  refine jw_aload_n (pc := 4) dX2_newName_4 rfl ?_
  refine jx_getRs (pc := 5) (jf_X2_120_1.r) rfl dX2_newName_5 rfl (is_66 hS) (by decide) (h1.1.2.2.2.2.2.1) ?_
  refine jw_aload_n (pc := 8) dX2_newName_8 rfl ?_
  refine jx_getRs (pc := 9) (jf_X2_61_1.r) rfl dX2_newName_9 rfl (is_66 hS) (by decide) (w1) ?_
  refine jx_cVE (mi1 := mi_X6_find) (pc := 12) rfl dX2_newName_12 lk_X2_124 rfl fi_X6_find rfl rfl rfl (by decide) (vis hv) (e9) (by first | decide | omega) rfl rfl (by decide) ?_
  refine jw_ifnull (pc := 15) (tgt := 24) dX2_newName_15 (by decide) (fun h => ?_) (fun ax h => by cases h)
  clear h
  refine jw_aload_n (pc := 24) dX2_newName_24 rfl ?_
  refine jx_getRs (pc := 25) (jf_X2_61_1.r) rfl dX2_newName_25 rfl (is_66 hS) (by decide) (w1) ?_
  refine jw_astore_n (pc := 28) dX2_newName_28 (Nat.le_of_ble_eq_true rfl) rfl ?_
  try dsimp only [jput1, jput2, jkill, jclr, jis2_i, jis2_l, jis2_rs, jis2_rn, cond]
  refine jw_aload_n (pc := 29) dX2_newName_29 rfl ?_
  refine jx_cVv (mi1 := mi_X2_next) (pc := 30) rfl dX2_newName_30 lk_X2_79 rfl fi_X2_next rfl rfl rfl (by decide) (is_66 hS) (h1.next hG) (by first | decide | omega) rfl rfl (by decide) ?_
  intro M_30 q_30
  refine jw_aload_n (pc := 33) dX2_newName_33 rfl ?_
  refine jw_areturn (pc := 34) dX2_newName_34 rfl (Or.inl ⟨_, rfl⟩) ?_
  exact Or.inl ⟨_, rfl, (tkV (chI σ n) n p, tkE (chI σ n) n p), o, hfr, rfl, wv, q_30.2.2.2.2 _ _ w3, q_30.1, hs.tr q_30.2⟩
theorem lp_ph {M9 : Mm} {o q : Nat} {d9 : Nat} (hG : jGs G) (h1 : xRd M σ n v V p zb sb') (hs : xS v M9 M) (w1 : jm_R M 66 37 = some o) (hv : jVs M v) {a : Nat} (hfr : pKnown (chI σ n) n 0 V p = .ok a) (ha : a < V 0 0) (e2 : tkK (chI σ n) n p = 2) (c2 : jis M q 6) (c4 : jm_I M q 111 = nI a) (e9 : jE G mi_X6_find 4 [jr (some v), jr (some o)] M (some (jr (some q))) M) : jW G mi_X2_placeHere 8 M9 4 (jent [jr (some 66)] mi_X2_placeHere.2.2.1) [] M (xPlE M9 σ n v V p zb sb') := by
  have hS := h1.S
  refine jw_aload_n (pc := 4) dX2_placeHere_4 rfl ?_
  refine jx_getRs (pc := 5) (jf_X2_120_1.r) rfl dX2_placeHere_5 rfl (is_66 hS) (by decide) (h1.1.2.2.2.2.2.1) ?_
  refine jw_aload_n (pc := 8) dX2_placeHere_8 rfl ?_
  refine jx_getRs (pc := 9) (jf_X2_61_1.r) rfl dX2_placeHere_9 rfl (is_66 hS) (by decide) (w1) ?_
  refine jx_cVE (mi1 := mi_X6_find) (pc := 12) rfl dX2_placeHere_12 lk_X2_124 rfl fi_X6_find rfl rfl rfl (by decide) (vis hv) (e9) (by first | decide | omega) rfl rfl (by decide) ?_
  refine jw_astore_n (pc := 15) dX2_placeHere_15 (Nat.le_of_ble_eq_true rfl) rfl ?_
  try dsimp only [jput1, jput2, jkill, jclr, jis2_i, jis2_l, jis2_rs, jis2_rn, cond]
  refine jw_aload_n (pc := 16) dX2_placeHere_16 rfl ?_
  refine jw_instE (c := 6) (pc := 17)  rfl q763 dX2_placeHere_17 rfl c2.1 (by decide) c2.2.1 rfl rfl ?_
  first | refine jx_ifb_ne (pc := 20) (tgt := 29) dX2_placeHere_20 (by decide) ?_ ?_ | refine jx_if_ne (pc := 20) (tgt := 29) dX2_placeHere_20 (by decide) (by omega) ?_ ?_ | refine jw_if_ne (pc := 20) (tgt := 29) dX2_placeHere_20 (by decide) ?_ ?_
  · intro h_20
    refine jw_aload_n (pc := 29) dX2_placeHere_29 rfl ?_
    refine jx_getIs (pc := 30) jg_X2_132_6 rfl dX2_placeHere_30 rfl (c2) (by decide) (c4) ?_
    refine jw_ireturn (pc := 33) dX2_placeHere_33 rfl (rfl) ?_
    exact Or.inl ⟨_, rfl, a, hfr, ha, rfl, e2, h1, hs⟩
  · intro h_20
    first | exact absurd h_20 (by decide) | exact absurd h_20 (by decide +kernel) | cases h_20
theorem lp_phq {M9 : Mm} {o q : Nat} {d9 : Nat} (hG : jGs G) (h1 : xRd M σ n v V p zb sb') (hs : xS v M9 M) (w1 : jm_R M 66 37 = some o) (hv : jVs M v) (hfr : pKnown (chI σ n) n 0 V p = .error (2, tkA (chI σ n) n p)) (c2 : jis M q 7) (e9 : jE G mi_X6_find 4 [jr (some v), jr (some o)] M (some (jr (some q))) M) : jW G mi_X2_placeHere 8 M9 4 (jent [jr (some 66)] mi_X2_placeHere.2.2.1) [] M (xPlE M9 σ n v V p zb sb') := by
  have hS := h1.S
  refine jw_aload_n (pc := 4) dX2_placeHere_4 rfl ?_
  refine jx_getRs (pc := 5) (jf_X2_120_1.r) rfl dX2_placeHere_5 rfl (is_66 hS) (by decide) (h1.1.2.2.2.2.2.1) ?_
  refine jw_aload_n (pc := 8) dX2_placeHere_8 rfl ?_
  refine jx_getRs (pc := 9) (jf_X2_61_1.r) rfl dX2_placeHere_9 rfl (is_66 hS) (by decide) (w1) ?_
  refine jx_cVE (mi1 := mi_X6_find) (pc := 12) rfl dX2_placeHere_12 lk_X2_124 rfl fi_X6_find rfl rfl rfl (by decide) (vis hv) (e9) (by first | decide | omega) rfl rfl (by decide) ?_
  refine jw_astore_n (pc := 15) dX2_placeHere_15 (Nat.le_of_ble_eq_true rfl) rfl ?_
  try dsimp only [jput1, jput2, jkill, jclr, jis2_i, jis2_l, jis2_rs, jis2_rn, cond]
  refine jw_aload_n (pc := 16) dX2_placeHere_16 rfl ?_
  refine jw_instNo (c := 7) (pc := 17)  rfl q763 dX2_placeHere_17 rfl c2.1 (by decide) c2.2.1 rfl (by decide) ?_
  first | refine jx_ifb_ne (pc := 20) (tgt := 29) dX2_placeHere_20 (by decide) ?_ ?_ | refine jx_if_ne (pc := 20) (tgt := 29) dX2_placeHere_20 (by decide) (by omega) ?_ ?_ | refine jw_if_ne (pc := 20) (tgt := 29) dX2_placeHere_20 (by decide) ?_ ?_
  · intro h_20
    first | exact absurd rfl h_20 | exact absurd h_20 (by decide) | cases h_20
  · intro h_20
    refine jw_aload_n (pc := 23) dX2_placeHere_23 rfl ?_
    refine jw_iconst (pc := 24) dX2_placeHere_24 ic_2 ?_
    refine jx_cVE (mi1 := mi_X2_fail) (pc := 25) rfl dX2_placeHere_25 lk_X2_85 rfl fi_X2_fail rfl rfl rfl (by decide) (is_66 hS) (t_X2_fail h1) (by first | decide | omega) rfl rfl (by decide) ?_
    refine jw_athrow (pc := 28) dX2_placeHere_28 rfl ?_
    refine jx_out67 rfl hS ?_
    exact Or.inr ⟨rfl, _, hfr, h1.fl.tr hs.1⟩
theorem lp_phn {M9 : Mm} {o q : Nat} {d9 : Nat} (hG : jGs G) (h1 : xRd M σ n v V p zb sb') (hs : xS v M9 M) (w1 : jm_R M 66 37 = some o) (hv : jVs M v) (hfr : pKnown (chI σ n) n 0 V p = .error (2, tkA (chI σ n) n p)) (e9 : jE G mi_X6_find 4 [jr (some v), jr (some o)] M (some (jr (none))) M) : jW G mi_X2_placeHere 8 M9 4 (jent [jr (some 66)] mi_X2_placeHere.2.2.1) [] M (xPlE M9 σ n v V p zb sb') := by
  have hS := h1.S
  refine jw_aload_n (pc := 4) dX2_placeHere_4 rfl ?_
  refine jx_getRs (pc := 5) (jf_X2_120_1.r) rfl dX2_placeHere_5 rfl (is_66 hS) (by decide) (h1.1.2.2.2.2.2.1) ?_
  refine jw_aload_n (pc := 8) dX2_placeHere_8 rfl ?_
  refine jx_getRs (pc := 9) (jf_X2_61_1.r) rfl dX2_placeHere_9 rfl (is_66 hS) (by decide) (w1) ?_
  refine jx_cVE (mi1 := mi_X6_find) (pc := 12) rfl dX2_placeHere_12 lk_X2_124 rfl fi_X6_find rfl rfl rfl (by decide) (vis hv) (e9) (by first | decide | omega) rfl rfl (by decide) ?_
  refine jw_astore_n (pc := 15) dX2_placeHere_15 (Nat.le_of_ble_eq_true rfl) rfl ?_
  try dsimp only [jput1, jput2, jkill, jclr, jis2_i, jis2_l, jis2_rs, jis2_rn, cond]
  refine jw_aload_n (pc := 16) dX2_placeHere_16 rfl ?_
  refine jw_instNull (pc := 17)  dX2_placeHere_17 ?_
  first | refine jx_ifb_ne (pc := 20) (tgt := 29) dX2_placeHere_20 (by decide) ?_ ?_ | refine jx_if_ne (pc := 20) (tgt := 29) dX2_placeHere_20 (by decide) (by omega) ?_ ?_ | refine jw_if_ne (pc := 20) (tgt := 29) dX2_placeHere_20 (by decide) ?_ ?_
  · intro h_20
    first | exact absurd rfl h_20 | exact absurd h_20 (by decide) | cases h_20
  · intro h_20
    refine jw_aload_n (pc := 23) dX2_placeHere_23 rfl ?_
    refine jw_iconst (pc := 24) dX2_placeHere_24 ic_2 ?_
    refine jx_cVE (mi1 := mi_X2_fail) (pc := 25) rfl dX2_placeHere_25 lk_X2_85 rfl fi_X2_fail rfl rfl rfl (by decide) (is_66 hS) (t_X2_fail h1) (by first | decide | omega) rfl rfl (by decide) ?_
    refine jw_athrow (pc := 28) dX2_placeHere_28 rfl ?_
    refine jx_out67 rfl hS ?_
    exact Or.inr ⟨rfl, _, hfr, h1.fl.tr hs.1⟩
theorem lp_qh {M9 : Mm} {o q : Nat} {d9 : Nat} (hG : jGs G) (h1 : xRd M σ n v V p zb sb') (hs : xS v M9 M) (w1 : jm_R M 66 37 = some o) (hv : jVs M v) {a : Nat} (hfr : pKnown (chI σ n) n 1 V p = .ok a) (ha : a < V 0 1) (e2 : tkK (chI σ n) n p = 2) (c1 : jm_C M (v + 2) a = some q) (c2 : jis M q 7) (e9 : jE G mi_X6_find 4 [jr (some v), jr (some o)] M (some (jr (some q))) M) : jW G mi_X2_personHere 8 M9 4 (jent [jr (some 66)] mi_X2_personHere.2.2.1) [] M (xPsE M9 σ n v V p zb sb') := by
  have hS := h1.S
  refine jw_aload_n (pc := 4) dX2_personHere_4 rfl ?_
  refine jx_getRs (pc := 5) (jf_X2_120_1.r) rfl dX2_personHere_5 rfl (is_66 hS) (by decide) (h1.1.2.2.2.2.2.1) ?_
  refine jw_aload_n (pc := 8) dX2_personHere_8 rfl ?_
  refine jx_getRs (pc := 9) (jf_X2_61_1.r) rfl dX2_personHere_9 rfl (is_66 hS) (by decide) (w1) ?_
  refine jx_cVE (mi1 := mi_X6_find) (pc := 12) rfl dX2_personHere_12 lk_X2_124 rfl fi_X6_find rfl rfl rfl (by decide) (vis hv) (e9) (by first | decide | omega) rfl rfl (by decide) ?_
  refine jw_astore_n (pc := 15) dX2_personHere_15 (Nat.le_of_ble_eq_true rfl) rfl ?_
  try dsimp only [jput1, jput2, jkill, jclr, jis2_i, jis2_l, jis2_rs, jis2_rn, cond]
  refine jw_aload_n (pc := 16) dX2_personHere_16 rfl ?_
  refine jw_instE (c := 7) (pc := 17)  rfl q856 dX2_personHere_17 rfl c2.1 (by decide) c2.2.1 rfl rfl ?_
  first | refine jx_ifb_ne (pc := 20) (tgt := 29) dX2_personHere_20 (by decide) ?_ ?_ | refine jx_if_ne (pc := 20) (tgt := 29) dX2_personHere_20 (by decide) (by omega) ?_ ?_ | refine jw_if_ne (pc := 20) (tgt := 29) dX2_personHere_20 (by decide) ?_ ?_
  · intro h_20
    refine jw_aload_n (pc := 29) dX2_personHere_29 rfl ?_
    refine jw_castE (c := 7) (pc := 30)  rfl q856 dX2_personHere_30 rfl c2.1 (by decide) c2.2.1 rfl rfl ?_
    refine jw_areturn (pc := 33) dX2_personHere_33 rfl (Or.inl ⟨_, rfl⟩) ?_
    exact Or.inl ⟨_, rfl, a, q, hfr, ha, rfl, c1, e2, h1, hs⟩
  · intro h_20
    first | exact absurd h_20 (by decide) | exact absurd h_20 (by decide +kernel) | cases h_20
theorem lp_qhp {M9 : Mm} {o q : Nat} {d9 : Nat} (hG : jGs G) (h1 : xRd M σ n v V p zb sb') (hs : xS v M9 M) (w1 : jm_R M 66 37 = some o) (hv : jVs M v) (hfr : pKnown (chI σ n) n 1 V p = .error (2, tkA (chI σ n) n p)) (c2 : jis M q 6) (e9 : jE G mi_X6_find 4 [jr (some v), jr (some o)] M (some (jr (some q))) M) : jW G mi_X2_personHere 8 M9 4 (jent [jr (some 66)] mi_X2_personHere.2.2.1) [] M (xPsE M9 σ n v V p zb sb') := by
  have hS := h1.S
  refine jw_aload_n (pc := 4) dX2_personHere_4 rfl ?_
  refine jx_getRs (pc := 5) (jf_X2_120_1.r) rfl dX2_personHere_5 rfl (is_66 hS) (by decide) (h1.1.2.2.2.2.2.1) ?_
  refine jw_aload_n (pc := 8) dX2_personHere_8 rfl ?_
  refine jx_getRs (pc := 9) (jf_X2_61_1.r) rfl dX2_personHere_9 rfl (is_66 hS) (by decide) (w1) ?_
  refine jx_cVE (mi1 := mi_X6_find) (pc := 12) rfl dX2_personHere_12 lk_X2_124 rfl fi_X6_find rfl rfl rfl (by decide) (vis hv) (e9) (by first | decide | omega) rfl rfl (by decide) ?_
  refine jw_astore_n (pc := 15) dX2_personHere_15 (Nat.le_of_ble_eq_true rfl) rfl ?_
  try dsimp only [jput1, jput2, jkill, jclr, jis2_i, jis2_l, jis2_rs, jis2_rn, cond]
  refine jw_aload_n (pc := 16) dX2_personHere_16 rfl ?_
  refine jw_instNo (c := 6) (pc := 17)  rfl q856 dX2_personHere_17 rfl c2.1 (by decide) c2.2.1 rfl (by decide) ?_
  first | refine jx_ifb_ne (pc := 20) (tgt := 29) dX2_personHere_20 (by decide) ?_ ?_ | refine jx_if_ne (pc := 20) (tgt := 29) dX2_personHere_20 (by decide) (by omega) ?_ ?_ | refine jw_if_ne (pc := 20) (tgt := 29) dX2_personHere_20 (by decide) ?_ ?_
  · intro h_20
    first | exact absurd rfl h_20 | exact absurd h_20 (by decide) | cases h_20
  · intro h_20
    refine jw_aload_n (pc := 23) dX2_personHere_23 rfl ?_
    refine jw_iconst (pc := 24) dX2_personHere_24 ic_2 ?_
    refine jx_cVE (mi1 := mi_X2_fail) (pc := 25) rfl dX2_personHere_25 lk_X2_85 rfl fi_X2_fail rfl rfl rfl (by decide) (is_66 hS) (t_X2_fail h1) (by first | decide | omega) rfl rfl (by decide) ?_
    refine jw_athrow (pc := 28) dX2_personHere_28 rfl ?_
    refine jx_out67 rfl hS ?_
    exact Or.inr ⟨rfl, _, hfr, h1.fl.tr hs.1⟩
theorem lp_qhn {M9 : Mm} {o q : Nat} {d9 : Nat} (hG : jGs G) (h1 : xRd M σ n v V p zb sb') (hs : xS v M9 M) (w1 : jm_R M 66 37 = some o) (hv : jVs M v) (hfr : pKnown (chI σ n) n 1 V p = .error (2, tkA (chI σ n) n p)) (e9 : jE G mi_X6_find 4 [jr (some v), jr (some o)] M (some (jr (none))) M) : jW G mi_X2_personHere 8 M9 4 (jent [jr (some 66)] mi_X2_personHere.2.2.1) [] M (xPsE M9 σ n v V p zb sb') := by
  have hS := h1.S
  refine jw_aload_n (pc := 4) dX2_personHere_4 rfl ?_
  refine jx_getRs (pc := 5) (jf_X2_120_1.r) rfl dX2_personHere_5 rfl (is_66 hS) (by decide) (h1.1.2.2.2.2.2.1) ?_
  refine jw_aload_n (pc := 8) dX2_personHere_8 rfl ?_
  refine jx_getRs (pc := 9) (jf_X2_61_1.r) rfl dX2_personHere_9 rfl (is_66 hS) (by decide) (w1) ?_
  refine jx_cVE (mi1 := mi_X6_find) (pc := 12) rfl dX2_personHere_12 lk_X2_124 rfl fi_X6_find rfl rfl rfl (by decide) (vis hv) (e9) (by first | decide | omega) rfl rfl (by decide) ?_
  refine jw_astore_n (pc := 15) dX2_personHere_15 (Nat.le_of_ble_eq_true rfl) rfl ?_
  try dsimp only [jput1, jput2, jkill, jclr, jis2_i, jis2_l, jis2_rs, jis2_rn, cond]
  refine jw_aload_n (pc := 16) dX2_personHere_16 rfl ?_
  refine jw_instNull (pc := 17)  dX2_personHere_17 ?_
  first | refine jx_ifb_ne (pc := 20) (tgt := 29) dX2_personHere_20 (by decide) ?_ ?_ | refine jx_if_ne (pc := 20) (tgt := 29) dX2_personHere_20 (by decide) (by omega) ?_ ?_ | refine jw_if_ne (pc := 20) (tgt := 29) dX2_personHere_20 (by decide) ?_ ?_
  · intro h_20
    first | exact absurd rfl h_20 | exact absurd h_20 (by decide) | cases h_20
  · intro h_20
    refine jw_aload_n (pc := 23) dX2_personHere_23 rfl ?_
    refine jw_iconst (pc := 24) dX2_personHere_24 ic_2 ?_
    refine jx_cVE (mi1 := mi_X2_fail) (pc := 25) rfl dX2_personHere_25 lk_X2_85 rfl fi_X2_fail rfl rfl rfl (by decide) (is_66 hS) (t_X2_fail h1) (by first | decide | omega) rfl rfl (by decide) ?_
    refine jw_athrow (pc := 28) dX2_personHere_28 rfl ?_
    refine jx_out67 rfl hS ?_
    exact Or.inr ⟨rfl, _, hfr, h1.fl.tr hs.1⟩
theorem t_X2_newName (hG : jGs G) (h : xRd M σ n v V p zb sb') : jT G mi_X2_newName 8 [jr (some 66)] M (xFrE M σ n v V p zb sb') := by
  have hS := h.S
  refine jT.of (by decide) rfl (Nat.le_of_ble_eq_true rfl) ?_
  refine jw_aload_n (pc := 0) dX2_newName_0 rfl ?_
  refine jx_cVt (mi1 := mi_X2_mustName) (pc := 1) rfl dX2_newName_1 lk_X2_117 rfl fi_X2_mustName rfl rfl rfl (by decide) (is_66 hS) (t_X2_mustName hG h) (by first | decide | omega) rfl rfl (by decide) ?_ ?_
  rotate_left
  · intro M_1 q_1
    obtain ⟨f, e1, e2⟩ := q_1
    refine jx_out67 rfl e2.2.2.2.1 ?_
    exact Or.inr ⟨rfl, f, pFr_er e1, e2⟩
  intro v_1 M_1 q_1
  obtain ⟨e0, e1, e2, h1, hs⟩ := q_1
  subst e0
  have hS := h1.S
  dsimp only [Option.toList, List.nil_append, List.cons_append]
  obtain ⟨o, w1, w2, w3⟩ := h1.1.2.2.2.2.1.2.2.2.2.2 e2
  have hv := h1.2.1.1
  have hfr := pFr_of (V := V) e1
  by_cases hf : nmF V (tkV (chI σ n) n p) < V 0 13
  · rw [if_pos hf] at hfr
    rcases h1.2.2.2.2.2.1 _ hf with ⟨a1, -⟩ | ⟨a1, -⟩
    · obtain ⟨b1, b2⟩ := nw_place h1.2.2.2.2 hf a1
      obtain ⟨q, o2, c1, c2, c3, -⟩ := h1.2.2.1.1 _ b1
      exact lp_nn (d9 := 0) hG h1 hs w1 hv w3 hfr (t_X6_findP hG h1.2.1 h1.2.2.1 h1.2.2.2.1 w3 ((fnd_p (by rw [b2]; exact b1)).trans (by rw [b2]; exact c1)))
    · obtain ⟨b1, b2, b3⟩ := nw_person h1.2.2.2.2 hf a1
      obtain ⟨q, o2, c1, c2, c3, -⟩ := h1.2.2.1.2 _ b1
      have e9 := t_X6_findQ hG h1.2.1 h1.2.2.1 h1.2.2.2.1 w3 (if_neg b2)
      rw [fnd_q (by rw [b3]; exact b1), b3, c1] at e9
      exact lp_nn (d9 := 0) hG h1 hs w1 hv w3 hfr e9
  · rw [if_neg hf] at hfr
    obtain ⟨b1, b2⟩ := nw_none h1.2.2.2.2 hf
    have e9 := t_X6_findQ hG h1.2.1 h1.2.2.1 h1.2.2.2.1 w3 (if_neg b1)
    rw [show fndO M_1 (v + 2) (V 0 1) (V 24) (tkV (chI σ n) n p) = none from if_neg b2] at e9
    exact lp_nf (q := 0) (d9 := 0) hG h1 hs w1 hv w3 hfr w2 e9
theorem t_X2_placeHere (hG : jGs G) (h : xRd M σ n v V p zb sb') : jT G mi_X2_placeHere 8 [jr (some 66)] M (xPlE M σ n v V p zb sb') := by
  have hS := h.S
  refine jT.of (by decide) rfl (Nat.le_of_ble_eq_true rfl) ?_
  refine jw_aload_n (pc := 0) dX2_placeHere_0 rfl ?_
  refine jx_cVt (mi1 := mi_X2_mustName) (pc := 1) rfl dX2_placeHere_1 lk_X2_117 rfl fi_X2_mustName rfl rfl rfl (by decide) (is_66 hS) (t_X2_mustName hG h) (by first | decide | omega) rfl rfl (by decide) ?_ ?_
  rotate_left
  · intro M_1 q_1
    obtain ⟨f, e1, e2⟩ := q_1
    refine jx_out67 rfl e2.2.2.2.1 ?_
    exact Or.inr ⟨rfl, f, pKn_er e1, e2⟩
  intro v_1 M_1 q_1
  obtain ⟨e0, e1, e2, h1, hs⟩ := q_1
  subst e0
  have hS := h1.S
  dsimp only [Option.toList, List.nil_append, List.cons_append]
  obtain ⟨o, w1, w2, w3⟩ := h1.1.2.2.2.2.1.2.2.2.2.2 e2
  have hv := h1.2.1.1
  have hfr := pKn_of (V := V) (s := 0) e1
  by_cases hf : nmF V (tkV (chI σ n) n p) < V 0 13
  · rcases h1.2.2.2.2.2.1 _ hf with ⟨a1, -⟩ | ⟨a1, -⟩
    · rw [if_pos ⟨hf, a1⟩] at hfr
      obtain ⟨b1, b2⟩ := nw_place h1.2.2.2.2 hf a1
      obtain ⟨q, c1, c2, c3, c4, -⟩ := h1.2.1.2.2.2.1 _ b1
      exact lp_ph (d9 := 0) hG h1 hs w1 hv hfr b1 e2 c2 c4 (t_X6_findP hG h1.2.1 h1.2.2.1 h1.2.2.2.1 w3 ((fnd_p (by rw [b2]; exact b1)).trans (by rw [b2]; exact c1)))
    · rw [if_neg (fun q => by omega)] at hfr
      obtain ⟨b1, b2, b3⟩ := nw_person h1.2.2.2.2 hf a1
      obtain ⟨q, o2, c1, c2, c3, -⟩ := h1.2.2.1.2 _ b1
      have e9 := t_X6_findQ hG h1.2.1 h1.2.2.1 h1.2.2.2.1 w3 (if_neg b2)
      rw [fnd_q (by rw [b3]; exact b1), b3, c1] at e9
      exact lp_phq (d9 := 0) hG h1 hs w1 hv hfr c2 e9
  · rw [if_neg (fun q => hf q.1)] at hfr
    obtain ⟨b1, b2⟩ := nw_none h1.2.2.2.2 hf
    have e9 := t_X6_findQ hG h1.2.1 h1.2.2.1 h1.2.2.2.1 w3 (if_neg b1)
    rw [show fndO M_1 (v + 2) (V 0 1) (V 24) (tkV (chI σ n) n p) = none from if_neg b2] at e9
    exact lp_phn (q := 0) (d9 := 0) hG h1 hs w1 hv hfr e9
theorem t_X2_personHere (hG : jGs G) (h : xRd M σ n v V p zb sb') : jT G mi_X2_personHere 8 [jr (some 66)] M (xPsE M σ n v V p zb sb') := by
  have hS := h.S
  refine jT.of (by decide) rfl (Nat.le_of_ble_eq_true rfl) ?_
  refine jw_aload_n (pc := 0) dX2_personHere_0 rfl ?_
  refine jx_cVt (mi1 := mi_X2_mustName) (pc := 1) rfl dX2_personHere_1 lk_X2_117 rfl fi_X2_mustName rfl rfl rfl (by decide) (is_66 hS) (t_X2_mustName hG h) (by first | decide | omega) rfl rfl (by decide) ?_ ?_
  rotate_left
  · intro M_1 q_1
    obtain ⟨f, e1, e2⟩ := q_1
    refine jx_out67 rfl e2.2.2.2.1 ?_
    exact Or.inr ⟨rfl, f, pKn_er e1, e2⟩
  intro v_1 M_1 q_1
  obtain ⟨e0, e1, e2, h1, hs⟩ := q_1
  subst e0
  have hS := h1.S
  dsimp only [Option.toList, List.nil_append, List.cons_append]
  obtain ⟨o, w1, w2, w3⟩ := h1.1.2.2.2.2.1.2.2.2.2.2 e2
  have hv := h1.2.1.1
  have hfr := pKn_of (V := V) (s := 1) e1
  by_cases hf : nmF V (tkV (chI σ n) n p) < V 0 13
  · rcases h1.2.2.2.2.2.1 _ hf with ⟨a1, -⟩ | ⟨a1, -⟩
    · rw [if_neg (fun q => by omega)] at hfr
      obtain ⟨b1, b2⟩ := nw_place h1.2.2.2.2 hf a1
      obtain ⟨q, o2, c1, c2, c3, -⟩ := h1.2.2.1.1 _ b1
      exact lp_qhp (d9 := 0) hG h1 hs w1 hv hfr c2 (t_X6_findP hG h1.2.1 h1.2.2.1 h1.2.2.2.1 w3 ((fnd_p (by rw [b2]; exact b1)).trans (by rw [b2]; exact c1)))
    · rw [if_pos ⟨hf, a1⟩] at hfr
      obtain ⟨b1, b2, b3⟩ := nw_person h1.2.2.2.2 hf a1
      obtain ⟨q, o2, c1, c2, c3, -⟩ := h1.2.2.1.2 _ b1
      have e9 := t_X6_findQ hG h1.2.1 h1.2.2.1 h1.2.2.2.1 w3 (if_neg b2)
      rw [fnd_q (by rw [b3]; exact b1), b3, c1] at e9
      exact lp_qh (d9 := 0) hG h1 hs w1 hv hfr b1 e2 c1 c2 e9
  · rw [if_neg (fun q => hf q.1)] at hfr
    obtain ⟨b1, b2⟩ := nw_none h1.2.2.2.2 hf
    have e9 := t_X6_findQ hG h1.2.1 h1.2.2.1 h1.2.2.2.1 w3 (if_neg b1)
    rw [show fndO M_1 (v + 2) (V 0 1) (V 24) (tkV (chI σ n) n p) = none from if_neg b2] at e9
    exact lp_qhn (q := 0) (d9 := 0) hG h1 hs w1 hv hfr e9
theorem t_X2_place (hG : jGs G) (h : xRd M σ n v V p zb sb') : jT G mi_X2_place 9 [jr (some 66)] M (xN M σ n v V zb sb' (pKnownN (chI σ n) n 0 V p)) := by
  have hS := h.S
  refine jT.of (by decide) rfl (Nat.le_of_ble_eq_true rfl) ?_
  refine jw_aload_n (pc := 0) dX2_place_0 rfl ?_
  refine jx_cVt (mi1 := mi_X2_placeHere) (pc := 1) rfl dX2_place_1 lk_X2_137 rfl fi_X2_placeHere rfl rfl rfl (by decide) (is_66 hS) (t_X2_placeHere hG h) (by first | decide | omega) rfl rfl (by decide) ?_ ?_
  rotate_left
  · intro M_1 q_1
    obtain ⟨f, e1, e2⟩ := q_1
    refine jx_out67 rfl e2.2.2.2.1 ?_
    exact Or.inr ⟨rfl, f, by unfold pKnownN; rw [e1]; rfl, e2⟩
  intro v_1 M_1 q_1
  obtain ⟨a, e1, e2, e3, e4, h1, hs⟩ := q_1
  subst e3
  have hS := h1.S
  dsimp only [Option.toList, List.nil_append, List.cons_append]
  refine jw_istore_n (pc := 4) dX2_place_4 (Nat.le_of_ble_eq_true rfl) rfl ?_
  try dsimp only [jput1, jput2, jkill, jclr, jis2_i, jis2_l, jis2_rs, jis2_rn, cond]
  refine jw_aload_n (pc := 5) dX2_place_5 rfl ?_
  refine jx_cVv (mi1 := mi_X2_next) (pc := 6) rfl dX2_place_6 lk_X2_79 rfl fi_X2_next rfl rfl rfl (by decide) (is_66 hS) (h1.next hG) (by first | decide | omega) rfl rfl (by decide) ?_
  intro M_6 q_6
  refine jw_iload_n (pc := 9) dX2_place_9 rfl ?_
  refine jw_ireturn (pc := 10) dX2_place_10 rfl (rfl) ?_
  exact Or.inl ⟨_, rfl, (a, tkE (chI σ n) n p), by unfold pKnownN; rw [e1]; rfl, rfl, q_6.1, hs.tr q_6.2⟩
end JXN
