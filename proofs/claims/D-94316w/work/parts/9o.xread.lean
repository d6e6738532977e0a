/-! ===== x reads: a valley ===== -/
section JRD
variable {G : Gh} {M : Mm} {σ : Sg} {n v p zb sb' : Nat} {V : Vt}
/-- the end of a reading, seen from where lines begin -/
def xR (M : Mm) (σ : Sg) (n v zb sb' : Nat) (R : Except Fl (Vt × Nat)) : Rs → Mm → Prop := jPt (fun r M' => r = some (jr (some v)) ∧ ∃ a, R = .ok a ∧ xRd M' σ n v a.1 a.2 (zb + 6 * 902) (sb' + 20 * 902) ∧ jsm (xE v) M M') (fun M' => ∃ f, R = .error f ∧ xFl M M' v f (zb + 6 * 902) (sb' + 20 * 902))
/-- what is read behind a line -/
def rdT (c : Nat → Int32) (n k : Nat) (V : Vt) (p : Nat) : Except Fl (Vt × Nat) := rdF c n (if tkK c n p = 59 then rdN c n k V (tkE c n p) else .ok (V, p))
theorem rdT_59 {c : Nat → Int32} {k : Nat} (h : tkK c n p = 59) : rdT c n (k + 1) V p = (lLine c n V (tkE c n p)).bind (fun r => rdT c n k r.1 r.2) := by
  unfold rdT
  rw [if_pos h]
  show rdF c n ((lLine c n V (tkE c n p)).bind _) = _
  cases lLine c n V (tkE c n p) with
  | error f => rfl
  | ok r => rfl
theorem rdT_no {c : Nat → Int32} {k : Nat} (h : ¬ tkK c n p = 59) : rdT c n k V p = (rdE c n (V, p)).bind (fun V => .ok (V, p)) := by
  unfold rdT
  rw [if_neg h]; rfl
theorem lp_rd49 {M9 : Mm} {x1 : Option Value} {j k : Nat} {R : Except Fl (Vt × Nat)} (h : xRd M σ n v V p (zb + 6 * j) (sb' + 20 * j)) (hj : j ≤ 902) (g : jsm (xE v) M9 M) (h59 : ¬ tkK (chI σ n) n p = 59) (hR : R = rdT (chI σ n) n k V p) : jW G mi_X2_read 12 M9 49 [some (jr (some 66)), x1] [] M (xR M9 σ n v zb sb' R) := by
  have hS := h.S
  have hv := h.2.1.1
  have ht := h.tok
  have hk9 := tkK_lt (chI σ n) n p
  have hW := h.2.2.2.1
  have n0 := wf_np hW
  have n1 := wf_nq hW
  have n12 : V 0 12 ≤ 99 := hW.2.2.2.2.2.2.2.2.2.2.2.2.1
  have hst : jm_I M v 109 = nI (V 0 12) := h.2.1.2.1.2.2.2.2.2.2.2.2.2.2.2.2
  rw [rdT_no h59] at hR
  refine jw_aload_n (pc := 49) dX2_read_49 rfl ?_
  refine jx_getIs (pc := 50) (jf_X2_47_1.r) rfl dX2_read_50 rfl (is_66 hS) (by decide) (ht) ?_
  first | refine jx_ifb_eq (pc := 53) (tgt := 62) dX2_read_53 (by decide) ?_ ?_ | refine jx_if_eq (pc := 53) (tgt := 62) dX2_read_53 (by decide) (by omega) ?_ ?_ | refine jw_if_eq (pc := 53) (tgt := 62) dX2_read_53 (by decide) ?_ ?_
  · intro h_53
    refine jw_aload_n (pc := 62) dX2_read_62 rfl ?_
    refine jx_getRs (pc := 63) (jf_X2_120_1.r) rfl dX2_read_63 rfl (is_66 hS) (by decide) (h.1.2.2.2.2.2.1) ?_
    refine jx_getIs (pc := 66) (jf_X2_153_5.r) rfl dX2_read_66 rfl (vis hv) (by decide) (hst) ?_
    first | refine jx_ifb_eq (pc := 69) (tgt := 92) dX2_read_69 (by decide) ?_ ?_ | refine jx_if_eq (pc := 69) (tgt := 92) dX2_read_69 (by decide) (by omega) ?_ ?_ | refine jw_if_eq (pc := 69) (tgt := 92) dX2_read_69 (by decide) ?_ ?_
    · intro h_69
      refine jw_aload_n (pc := 92) dX2_read_92 rfl ?_
      refine jw_bipush (pc := 93) dX2_read_93 bp_6 ?_
      refine jx_cVE (mi1 := mi_X2_fail) (pc := 95) rfl dX2_read_95 lk_X2_85 rfl fi_X2_fail rfl rfl rfl (by decide) (is_66 hS) (t_X2_fail h) (by first | decide | omega) rfl rfl (by decide) ?_
      refine jw_athrow (pc := 98) dX2_read_98 rfl ?_
      refine jx_out67 rfl hS ?_
      exact Or.inr ⟨rfl, _, by rw [hR]; unfold rdE; rw [if_pos (show tkK (chI σ n) n p = 0 by omega), if_pos (show V 0 12 = 0 ∨ V 0 0 = 0 ∨ V 0 1 = 0 by omega)]; rfl, (h.fl.tr g).b (by omega) (by omega)⟩
    · intro h_69
      refine jw_aload_n (pc := 72) dX2_read_72 rfl ?_
      refine jx_getRs (pc := 73) (jf_X2_120_1.r) rfl dX2_read_73 rfl (is_66 hS) (by decide) (h.1.2.2.2.2.2.1) ?_
      refine jx_getIs (pc := 76) (jf_X2_156_5.r) rfl dX2_read_76 rfl (vis hv) (by decide) (xi_np h.2.1) ?_
      first | refine jx_ifb_eq (pc := 79) (tgt := 92) dX2_read_79 (by decide) ?_ ?_ | refine jx_if_eq (pc := 79) (tgt := 92) dX2_read_79 (by decide) (by omega) ?_ ?_ | refine jw_if_eq (pc := 79) (tgt := 92) dX2_read_79 (by decide) ?_ ?_
      · intro h_79
        refine jw_aload_n (pc := 92) dX2_read_92 rfl ?_
        refine jw_bipush (pc := 93) dX2_read_93 bp_6 ?_
        refine jx_cVE (mi1 := mi_X2_fail) (pc := 95) rfl dX2_read_95 lk_X2_85 rfl fi_X2_fail rfl rfl rfl (by decide) (is_66 hS) (t_X2_fail h) (by first | decide | omega) rfl rfl (by decide) ?_
        refine jw_athrow (pc := 98) dX2_read_98 rfl ?_
        refine jx_out67 rfl hS ?_
        exact Or.inr ⟨rfl, _, by rw [hR]; unfold rdE; rw [if_pos (show tkK (chI σ n) n p = 0 by omega), if_pos (show V 0 12 = 0 ∨ V 0 0 = 0 ∨ V 0 1 = 0 by omega)]; rfl, (h.fl.tr g).b (by omega) (by omega)⟩
      · intro h_79
        refine jw_aload_n (pc := 82) dX2_read_82 rfl ?_
        refine jx_getRs (pc := 83) (jf_X2_120_1.r) rfl dX2_read_83 rfl (is_66 hS) (by decide) (h.1.2.2.2.2.2.1) ?_
        refine jx_getIs (pc := 86) (jf_X2_159_5.r) rfl dX2_read_86 rfl (vis hv) (by decide) (xi_nq h.2.1) ?_
        first | refine jx_ifb_ne (pc := 89) (tgt := 99) dX2_read_89 (by decide) ?_ ?_ | refine jx_if_ne (pc := 89) (tgt := 99) dX2_read_89 (by decide) (by omega) ?_ ?_ | refine jw_if_ne (pc := 89) (tgt := 99) dX2_read_89 (by decide) ?_ ?_
        · intro h_89
          refine jw_aload_n (pc := 99) dX2_read_99 rfl ?_
          refine jx_getRs (pc := 100) (jf_X2_120_1.r) rfl dX2_read_100 rfl (is_66 hS) (by decide) (h.1.2.2.2.2.2.1) ?_
          refine jw_areturn (pc := 103) dX2_read_103 rfl (Or.inl ⟨_, rfl⟩) ?_
          exact Or.inl ⟨_, rfl, rfl, (V, p), by rw [hR]; unfold rdE; rw [if_pos (show tkK (chI σ n) n p = 0 by omega), if_neg (show ¬ (V 0 12 = 0 ∨ V 0 0 = 0 ∨ V 0 1 = 0) by omega)]; rfl, h.b (by omega) (by omega), g⟩
        · intro h_89
          refine jw_aload_n (pc := 92) dX2_read_92 rfl ?_
          refine jw_bipush (pc := 93) dX2_read_93 bp_6 ?_
          refine jx_cVE (mi1 := mi_X2_fail) (pc := 95) rfl dX2_read_95 lk_X2_85 rfl fi_X2_fail rfl rfl rfl (by decide) (is_66 hS) (t_X2_fail h) (by first | decide | omega) rfl rfl (by decide) ?_
          refine jw_athrow (pc := 98) dX2_read_98 rfl ?_
          refine jx_out67 rfl hS ?_
          exact Or.inr ⟨rfl, _, by rw [hR]; unfold rdE; rw [if_pos (show tkK (chI σ n) n p = 0 by omega), if_pos (show V 0 12 = 0 ∨ V 0 0 = 0 ∨ V 0 1 = 0 by omega)]; rfl, (h.fl.tr g).b (by omega) (by omega)⟩
  · intro h_53
    refine jw_aload_n (pc := 56) dX2_read_56 rfl ?_
    refine jw_iconst (pc := 57) dX2_read_57 ic_1 ?_
    refine jx_cVE (mi1 := mi_X2_fail) (pc := 58) rfl dX2_read_58 lk_X2_85 rfl fi_X2_fail rfl rfl rfl (by decide) (is_66 hS) (t_X2_fail h) (by first | decide | omega) rfl rfl (by decide) ?_
    refine jw_athrow (pc := 61) dX2_read_61 rfl ?_
    refine jx_out67 rfl hS ?_
    exact Or.inr ⟨rfl, _, by rw [hR]; unfold rdE; rw [if_neg (show ¬ tkK (chI σ n) n p = 0 by omega)]; rfl, (h.fl.tr g).b (by omega) (by omega)⟩
end JRD
