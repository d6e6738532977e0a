/-! ===== sizes ===== -/
def sizeN (V : Vt) (σ : Sg) (k : Nat) : Nat := match k with
  | 0 => V 0 0
  | 1 => V 0 3
  | 2 => V 0 4
  | 3 => V 0 5
  | 4 => V 0 1
  | 5 => V 0 6
  | 6 => V 0 2
  | 7 => V 0 7
  | 8 => V 0 12
  | 9 => sn σ 0
  | _ => sn σ 1
def q_size (σ : Sg) (a : Int32) : Int32 := if a = 11 then nI (sn σ 2) else match sv σ with
  | none => if isIx 11 a then 0 else -1
  | some V => if isIx 11 a then nI (sizeN V σ (iN a)) else -1
theorem ix11_out {a : Int32} {n : Nat} (h : isIx (n + 1) a = false) : a.toInt < 0 ∨ (n : Int) < a.toInt := by
  unfold isIx at h
  by_cases h1 : 0 ≤ a.toInt
  · by_cases h2 : a.toInt < ((n + 1 : Nat) : Int)
    · rw [decide_eq_true h1, decide_eq_true h2] at h; cases h
    · omega
  · omega
theorem lt11 {k : Nat} (h : k < 11) : k = 0 ∨ k = 1 ∨ k = 2 ∨ k = 3 ∨ k = 4 ∨ k = 5 ∨ k = 6 ∨ k = 7 ∨ k = 8 ∨ k = 9 ∨ k = 10 := by omega
theorem qs_11 {σ : Sg} : q_size σ 11 = nI (sn σ 2) := if_pos rfl
theorem qs_n {σ : Sg} {a : Int32} (h : ¬ a = 11) (hv : sv σ = none) : q_size σ a = if isIx 11 a then 0 else -1 := by unfold q_size; rw [if_neg h, hv]
theorem qs_s {σ : Sg} {a : Int32} {V : Vt} (h : ¬ a = 11) (hv : sv σ = some V) : q_size σ a = if isIx 11 a then nI (sizeN V σ (iN a)) else -1 := by unfold q_size; rw [if_neg h, hv]
section JSZ
variable {G : Gh} {M : Mm} {σ : Sg}
theorem lp_xs0 {M9 : Mm} {v : Nat} {V : Vt} {a : Int32} {P : Rs → Mm → Prop} (hs : jXs M v V) (hN : jXn M V σ) (h : P (.inl (some (.int (nI (sizeN V σ 0))))) M) : jW G mi_X1_size 9 M9 92 [some (jr (some 64)), some (.int a)] [] M P := by
  have hS := hs.1
  have hv := hs.s
  refine jw_aload_n (pc := 92) dX1_size_92 rfl ?_
  refine jx_getRs (pc := 93) (jf_X1_109_0.r) rfl dX1_size_93 rfl (is_64 hS) (by decide) (hs.r) ?_
  refine jx_getIs (pc := 96) (jf_X1_150_5.r) rfl dX1_size_96 rfl (vis hv) (by decide) (xi_np hs.V) ?_
  refine jw_ireturn (pc := 99) dX1_size_99 rfl (rfl) ?_
  exact h
theorem lp_xs1 {M9 : Mm} {v : Nat} {V : Vt} {a : Int32} {P : Rs → Mm → Prop} (hs : jXs M v V) (hN : jXn M V σ) (h : P (.inl (some (.int (nI (sizeN V σ 1))))) M) : jW G mi_X1_size 9 M9 100 [some (jr (some 64)), some (.int a)] [] M P := by
  have hS := hs.1
  have hv := hs.s
  refine jw_aload_n (pc := 100) dX1_size_100 rfl ?_
  refine jx_getRs (pc := 101) (jf_X1_109_0.r) rfl dX1_size_101 rfl (is_64 hS) (by decide) (hs.r) ?_
  refine jx_getIs (pc := 104) (jf_X1_372_5.r) rfl dX1_size_104 rfl (vis hv) (by decide) (xi_nw hs.V) ?_
  refine jw_ireturn (pc := 107) dX1_size_107 rfl (rfl) ?_
  exact h
theorem lp_xs2 {M9 : Mm} {v : Nat} {V : Vt} {a : Int32} {P : Rs → Mm → Prop} (hs : jXs M v V) (hN : jXn M V σ) (h : P (.inl (some (.int (nI (sizeN V σ 2))))) M) : jW G mi_X1_size 9 M9 108 [some (jr (some 64)), some (.int a)] [] M P := by
  have hS := hs.1
  have hv := hs.s
  refine jw_aload_n (pc := 108) dX1_size_108 rfl ?_
  refine jx_getRs (pc := 109) (jf_X1_109_0.r) rfl dX1_size_109 rfl (is_64 hS) (by decide) (hs.r) ?_
  refine jx_getIs (pc := 112) (jf_X1_439_5.r) rfl dX1_size_112 rfl (vis hv) (by decide) (xi_ny hs.V) ?_
  refine jw_ireturn (pc := 115) dX1_size_115 rfl (rfl) ?_
  exact h
theorem lp_xs3 {M9 : Mm} {v : Nat} {V : Vt} {a : Int32} {P : Rs → Mm → Prop} (hs : jXs M v V) (hN : jXn M V σ) (h : P (.inl (some (.int (nI (sizeN V σ 3))))) M) : jW G mi_X1_size 9 M9 116 [some (jr (some 64)), some (.int a)] [] M P := by
  have hS := hs.1
  have hv := hs.s
  refine jw_aload_n (pc := 116) dX1_size_116 rfl ?_
  refine jx_getRs (pc := 117) (jf_X1_109_0.r) rfl dX1_size_117 rfl (is_64 hS) (by decide) (hs.r) ?_
  refine jx_getIs (pc := 120) (jf_X1_442_5.r) rfl dX1_size_120 rfl (vis hv) (by decide) (xi_nm hs.V) ?_
  refine jw_ireturn (pc := 123) dX1_size_123 rfl (rfl) ?_
  exact h
theorem lp_xs4 {M9 : Mm} {v : Nat} {V : Vt} {a : Int32} {P : Rs → Mm → Prop} (hs : jXs M v V) (hN : jXn M V σ) (h : P (.inl (some (.int (nI (sizeN V σ 4))))) M) : jW G mi_X1_size 9 M9 124 [some (jr (some 64)), some (.int a)] [] M P := by
  have hS := hs.1
  have hv := hs.s
  refine jw_aload_n (pc := 124) dX1_size_124 rfl ?_
  refine jx_getRs (pc := 125) (jf_X1_109_0.r) rfl dX1_size_125 rfl (is_64 hS) (by decide) (hs.r) ?_
  refine jx_getIs (pc := 128) (jf_X1_137_5.r) rfl dX1_size_128 rfl (vis hv) (by decide) (xi_nq hs.V) ?_
  refine jw_ireturn (pc := 131) dX1_size_131 rfl (rfl) ?_
  exact h
theorem lp_xs5 {M9 : Mm} {v : Nat} {V : Vt} {a : Int32} {P : Rs → Mm → Prop} (hs : jXs M v V) (hN : jXn M V σ) (h : P (.inl (some (.int (nI (sizeN V σ 5))))) M) : jW G mi_X1_size 9 M9 132 [some (jr (some 64)), some (.int a)] [] M P := by
  have hS := hs.1
  have hv := hs.s
  refine jw_aload_n (pc := 132) dX1_size_132 rfl ?_
  refine jx_getRs (pc := 133) (jf_X1_109_0.r) rfl dX1_size_133 rfl (is_64 hS) (by decide) (hs.r) ?_
  refine jx_getIs (pc := 136) (jf_X1_197_5.r) rfl dX1_size_136 rfl (vis hv) (by decide) (xi_nr hs.V) ?_
  refine jw_ireturn (pc := 139) dX1_size_139 rfl (rfl) ?_
  exact h
theorem lp_xs6 {M9 : Mm} {v : Nat} {V : Vt} {a : Int32} {P : Rs → Mm → Prop} (hs : jXs M v V) (hN : jXn M V σ) (h : P (.inl (some (.int (nI (sizeN V σ 6))))) M) : jW G mi_X1_size 9 M9 140 [some (jr (some 64)), some (.int a)] [] M P := by
  have hS := hs.1
  have hv := hs.s
  refine jw_aload_n (pc := 140) dX1_size_140 rfl ?_
  refine jx_getRs (pc := 141) (jf_X1_109_0.r) rfl dX1_size_141 rfl (is_64 hS) (by decide) (hs.r) ?_
  refine jx_getIs (pc := 144) (jf_X1_153_5.r) rfl dX1_size_144 rfl (vis hv) (by decide) (xi_ne hs.V) ?_
  refine jw_ireturn (pc := 147) dX1_size_147 rfl (rfl) ?_
  exact h
theorem lp_xs7 {M9 : Mm} {v : Nat} {V : Vt} {a : Int32} {P : Rs → Mm → Prop} (hs : jXs M v V) (hN : jXn M V σ) (h : P (.inl (some (.int (nI (sizeN V σ 7))))) M) : jW G mi_X1_size 9 M9 148 [some (jr (some 64)), some (.int a)] [] M P := by
  have hS := hs.1
  have hv := hs.s
  refine jw_aload_n (pc := 148) dX1_size_148 rfl ?_
  refine jx_getRs (pc := 149) (jf_X1_109_0.r) rfl dX1_size_149 rfl (is_64 hS) (by decide) (hs.r) ?_
  refine jx_getIs (pc := 152) (jf_X1_405_5.r) rfl dX1_size_152 rfl (vis hv) (by decide) (xi_nf hs.V) ?_
  refine jw_ireturn (pc := 155) dX1_size_155 rfl (rfl) ?_
  exact h
theorem lp_xs8 {M9 : Mm} {v : Nat} {V : Vt} {a : Int32} {P : Rs → Mm → Prop} (hs : jXs M v V) (hN : jXn M V σ) (h : P (.inl (some (.int (nI (sizeN V σ 8))))) M) : jW G mi_X1_size 9 M9 156 [some (jr (some 64)), some (.int a)] [] M P := by
  have hS := hs.1
  have hv := hs.s
  refine jw_aload_n (pc := 156) dX1_size_156 rfl ?_
  refine jx_getRs (pc := 157) (jf_X1_109_0.r) rfl dX1_size_157 rfl (is_64 hS) (by decide) (hs.r) ?_
  refine jx_getIs (pc := 160) (jf_X1_225_5.r) rfl dX1_size_160 rfl (vis hv) (by decide) (xi_steps hs.V) ?_
  refine jw_ireturn (pc := 163) dX1_size_163 rfl (rfl) ?_
  exact h
theorem lp_xs9 {M9 : Mm} {v : Nat} {V : Vt} {a : Int32} {P : Rs → Mm → Prop} (hs : jXs M v V) (hN : jXn M V σ) (h : P (.inl (some (.int (nI (sizeN V σ 9))))) M) : jW G mi_X1_size 9 M9 164 [some (jr (some 64)), some (.int a)] [] M P := by
  have hS := hs.1
  have hv := hs.s
  refine jw_aload_n (pc := 164) dX1_size_164 rfl ?_
  refine jx_getIs (pc := 165) (jf_X1_131_0.r) rfl dX1_size_165 rfl (is_64 hS) (by decide) (hN.1) ?_
  refine jw_ireturn (pc := 168) dX1_size_168 rfl (rfl) ?_
  exact h
theorem lp_xs10 {M9 : Mm} {v : Nat} {V : Vt} {a : Int32} {P : Rs → Mm → Prop} (hs : jXs M v V) (hN : jXn M V σ) (h : P (.inl (some (.int (nI (sizeN V σ 10))))) M) : jW G mi_X1_size 9 M9 169 [some (jr (some 64)), some (.int a)] [] M P := by
  have hS := hs.1
  have hv := hs.s
  refine jw_aload_n (pc := 169) dX1_size_169 rfl ?_
  refine jx_getIs (pc := 170) (jf_X1_134_0.r) rfl dX1_size_170 rfl (is_64 hS) (by decide) (hN.2.1) ?_
  refine jw_ireturn (pc := 173) dX1_size_173 rfl (rfl) ?_
  exact h
theorem lp_ms0 {M9 : Mm} {w : Nat} {V : Vt} {a : Int32} {P : Rs → Mm → Prop} (hs : jMs M w V 0 0) (hN : jMn M V σ) (h : P (.inl (some (.int (nI (sizeN V σ 0))))) M) : jW G mi_X5_size 9 M9 92 [some (jr (some 90)), some (.int a)] [] M P := by
  have hS := hs.1
  have hw := hs.s
  refine jw_aload_n (pc := 92) dX5_size_92 rfl ?_
  refine jx_getRs (pc := 93) (jf_X5_380_4.r) rfl dX5_size_93 rfl (is_90 hS) (by decide) (hs.r) ?_
  refine jx_getIs (pc := 96) (jf_X5_218_12.r) rfl dX5_size_96 rfl (wis hw) (by decide) (mi_np hs.V) ?_
  refine jw_ireturn (pc := 99) dX5_size_99 rfl (rfl) ?_
  exact h
theorem lp_ms1 {M9 : Mm} {w : Nat} {V : Vt} {a : Int32} {P : Rs → Mm → Prop} (hs : jMs M w V 0 0) (hN : jMn M V σ) (h : P (.inl (some (.int (nI (sizeN V σ 1))))) M) : jW G mi_X5_size 9 M9 100 [some (jr (some 90)), some (.int a)] [] M P := by
  have hS := hs.1
  have hw := hs.s
  refine jw_aload_n (pc := 100) dX5_size_100 rfl ?_
  refine jx_getRs (pc := 101) (jf_X5_380_4.r) rfl dX5_size_101 rfl (is_90 hS) (by decide) (hs.r) ?_
  refine jx_getIs (pc := 104) (jf_X5_289_12.r) rfl dX5_size_104 rfl (wis hw) (by decide) (mi_nw hs.V) ?_
  refine jw_ireturn (pc := 107) dX5_size_107 rfl (rfl) ?_
  exact h
theorem lp_ms2 {M9 : Mm} {w : Nat} {V : Vt} {a : Int32} {P : Rs → Mm → Prop} (hs : jMs M w V 0 0) (hN : jMn M V σ) (h : P (.inl (some (.int (nI (sizeN V σ 2))))) M) : jW G mi_X5_size 9 M9 108 [some (jr (some 90)), some (.int a)] [] M P := by
  have hS := hs.1
  have hw := hs.s
  refine jw_aload_n (pc := 108) dX5_size_108 rfl ?_
  refine jx_getRs (pc := 109) (jf_X5_380_4.r) rfl dX5_size_109 rfl (is_90 hS) (by decide) (hs.r) ?_
  refine jx_getIs (pc := 112) (jf_X5_302_12.r) rfl dX5_size_112 rfl (wis hw) (by decide) (mi_ny hs.V) ?_
  refine jw_ireturn (pc := 115) dX5_size_115 rfl (rfl) ?_
  exact h
theorem lp_ms3 {M9 : Mm} {w : Nat} {V : Vt} {a : Int32} {P : Rs → Mm → Prop} (hs : jMs M w V 0 0) (hN : jMn M V σ) (h : P (.inl (some (.int (nI (sizeN V σ 3))))) M) : jW G mi_X5_size 9 M9 116 [some (jr (some 90)), some (.int a)] [] M P := by
  have hS := hs.1
  have hw := hs.s
  refine jw_aload_n (pc := 116) dX5_size_116 rfl ?_
  refine jx_getRs (pc := 117) (jf_X5_380_4.r) rfl dX5_size_117 rfl (is_90 hS) (by decide) (hs.r) ?_
  refine jx_getIs (pc := 120) (jf_X5_311_12.r) rfl dX5_size_120 rfl (wis hw) (by decide) (mi_nm hs.V) ?_
  refine jw_ireturn (pc := 123) dX5_size_123 rfl (rfl) ?_
  exact h
theorem lp_ms4 {M9 : Mm} {w : Nat} {V : Vt} {a : Int32} {P : Rs → Mm → Prop} (hs : jMs M w V 0 0) (hN : jMn M V σ) (h : P (.inl (some (.int (nI (sizeN V σ 4))))) M) : jW G mi_X5_size 9 M9 124 [some (jr (some 90)), some (.int a)] [] M P := by
  have hS := hs.1
  have hw := hs.s
  refine jw_aload_n (pc := 124) dX5_size_124 rfl ?_
  refine jx_getRs (pc := 125) (jf_X5_380_4.r) rfl dX5_size_125 rfl (is_90 hS) (by decide) (hs.r) ?_
  refine jx_getIs (pc := 128) (jf_X5_221_12.r) rfl dX5_size_128 rfl (wis hw) (by decide) (mi_nq hs.V) ?_
  refine jw_ireturn (pc := 131) dX5_size_131 rfl (rfl) ?_
  exact h
theorem lp_ms5 {M9 : Mm} {w : Nat} {V : Vt} {a : Int32} {P : Rs → Mm → Prop} (hs : jMs M w V 0 0) (hN : jMn M V σ) (h : P (.inl (some (.int (nI (sizeN V σ 5))))) M) : jW G mi_X5_size 9 M9 132 [some (jr (some 90)), some (.int a)] [] M P := by
  have hS := hs.1
  have hw := hs.s
  refine jw_aload_n (pc := 132) dX5_size_132 rfl ?_
  refine jx_getRs (pc := 133) (jf_X5_380_4.r) rfl dX5_size_133 rfl (is_90 hS) (by decide) (hs.r) ?_
  refine jx_getIs (pc := 136) (jf_X5_335_12.r) rfl dX5_size_136 rfl (wis hw) (by decide) (mi_nr hs.V) ?_
  refine jw_ireturn (pc := 139) dX5_size_139 rfl (rfl) ?_
  exact h
theorem lp_ms6 {M9 : Mm} {w : Nat} {V : Vt} {a : Int32} {P : Rs → Mm → Prop} (hs : jMs M w V 0 0) (hN : jMn M V σ) (h : P (.inl (some (.int (nI (sizeN V σ 6))))) M) : jW G mi_X5_size 9 M9 140 [some (jr (some 90)), some (.int a)] [] M P := by
  have hS := hs.1
  have hw := hs.s
  refine jw_aload_n (pc := 140) dX5_size_140 rfl ?_
  refine jx_getRs (pc := 141) (jf_X5_380_4.r) rfl dX5_size_141 rfl (is_90 hS) (by decide) (hs.r) ?_
  refine jx_getIs (pc := 144) (jf_X5_344_12.r) rfl dX5_size_144 rfl (wis hw) (by decide) (mi_ne hs.V) ?_
  refine jw_ireturn (pc := 147) dX5_size_147 rfl (rfl) ?_
  exact h
theorem lp_ms7 {M9 : Mm} {w : Nat} {V : Vt} {a : Int32} {P : Rs → Mm → Prop} (hs : jMs M w V 0 0) (hN : jMn M V σ) (h : P (.inl (some (.int (nI (sizeN V σ 7))))) M) : jW G mi_X5_size 9 M9 148 [some (jr (some 90)), some (.int a)] [] M P := by
  have hS := hs.1
  have hw := hs.s
  refine jw_aload_n (pc := 148) dX5_size_148 rfl ?_
  refine jx_getRs (pc := 149) (jf_X5_380_4.r) rfl dX5_size_149 rfl (is_90 hS) (by decide) (hs.r) ?_
  refine jx_getIs (pc := 152) (jf_X5_363_12.r) rfl dX5_size_152 rfl (wis hw) (by decide) (mi_nf hs.V) ?_
  refine jw_ireturn (pc := 155) dX5_size_155 rfl (rfl) ?_
  exact h
theorem lp_ms8 {M9 : Mm} {w : Nat} {V : Vt} {a : Int32} {P : Rs → Mm → Prop} (hs : jMs M w V 0 0) (hN : jMn M V σ) (h : P (.inl (some (.int (nI (sizeN V σ 8))))) M) : jW G mi_X5_size 9 M9 156 [some (jr (some 90)), some (.int a)] [] M P := by
  have hS := hs.1
  have hw := hs.s
  refine jw_aload_n (pc := 156) dX5_size_156 rfl ?_
  refine jx_getRs (pc := 157) (jf_X5_380_4.r) rfl dX5_size_157 rfl (is_90 hS) (by decide) (hs.r) ?_
  refine jx_getIs (pc := 160) (jf_X5_273_12.r) rfl dX5_size_160 rfl (wis hw) (by decide) (mi_steps hs.V) ?_
  refine jw_ireturn (pc := 163) dX5_size_163 rfl (rfl) ?_
  exact h
theorem lp_ms9 {M9 : Mm} {w : Nat} {V : Vt} {a : Int32} {P : Rs → Mm → Prop} (hs : jMs M w V 0 0) (hN : jMn M V σ) (h : P (.inl (some (.int (nI (sizeN V σ 9))))) M) : jW G mi_X5_size 9 M9 164 [some (jr (some 90)), some (.int a)] [] M P := by
  have hS := hs.1
  have hw := hs.s
  refine jw_aload_n (pc := 164) dX5_size_164 rfl ?_
  refine jx_getIs (pc := 165) (jf_X5_383_4.r) rfl dX5_size_165 rfl (is_90 hS) (by decide) (hN.1) ?_
  refine jw_ireturn (pc := 168) dX5_size_168 rfl (rfl) ?_
  exact h
theorem lp_ms10 {M9 : Mm} {w : Nat} {V : Vt} {a : Int32} {P : Rs → Mm → Prop} (hs : jMs M w V 0 0) (hN : jMn M V σ) (h : P (.inl (some (.int (nI (sizeN V σ 10))))) M) : jW G mi_X5_size 9 M9 169 [some (jr (some 90)), some (.int a)] [] M P := by
  have hS := hs.1
  have hw := hs.s
  refine jw_aload_n (pc := 169) dX5_size_169 rfl ?_
  refine jx_getIs (pc := 170) (jf_X5_386_4.r) rfl dX5_size_170 rfl (is_90 hS) (by decide) (hN.2.1) ?_
  refine jw_ireturn (pc := 173) dX5_size_173 rfl (rfl) ?_
  exact h
theorem t_X1_size {z : Int32} (h : jXx M σ) : jE G mi_X1_size 9 [jr (some 64), .int z] M (some (.int (q_size σ z))) M := by
  have hS := h.1
  refine jE.of (by decide) rfl (Nat.le_of_ble_eq_true rfl) ?_
  have h11 : nI 11 = (11 : Int32) := rfl
  cases hv9 : sv σ with
  | none =>
    refine jw_iload_n (pc := 0) dX1_size_0 rfl ?_
    refine jw_bipush (pc := 1) dX1_size_1 bp_11 ?_
    refine jw_icmp_ne (pc := 3) (tgt := 11) dX1_size_3 (by decide) ?_ ?_
    · intro h_3
      refine jw_aload_n (pc := 11) dX1_size_11 rfl ?_
      refine jx_getRs (pc := 12) (jf_X1_109_0.r) rfl dX1_size_12 rfl (is_64 hS) (by decide) (h.no hv9) ?_
      refine jw_ifnonnull (pc := 15) (tgt := 34) dX1_size_15 (by decide) (fun ax h => by cases h) (fun h => ?_)
      clear h
      refine jw_iload_n (pc := 18) dX1_size_18 rfl ?_
      refine jw_iconst (pc := 19) dX1_size_19 ic_0 ?_
      refine jw_bipush (pc := 20) dX1_size_20 bp_10 ?_
      refine jx_cSE (mi1 := mi_X1_in) (pc := 22) rfl dX1_size_22 lk_X1_94 rfl fi_X1_in (t_X1_in) (by first | decide | omega) rfl rfl (by decide) ?_
      rw [show inb z (nI 0) (nI 10) = isIx 11 z from inb_ix' (n := 10) (by decide)]
      first | refine jx_ifb_eq (pc := 25) (tgt := 32) dX1_size_25 (by decide) ?_ ?_ | refine jx_if_eq (pc := 25) (tgt := 32) dX1_size_25 (by decide) (by omega) ?_ ?_ | refine jw_if_eq (pc := 25) (tgt := 32) dX1_size_25 (by decide) ?_ ?_
      · intro h_25
        refine jw_iconst (pc := 32) dX1_size_32 ic_m1 ?_
        refine jw_ireturn (pc := 33) dX1_size_33 rfl (rfl) ?_
        refine ⟨?_, rfl⟩
        first
          | (rw [show z = 11 from h_3, qs_11]; done)
          | (rw [qs_n h_3 hv9, h_25]; rfl)
      · intro h_25
        refine jw_iconst (pc := 28) dX1_size_28 ic_0 ?_
        refine jw_goto (pc := 29) (tgt := 33) dX1_size_29 (by decide) ?_
        refine jw_ireturn (pc := 33) dX1_size_33 rfl (rfl) ?_
        refine ⟨?_, rfl⟩
        first
          | (rw [show z = 11 from h_3, qs_11]; done)
          | (rw [qs_n h_3 hv9, h_25]; rfl)
    · intro h_3
      refine jw_aload_n (pc := 6) dX1_size_6 rfl ?_
      refine jx_getIs (pc := 7) (jf_X1_87_0.r) rfl dX1_size_7 rfl (is_64 hS) (by decide) (h.2.2.1.1) ?_
      refine jw_ireturn (pc := 10) dX1_size_10 rfl (rfl) ?_
      refine ⟨?_, rfl⟩
      first
        | (rw [show z = 11 from h_3, qs_11]; done)
        | (rw [qs_n h_3 hv9, h_25]; rfl)
  | some V =>
    obtain ⟨v, hs, hN⟩ := h.so hv9
    have hv := hs.s
    have L174 : isIx 11 z = false → ¬ z = 11 → jW G mi_X1_size 9 M 174 [some (jr (some 64)), some (.int z)] [] M (fun r M' => r = .inl (some (.int (q_size σ z))) ∧ M' = M) := by
      intro hix h3
      refine jw_iconst (pc := 174) dX1_size_174 ic_m1 ?_
      refine jw_ireturn (pc := 175) dX1_size_175 rfl (rfl) ?_
      exact ⟨by rw [qs_s h3 hv9, hix]; rfl, rfl⟩
    refine jw_iload_n (pc := 0) dX1_size_0 rfl ?_
    refine jw_bipush (pc := 1) dX1_size_1 bp_11 ?_
    refine jw_icmp_ne (pc := 3) (tgt := 11) dX1_size_3 (by decide) ?_ ?_
    · intro h_3
      refine jw_aload_n (pc := 11) dX1_size_11 rfl ?_
      refine jx_getRs (pc := 12) (jf_X1_109_0.r) rfl dX1_size_12 rfl (is_64 hS) (by decide) (hs.r) ?_
      refine jw_ifnonnull (pc := 15) (tgt := 34) dX1_size_15 (by decide) (fun ax h => ?_) (fun h => by cases h)
      clear h
      refine jw_iload_n (pc := 34) dX1_size_34 rfl ?_
      by_cases hix : isIx 11 z = true
      · obtain ⟨k, hk, rfl⟩ := isIx_of hix
        have e : q_size σ (nI k) = nI (sizeN V σ k) := by rw [qs_s h_3 hv9, if_pos hix, iN_n (by omega)]
        rcases lt11 hk with e9 | e9 | e9 | e9 | e9 | e9 | e9 | e9 | e9 | e9 | e9 <;> subst e9
        · exact jw_tableIn (pc := 35) (tgt := 92) dX1_size_35 (by decide +kernel) (by decide +kernel) rfl (by decide) (lp_xs0 (σ := σ) hs hN ⟨by rw [e], rfl⟩)
        · exact jw_tableIn (pc := 35) (tgt := 100) dX1_size_35 (by decide +kernel) (by decide +kernel) rfl (by decide) (lp_xs1 (σ := σ) hs hN ⟨by rw [e], rfl⟩)
        · exact jw_tableIn (pc := 35) (tgt := 108) dX1_size_35 (by decide +kernel) (by decide +kernel) rfl (by decide) (lp_xs2 (σ := σ) hs hN ⟨by rw [e], rfl⟩)
        · exact jw_tableIn (pc := 35) (tgt := 116) dX1_size_35 (by decide +kernel) (by decide +kernel) rfl (by decide) (lp_xs3 (σ := σ) hs hN ⟨by rw [e], rfl⟩)
        · exact jw_tableIn (pc := 35) (tgt := 124) dX1_size_35 (by decide +kernel) (by decide +kernel) rfl (by decide) (lp_xs4 (σ := σ) hs hN ⟨by rw [e], rfl⟩)
        · exact jw_tableIn (pc := 35) (tgt := 132) dX1_size_35 (by decide +kernel) (by decide +kernel) rfl (by decide) (lp_xs5 (σ := σ) hs hN ⟨by rw [e], rfl⟩)
        · exact jw_tableIn (pc := 35) (tgt := 140) dX1_size_35 (by decide +kernel) (by decide +kernel) rfl (by decide) (lp_xs6 (σ := σ) hs hN ⟨by rw [e], rfl⟩)
        · exact jw_tableIn (pc := 35) (tgt := 148) dX1_size_35 (by decide +kernel) (by decide +kernel) rfl (by decide) (lp_xs7 (σ := σ) hs hN ⟨by rw [e], rfl⟩)
        · exact jw_tableIn (pc := 35) (tgt := 156) dX1_size_35 (by decide +kernel) (by decide +kernel) rfl (by decide) (lp_xs8 (σ := σ) hs hN ⟨by rw [e], rfl⟩)
        · exact jw_tableIn (pc := 35) (tgt := 164) dX1_size_35 (by decide +kernel) (by decide +kernel) rfl (by decide) (lp_xs9 (σ := σ) hs hN ⟨by rw [e], rfl⟩)
        · exact jw_tableIn (pc := 35) (tgt := 169) dX1_size_35 (by decide +kernel) (by decide +kernel) rfl (by decide) (lp_xs10 (σ := σ) hs hN ⟨by rw [e], rfl⟩)
      · have hix : isIx 11 z = false := by simpa using hix
        exact jw_tableOut (pc := 35) (tgt := 174) dX1_size_35 (ix11_out (n := 10) hix) (by decide) (L174 hix h_3)
    · intro h_3
      refine jw_aload_n (pc := 6) dX1_size_6 rfl ?_
      refine jx_getIs (pc := 7) (jf_X1_87_0.r) rfl dX1_size_7 rfl (is_64 hS) (by decide) (h.2.2.1.1) ?_
      refine jw_ireturn (pc := 10) dX1_size_10 rfl (rfl) ?_
      exact ⟨by rw [show z = 11 from h_3, qs_11], rfl⟩
theorem t_X5_size {z : Int32} (h : jMm M σ) : jT G mi_X5_size 9 [jr (some 90), .int z] M (jOm M (q_size σ z, σ)) := by
  have hS := h.1
  refine jT.of (by decide) rfl (Nat.le_of_ble_eq_true rfl) ?_
  cases hv9 : sv σ with
  | none =>
    refine jw_aload_n (pc := 0) dX5_size_0 rfl ?_
    refine jw_iconst (pc := 1) dX5_size_1 ic_0 ?_
    refine jx_putI (pc := 2) jf_X5_56_4 rfl dX5_size_2 rfl rfl (is_90 hS) (by decide) ?_
    have hM := mthr (x := nI 0) h
    have hf : jfm M (js_I M 90 49 (nI 0)) := jsm.I (by decide)
    generalize js_I M 90 49 (nI 0) = M0 at hM hf ⊢
    clear hS
    have hS := hM.1
    refine jw_iload_n (pc := 5) dX5_size_5 rfl ?_
    refine jw_bipush (pc := 6) dX5_size_6 bp_11 ?_
    refine jw_icmp_ne (pc := 8) (tgt := 16) dX5_size_8 (by decide) ?_ ?_
    · intro h_8
      refine jw_iload_n (pc := 16) dX5_size_16 rfl ?_
      refine jw_iconst (pc := 17) dX5_size_17 ic_0 ?_
      refine jw_bipush (pc := 18) dX5_size_18 bp_10 ?_
      refine jx_cSE (mi1 := mi_X5_in) (pc := 20) rfl dX5_size_20 lk_X5_135 rfl fi_X5_in (t_X5_in) (by first | decide | omega) rfl rfl (by decide) ?_
      rw [show inb z (nI 0) (nI 10) = isIx 11 z from inb_ix' (n := 10) (by decide)]
      first | refine jx_ifb_ne (pc := 23) (tgt := 28) dX5_size_23 (by decide) ?_ ?_ | refine jx_if_ne (pc := 23) (tgt := 28) dX5_size_23 (by decide) (by omega) ?_ ?_ | refine jw_if_ne (pc := 23) (tgt := 28) dX5_size_23 (by decide) ?_ ?_
      · intro h_23
        refine jw_aload_n (pc := 28) dX5_size_28 rfl ?_
        refine jx_getRs (pc := 29) (jf_X5_380_4.r) rfl dX5_size_29 rfl (is_90 hS) (by decide) (hM.no hv9) ?_
        refine jw_ifnonnull (pc := 32) (tgt := 37) dX5_size_32 (by decide) (fun ax h => by cases h) (fun h => ?_)
        clear h
        refine jw_iconst (pc := 35) dX5_size_35 ic_0 ?_
        refine jw_ireturn (pc := 36) dX5_size_36 rfl (rfl) ?_
        refine ⟨_, rfl, ?_, hM, hf⟩
        first
          | (show _ = q_size σ z; rw [show z = 11 from h_8, qs_11]; done)
          | (show _ = q_size σ z; rw [qs_n h_8 hv9, h_23]; rfl)
      · intro h_23
        refine jw_iconst (pc := 26) dX5_size_26 ic_m1 ?_
        refine jw_ireturn (pc := 27) dX5_size_27 rfl (rfl) ?_
        refine ⟨_, rfl, ?_, hM, hf⟩
        first
          | (show _ = q_size σ z; rw [show z = 11 from h_8, qs_11]; done)
          | (show _ = q_size σ z; rw [qs_n h_8 hv9, h_23]; rfl)
    · intro h_8
      refine jw_aload_n (pc := 11) dX5_size_11 rfl ?_
      refine jx_getIs (pc := 12) (jf_X5_373_4.r) rfl dX5_size_12 rfl (is_90 hS) (by decide) (hM.2.2.1.1) ?_
      refine jw_ireturn (pc := 15) dX5_size_15 rfl (rfl) ?_
      refine ⟨_, rfl, ?_, hM, hf⟩
      first
        | (show _ = q_size σ z; rw [show z = 11 from h_8, qs_11]; done)
        | (show _ = q_size σ z; rw [qs_n h_8 hv9, h_23]; rfl)
  | some V =>
    refine jw_aload_n (pc := 0) dX5_size_0 rfl ?_
    refine jw_iconst (pc := 1) dX5_size_1 ic_0 ?_
    refine jx_putI (pc := 2) jf_X5_56_4 rfl dX5_size_2 rfl rfl (is_90 hS) (by decide) ?_
    have hM := mthr (x := nI 0) h
    have hf : jfm M (js_I M 90 49 (nI 0)) := jsm.I (by decide)
    generalize js_I M 90 49 (nI 0) = M0 at hM hf ⊢
    clear hS
    have hS := hM.1
    obtain ⟨w, hs, hN⟩ := hM.so hv9
    refine jw_iload_n (pc := 5) dX5_size_5 rfl ?_
    refine jw_bipush (pc := 6) dX5_size_6 bp_11 ?_
    refine jw_icmp_ne (pc := 8) (tgt := 16) dX5_size_8 (by decide) ?_ ?_
    · intro h_8
      refine jw_iload_n (pc := 16) dX5_size_16 rfl ?_
      refine jw_iconst (pc := 17) dX5_size_17 ic_0 ?_
      refine jw_bipush (pc := 18) dX5_size_18 bp_10 ?_
      refine jx_cSE (mi1 := mi_X5_in) (pc := 20) rfl dX5_size_20 lk_X5_135 rfl fi_X5_in (t_X5_in) (by first | decide | omega) rfl rfl (by decide) ?_
      rw [show inb z (nI 0) (nI 10) = isIx 11 z from inb_ix' (n := 10) (by decide)]
      first | refine jx_ifb_ne (pc := 23) (tgt := 28) dX5_size_23 (by decide) ?_ ?_ | refine jx_if_ne (pc := 23) (tgt := 28) dX5_size_23 (by decide) (by omega) ?_ ?_ | refine jw_if_ne (pc := 23) (tgt := 28) dX5_size_23 (by decide) ?_ ?_
      · intro h_23
        refine jw_aload_n (pc := 28) dX5_size_28 rfl ?_
        refine jx_getRs (pc := 29) (jf_X5_380_4.r) rfl dX5_size_29 rfl (is_90 hS) (by decide) (hs.r) ?_
        refine jw_ifnonnull (pc := 32) (tgt := 37) dX5_size_32 (by decide) (fun ax h => ?_) (fun h => by cases h)
        clear h
        refine jw_iload_n (pc := 37) dX5_size_37 rfl ?_
        obtain ⟨k, hk, rfl⟩ := isIx_of h_23
        have e : q_size σ (nI k) = nI (sizeN V σ k) := by rw [qs_s h_8 hv9, if_pos h_23, iN_n (by omega)]
        rcases lt11 hk with e9 | e9 | e9 | e9 | e9 | e9 | e9 | e9 | e9 | e9 | e9 <;> subst e9
        · exact jw_tableIn (pc := 38) (tgt := 92) dX5_size_38 (by decide +kernel) (by decide +kernel) rfl (by decide) (lp_ms0 (σ := σ) hs hN ⟨_, rfl, e.symm, hM, hf⟩)
        · exact jw_tableIn (pc := 38) (tgt := 100) dX5_size_38 (by decide +kernel) (by decide +kernel) rfl (by decide) (lp_ms1 (σ := σ) hs hN ⟨_, rfl, e.symm, hM, hf⟩)
        · exact jw_tableIn (pc := 38) (tgt := 108) dX5_size_38 (by decide +kernel) (by decide +kernel) rfl (by decide) (lp_ms2 (σ := σ) hs hN ⟨_, rfl, e.symm, hM, hf⟩)
        · exact jw_tableIn (pc := 38) (tgt := 116) dX5_size_38 (by decide +kernel) (by decide +kernel) rfl (by decide) (lp_ms3 (σ := σ) hs hN ⟨_, rfl, e.symm, hM, hf⟩)
        · exact jw_tableIn (pc := 38) (tgt := 124) dX5_size_38 (by decide +kernel) (by decide +kernel) rfl (by decide) (lp_ms4 (σ := σ) hs hN ⟨_, rfl, e.symm, hM, hf⟩)
        · exact jw_tableIn (pc := 38) (tgt := 132) dX5_size_38 (by decide +kernel) (by decide +kernel) rfl (by decide) (lp_ms5 (σ := σ) hs hN ⟨_, rfl, e.symm, hM, hf⟩)
        · exact jw_tableIn (pc := 38) (tgt := 140) dX5_size_38 (by decide +kernel) (by decide +kernel) rfl (by decide) (lp_ms6 (σ := σ) hs hN ⟨_, rfl, e.symm, hM, hf⟩)
        · exact jw_tableIn (pc := 38) (tgt := 148) dX5_size_38 (by decide +kernel) (by decide +kernel) rfl (by decide) (lp_ms7 (σ := σ) hs hN ⟨_, rfl, e.symm, hM, hf⟩)
        · exact jw_tableIn (pc := 38) (tgt := 156) dX5_size_38 (by decide +kernel) (by decide +kernel) rfl (by decide) (lp_ms8 (σ := σ) hs hN ⟨_, rfl, e.symm, hM, hf⟩)
        · exact jw_tableIn (pc := 38) (tgt := 164) dX5_size_38 (by decide +kernel) (by decide +kernel) rfl (by decide) (lp_ms9 (σ := σ) hs hN ⟨_, rfl, e.symm, hM, hf⟩)
        · exact jw_tableOut (pc := 38) (tgt := 169) dX5_size_38 (Or.inr (by decide +kernel)) (by decide) (lp_ms10 (σ := σ) hs hN ⟨_, rfl, e.symm, hM, hf⟩)
      · intro h_23
        refine jw_iconst (pc := 26) dX5_size_26 ic_m1 ?_
        refine jw_ireturn (pc := 27) dX5_size_27 rfl (rfl) ?_
        refine ⟨_, rfl, ?_, hM, hf⟩
        first
          | (show _ = q_size σ z; rw [show z = 11 from h_8, qs_11]; done)
          | (show _ = q_size σ z; rw [qs_s h_8 hv9, h_23]; rfl)
    · intro h_8
      refine jw_aload_n (pc := 11) dX5_size_11 rfl ?_
      refine jx_getIs (pc := 12) (jf_X5_373_4.r) rfl dX5_size_12 rfl (is_90 hS) (by decide) (hM.2.2.1.1) ?_
      refine jw_ireturn (pc := 15) dX5_size_15 rfl (rfl) ?_
      refine ⟨_, rfl, ?_, hM, hf⟩
      first
        | (show _ = q_size σ z; rw [show z = 11 from h_8, qs_11]; done)
        | (show _ = q_size σ z; rw [qs_s h_8 hv9, h_23]; rfl)
theorem t_X5_thrown {x : Int32} (hS : jSh M) (e : jm_I M 90 49 = x) : jE G mi_X5_thrown 1 [jr (some 90)] M (some (.int x)) M := by
  refine jE.of (by decide) rfl (Nat.le_of_ble_eq_true rfl) ?_
  refine jw_aload_n (pc := 0) dX5_thrown_0 rfl ?_
  refine jx_getIs (pc := 1) (jf_X5_56_4.r) rfl dX5_thrown_1 rfl (is_90 hS) (by decide) (e) ?_
  refine jw_ireturn (pc := 4) dX5_thrown_4 rfl (rfl) ?_
  exact ⟨rfl, rfl⟩
end JSZ
