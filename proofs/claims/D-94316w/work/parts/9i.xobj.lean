/-! ===== x reads: things are made ===== -/
section JXO
variable {G : Gh} {M : Mm}
theorem t_X7_initP {p o : Nat} {k : Int32} (h : jis M p 6) : jE G mi_X7_init 2 [jr (some p), jr (some o), .int k] M none (js_I (js_R M p 110 (some o)) p 111 k) := by
  refine jE.of (by decide) rfl (Nat.le_of_ble_eq_true rfl) ?_
  refine jw_aload_n (pc := 0) dX7_init_0 rfl ?_
  refine jw_objInit (pc := 1) rfl dX7_init_1 q790 q183 q184 rfl (by decide) (by decide) ?_
  refine jw_aload_n (pc := 4) dX7_init_4 rfl ?_
  refine jw_aload_n (pc := 5) dX7_init_5 rfl ?_
  refine jx_putRF (pc := 6) jf_X7_7_6 rfl rfl dX7_init_6 rfl rfl (pd_Ljava_lang_String_) (Or.inl ⟨_, rfl⟩) (h) (by decide) ?_
  refine jw_aload_n (pc := 9) dX7_init_9 rfl ?_
  refine jw_iload_n (pc := 10) dX7_init_10 rfl ?_
  refine jx_putIF (pc := 11) jf_X7_13_6 rfl rfl dX7_init_11 rfl rfl (h) (by decide) ?_
  refine jw_return (pc := 14) dX7_init_14 rfl ?_
  exact ⟨rfl, rfl⟩
theorem t_X7_initQ {p o : Nat} {k : Int32} (h : jis M p 7) : jE G mi_X7_init 2 [jr (some p), jr (some o), .int k] M none (js_I (js_R M p 110 (some o)) p 111 k) := by
  refine jE.of (by decide) rfl (Nat.le_of_ble_eq_true rfl) ?_
  refine jw_aload_n (pc := 0) dX7_init_0 rfl ?_
  refine jw_objInit (pc := 1) rfl dX7_init_1 q790 q183 q184 rfl (by decide) (by decide) ?_
  refine jw_aload_n (pc := 4) dX7_init_4 rfl ?_
  refine jw_aload_n (pc := 5) dX7_init_5 rfl ?_
  refine jx_putRF (pc := 6) jf_X7_7_7 rfl rfl dX7_init_6 rfl rfl (pd_Ljava_lang_String_) (Or.inl ⟨_, rfl⟩) (h) (by decide) ?_
  refine jw_aload_n (pc := 9) dX7_init_9 rfl ?_
  refine jw_iload_n (pc := 10) dX7_init_10 rfl ?_
  refine jx_putIF (pc := 11) jf_X7_13_7 rfl rfl dX7_init_11 rfl rfl (h) (by decide) ?_
  refine jw_return (pc := 14) dX7_init_14 rfl ?_
  exact ⟨rfl, rfl⟩
theorem t_X8_init {p o : Nat} {k : Int32} (h : jis M p 6) : jE G mi_X8_init 3 [jr (some p), jr (some o), .int k] M none (js_I (js_R M p 110 (some o)) p 111 k) := by
  refine jE.of (by decide) rfl (Nat.le_of_ble_eq_true rfl) ?_
  refine jw_aload_n (pc := 0) dX8_init_0 rfl ?_
  refine jw_aload_n (pc := 1) dX8_init_1 rfl ?_
  refine jw_iload_n (pc := 2) dX8_init_2 rfl ?_
  refine jx_cIEv (mi1 := mi_X7_init) (pc := 3) rfl dX8_init_3 q787 q166 q788 q789 rfl rfl rfl fi_X7_init (t_X7_initP h) (by first | decide | omega) rfl rfl (by decide) ?_
  refine jw_return (pc := 6) dX8_init_6 rfl ?_
  exact ⟨rfl, rfl⟩
theorem t_X9_init {p o : Nat} {k : Int32} (h : jis M p 7) : jE G mi_X9_init 3 [jr (some p), jr (some o), .int k] M none (js_R (js_new (js_I (js_R M p 110 (some o)) p 111 k) 108 3 3) p 115 (some (jm_Z M))) := by
  refine jE.of (by decide) rfl (Nat.le_of_ble_eq_true rfl) ?_
  refine jw_aload_n (pc := 0) dX9_init_0 rfl ?_
  refine jw_aload_n (pc := 1) dX9_init_1 rfl ?_
  refine jw_iload_n (pc := 2) dX9_init_2 rfl ?_
  refine jx_cIEv (mi1 := mi_X7_init) (pc := 3) rfl dX9_init_3 q861 q166 q788 q789 rfl rfl rfl fi_X7_init (t_X7_initQ h) (by first | decide | omega) rfl rfl (by decide) ?_
  refine jw_aload_n (pc := 6) dX9_init_6 rfl ?_
  refine jw_iconst (pc := 7) dX9_init_7 ic_3 ?_
  refine jw_anew (pc := 8) (t := 8) rfl (by decide) rfl q862 q863 dX9_init_8 (rfl) (by decide) ?_
  have h : jis (js_new (js_I (js_R M p 110 (some o)) p 111 k) 108 3 3) p 7 := jis.n (M := js_I (js_R M p 110 (some o)) p 111 k) h
  refine jx_putRF (pc := 11) jf_X9_9_7 rfl rfl dX9_init_11 rfl rfl (pd__LNeverUnseen_Habit_) (Or.inr ⟨_, rfl⟩) (h) (by decide) ?_
  refine jw_return (pc := 14) dX9_init_14 rfl ?_
  exact ⟨rfl, rfl⟩
theorem t_X9_hasB {p hb o k : Nat} (h : jis M p 7) (hk : k < 3) (hm : jm_I M p 116 = nI k) (hr : jm_R M p 115 = some hb) (ha : jok M hb 8) (hN : jm_N M hb = 3) (h104 : 104 ≤ hb) (ho : jis M o 8) : jE G mi_X9_has 1 [jr (some p), jr (some o)] M none (js_I (js_C M hb k (some o)) p 116 (nI (k + 1))) := by
  refine jE.of (by decide) rfl (Nat.le_of_ble_eq_true rfl) ?_
  refine jw_aload_n (pc := 0) dX9_has_0 rfl ?_
  refine jx_getRs (pc := 1) (jf_X9_9_7.r) rfl dX9_has_1 rfl (h) (by decide) (hr) ?_
  refine jw_aload_n (pc := 4) dX9_has_4 rfl ?_
  refine jx_getIs (pc := 5) (jf_X9_15_7.r) rfl dX9_has_5 rfl (h) (by decide) (hm) ?_
  refine jw_aload_n (pc := 8) dX9_has_8 rfl ?_
  refine jw_aast (t := 8) (c := 8) (pc := 9)  (by decide) dX9_has_9 rfl (by omega) ha rfl ho.1 (by decide) ho.2.2 ho.2.1 (r := _) rfl (Or.inr q1046) rfl (by rw [hN]; exact hk) ?_
  refine jw_aload_n (pc := 10) dX9_has_10 rfl ?_
  refine jw_dup (pc := 11) dX9_has_11 (jis2_r _) ?_
  refine jx_getIs (pc := 12) (jf_X9_15_7.r) rfl dX9_has_12 rfl (h) (by decide) (hm) ?_
  refine jw_iconst (pc := 15) dX9_has_15 ic_1 ?_
  first | refine jx_iadd (pc := 16) dX9_has_16 ?_ | refine jw_iadd (pc := 16) dX9_has_16 ?_
  refine jx_putI (pc := 17) jf_X9_15_7 rfl dX9_has_17 rfl rfl (h) (by decide) ?_
  refine jw_return (pc := 20) dX9_has_20 rfl ?_
  exact ⟨rfl, rfl⟩
theorem t_X9_hasA {p hb o k : Nat} (h : jis M p 7) (hk : k < 3) (hm : jm_I M p 116 = nI k) (hr : jm_R M p 115 = some hb) (ha : jok M hb 8) (hN : jm_N M hb = 3) (h104 : 104 ≤ hb) (ho : jis M o 9) : jE G mi_X9_has 1 [jr (some p), jr (some o)] M none (js_I (js_C M hb k (some o)) p 116 (nI (k + 1))) := by
  refine jE.of (by decide) rfl (Nat.le_of_ble_eq_true rfl) ?_
  refine jw_aload_n (pc := 0) dX9_has_0 rfl ?_
  refine jx_getRs (pc := 1) (jf_X9_9_7.r) rfl dX9_has_1 rfl (h) (by decide) (hr) ?_
  refine jw_aload_n (pc := 4) dX9_has_4 rfl ?_
  refine jx_getIs (pc := 5) (jf_X9_15_7.r) rfl dX9_has_5 rfl (h) (by decide) (hm) ?_
  refine jw_aload_n (pc := 8) dX9_has_8 rfl ?_
  refine jw_aast (t := 8) (c := 9) (pc := 9)  (by decide) dX9_has_9 rfl (by omega) ha rfl ho.1 (by decide) ho.2.2 ho.2.1 (r := _) rfl (Or.inr q1040) rfl (by rw [hN]; exact hk) ?_
  refine jw_aload_n (pc := 10) dX9_has_10 rfl ?_
  refine jw_dup (pc := 11) dX9_has_11 (jis2_r _) ?_
  refine jx_getIs (pc := 12) (jf_X9_15_7.r) rfl dX9_has_12 rfl (h) (by decide) (hm) ?_
  refine jw_iconst (pc := 15) dX9_has_15 ic_1 ?_
  first | refine jx_iadd (pc := 16) dX9_has_16 ?_ | refine jw_iadd (pc := 16) dX9_has_16 ?_
  refine jx_putI (pc := 17) jf_X9_15_7 rfl dX9_has_17 rfl rfl (h) (by decide) ?_
  refine jw_return (pc := 20) dX9_has_20 rfl ?_
  exact ⟨rfl, rfl⟩
theorem t_X9_hasL {p hb o k : Nat} (h : jis M p 7) (hk : k < 3) (hm : jm_I M p 116 = nI k) (hr : jm_R M p 115 = some hb) (ha : jok M hb 8) (hN : jm_N M hb = 3) (h104 : 104 ≤ hb) (ho : jis M o 10) : jE G mi_X9_has 1 [jr (some p), jr (some o)] M none (js_I (js_C M hb k (some o)) p 116 (nI (k + 1))) := by
  refine jE.of (by decide) rfl (Nat.le_of_ble_eq_true rfl) ?_
  refine jw_aload_n (pc := 0) dX9_has_0 rfl ?_
  refine jx_getRs (pc := 1) (jf_X9_9_7.r) rfl dX9_has_1 rfl (h) (by decide) (hr) ?_
  refine jw_aload_n (pc := 4) dX9_has_4 rfl ?_
  refine jx_getIs (pc := 5) (jf_X9_15_7.r) rfl dX9_has_5 rfl (h) (by decide) (hm) ?_
  refine jw_aload_n (pc := 8) dX9_has_8 rfl ?_
  refine jw_aast (t := 8) (c := 10) (pc := 9)  (by decide) dX9_has_9 rfl (by omega) ha rfl ho.1 (by decide) ho.2.2 ho.2.1 (r := _) rfl (Or.inr q1052) rfl (by rw [hN]; exact hk) ?_
  refine jw_aload_n (pc := 10) dX9_has_10 rfl ?_
  refine jw_dup (pc := 11) dX9_has_11 (jis2_r _) ?_
  refine jx_getIs (pc := 12) (jf_X9_15_7.r) rfl dX9_has_12 rfl (h) (by decide) (hm) ?_
  refine jw_iconst (pc := 15) dX9_has_15 ic_1 ?_
  first | refine jx_iadd (pc := 16) dX9_has_16 ?_ | refine jw_iadd (pc := 16) dX9_has_16 ?_
  refine jx_putI (pc := 17) jf_X9_15_7 rfl dX9_has_17 rfl rfl (h) (by decide) ?_
  refine jw_return (pc := 20) dX9_has_20 rfl ?_
  exact ⟨rfl, rfl⟩
theorem t_X10_init {p : Nat} (h : jis M p 8) : jE G mi_X10_init 2 [jr (some p)] M none M := by
  refine jE.of (by decide) rfl (Nat.le_of_ble_eq_true rfl) ?_
  refine jw_aload_n (pc := 0) dX10_init_0 rfl ?_
  refine jw_objInit (pc := 1) rfl dX10_init_1 q882 q183 q184 rfl (by decide) (by decide) ?_
  refine jw_return (pc := 4) dX10_init_4 rfl ?_
  exact ⟨rfl, rfl⟩
theorem t_X11_init {p : Nat} {k : Int32} (h : jis M p 9) : jE G mi_X11_init 2 [jr (some p), .int k] M none (js_I M p 118 k) := by
  refine jE.of (by decide) rfl (Nat.le_of_ble_eq_true rfl) ?_
  refine jw_aload_n (pc := 0) dX11_init_0 rfl ?_
  refine jw_objInit (pc := 1) rfl dX11_init_1 q893 q183 q184 rfl (by decide) (by decide) ?_
  refine jw_aload_n (pc := 4) dX11_init_4 rfl ?_
  refine jw_iload_n (pc := 5) dX11_init_5 rfl ?_
  refine jx_putIF (pc := 6) jf_X11_7_9 rfl rfl dX11_init_6 rfl rfl (h) (by decide) ?_
  refine jw_return (pc := 9) dX11_init_9 rfl ?_
  exact ⟨rfl, rfl⟩
theorem t_X12_init {p : Nat} {k l : Int32} (h : jis M p 10) : jE G mi_X12_init 2 [jr (some p), .int k, .int l] M none (js_I (js_I M p 119 k) p 120 l) := by
  refine jE.of (by decide) rfl (Nat.le_of_ble_eq_true rfl) ?_
  refine jw_aload_n (pc := 0) dX12_init_0 rfl ?_
  refine jw_objInit (pc := 1) rfl dX12_init_1 q903 q183 q184 rfl (by decide) (by decide) ?_
  refine jw_aload_n (pc := 4) dX12_init_4 rfl ?_
  refine jw_iload_n (pc := 5) dX12_init_5 rfl ?_
  refine jx_putIF (pc := 6) jf_X12_7_10 rfl rfl dX12_init_6 rfl rfl (h) (by decide) ?_
  refine jw_aload_n (pc := 9) dX12_init_9 rfl ?_
  refine jw_iload_n (pc := 10) dX12_init_10 rfl ?_
  refine jx_putIF (pc := 11) jf_X12_13_10 rfl rfl dX12_init_11 rfl rfl (h) (by decide) ?_
  refine jw_return (pc := 14) dX12_init_14 rfl ?_
  exact ⟨rfl, rfl⟩
theorem t_X13_init {p : Nat} (h : jis M p 11) : jE G mi_X13_init 2 [jr (some p)] M none M := by
  refine jE.of (by decide) rfl (Nat.le_of_ble_eq_true rfl) ?_
  refine jw_aload_n (pc := 0) dX13_init_0 rfl ?_
  refine jw_objInit (pc := 1) rfl dX13_init_1 q928 q183 q184 rfl (by decide) (by decide) ?_
  refine jw_return (pc := 4) dX13_init_4 rfl ?_
  exact ⟨rfl, rfl⟩
end JXO
