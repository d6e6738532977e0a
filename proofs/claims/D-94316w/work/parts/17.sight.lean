/-! ===== habits, watching ===== -/
theorem lw_F {own : String} {idx : Nat} {C : String} {x y : MethodName} {b : ByteArray} {L : Nat} {r : Option FieldType} (h1 : Cond.methodLink own idx x ∈ lw_all) (h2 : Cond.selects C x y ∈ lw_all) (h3 : Cond.instanceMethod y ∈ lw_all) (h4 : Cond.initialized y.cls ∈ lw_all) (h5 : Cond.code y b L r ∈ lw_all) : GoodIn lw_all (va_wsF own idx C x y (ws_ y b L r)) := by
  refine lw_app ?_ (lw_meth h5)
  intro w hw
  simp only [List.mem_cons, List.not_mem_nil, or_false] at hw
  rcases hw with e | e | e | e
  · rw [e]; exact h1
  · rw [e]; exact h2
  · rw [e]; exact h3
  · rw [e]; exact h4
def shutB (h : Nat × Nat × Nat) (t : Nat) : Bool := if h.1 = 8 then true else if h.1 = 9 then decide ((t + 1) % h.2.1 = 0) else decide (h.2.1 ≤ t) && decide (t < h.2.2)
theorem habL_eyes {V : Vt} (hw : jWf V) {q : Nat} (hq : q < V 0 1) (t : Nat) : ((habL V q).all fun h => !shutB h t) = eyesB V q t := by
  obtain ⟨w1, w2, w3, w4, w5, w6⟩ := wf_q hw hq
  unfold habL eyesB awayB sleepB
  by_cases h1 : V 12 q = 0
  · by_cases h2 : V 13 q = 0
    · by_cases h3 : V 15 q = 0
      · simp [h1, h2, h3]
      · simp [h1, h2, h3, shutB]
    · have h2' : 0 < V 13 q := by omega
      by_cases h3 : V 15 q = 0
      · simp [h1, h2, h3, shutB, h2']
      · simp [h1, h2, h3, shutB, h2']
  · simp [h1, shutB]
theorem habL_k {V : Vt} {q i : Nat} {h : Nat × Nat × Nat} (hi : (habL V q)[i]? = some h) : (h.1 = 8 ∨ (h.1 = 9 ∧ h.2.1 = V 13 q ∧ V 13 q ≠ 0) ∨ (h.1 = 10 ∧ h.2.1 = V 14 q ∧ h.2.2 = V 15 q)) := by
  have := List.mem_of_getElem? hi
  unfold habL at this
  rw [List.mem_append, List.mem_append] at this
  rcases this with h1 | h1 | h1
  · split at h1
    · cases h1
    · rw [List.mem_singleton] at h1; subst h1; exact Or.inl rfl
  · split at h1
    · cases h1
    · next q => rw [List.mem_singleton] at h1; subst h1; exact Or.inr (Or.inl ⟨rfl, rfl, q⟩)
  · split at h1
    · cases h1
    · rw [List.mem_singleton] at h1; subst h1; exact Or.inr (Or.inr ⟨rfl, rfl, rfl⟩)
theorem habL_len (V : Vt) (q : Nat) : (habL V q).length ≤ 3 := by
  unfold habL
  split <;> split <;> split <;> simp
/-- what an array's write makes of the memory -/
theorem ju3_4 {α : Type} (f : Nat → Nat → α) (a k : Nat) (v : α) (g : Nat → α) : ju3 (ju4 f a g) a k v = ju4 f a (fun i => if i = k then v else g i) := by
  funext b j
  rw [ju3_eq, ju4_eq, ju4_eq]
  by_cases h1 : b = a <;> by_cases h2 : j = k <;> simp [h1, h2]
theorem jAs_A {M : Mm} {a k : Nat} {v : Int32} {g : Nat → Int32} : js_A (js_As M a g) a k v = js_As M a (fun i => if i = k then v else g i) := by
  show (_, _, _, ju3 (ju4 _ a g) a k v, _) = _
  rw [ju3_4]; rfl
theorem jAs_cg {M : Mm} {a : Nat} {g h : Nat → Int32} (q : ∀ i, g i = h i) : js_As M a g = js_As M a h := by rw [funext q]
theorem jAs_0 {M : Mm} {a : Nat} {g : Nat → Int32} (q : ∀ i, g i = jm_A M a i) : js_As M a g = M := by
  have h : ju4 M.2.2.2.1 a g = M.2.2.2.1 := by
    funext b j
    rw [ju4_eq]
    by_cases h1 : b = a
    · subst h1; rw [if_pos rfl, q]; rfl
    · rw [if_neg h1]
  unfold js_As
  rw [h]
theorem jA_rd {M : Mm} {a k : Nat} {g : Nat → Int32} : jm_A (js_As M a g) a k = g k := by rw [jA_As, if_pos rfl]
theorem jA_rn {M : Mm} {a b k : Nat} {g : Nat → Int32} (h : b ≠ a) : jm_A (js_As M a g) b k = jm_A M b k := by rw [jA_As, if_neg h]
section JS
variable {G : Gh} {M : Mm} {v : Nat} {V : Vt}
theorem t_X10_shuts {o t : Nat} : jE G mi_X10_shuts 1 [jr (some o), .int (nI t)] M (some (.int (jb true))) M := by
  refine jE.of (by decide) rfl (Nat.le_of_ble_eq_true rfl) ?_
  refine jw_iconst (pc := 0) dX10_shuts_0 ic_1 ?_
  refine jw_ireturn (pc := 1) dX10_shuts_1 rfl (by first | exact jnar_b _ | exact jnar_0 | exact jnar_1 | decide +kernel) ?_
  exact ⟨rfl, rfl⟩
theorem t_X11_shuts {o t e : Nat} (ho : jis M o 9) (he : jm_I M o 118 = nI e) (h0 : 0 < e) (h9 : e < 2 ^ 31) (ht : t < 2 ^ 30) : jE G mi_X11_shuts 1 [jr (some o), .int (nI t)] M (some (.int (jb (decide ((t + 1) % e = 0))))) M := by
  refine jE.of (by decide) rfl (Nat.le_of_ble_eq_true rfl) ?_
  refine jw_iload_n (pc := 0) dX11_shuts_0 rfl ?_
  refine jw_iconst (pc := 1) dX11_shuts_1 ic_1 ?_
  first | refine jx_iadd (pc := 2) dX11_shuts_2 ?_ | refine jw_iadd (pc := 2) dX11_shuts_2 ?_
  refine jw_aload_n (pc := 3) dX11_shuts_3 rfl ?_
  refine jx_getIs (pc := 4) (jf_X11_7_9.r) rfl dX11_shuts_4 rfl (ho) (by decide) (he) ?_
  refine jw_irem (pc := 7) dX11_shuts_7 (ne_nI h0 h9) ?_
  rw [i_rem (by omega) h0 h9]
  have hm : (t + 1) % e < e := Nat.mod_lt _ h0
  first | refine jx_ifb_ne (pc := 8) (tgt := 15) dX11_shuts_8 (by decide) ?_ ?_ | refine jx_if_ne (pc := 8) (tgt := 15) dX11_shuts_8 (by decide) (by omega) ?_ ?_ | refine jw_if_ne (pc := 8) (tgt := 15) dX11_shuts_8 (by decide) ?_ ?_
  · intro h_8
    refine jw_iconst (pc := 15) dX11_shuts_15 ic_0 ?_
    refine jw_ireturn (pc := 16) dX11_shuts_16 rfl (by first | exact jnar_b _ | exact jnar_0 | exact jnar_1 | decide +kernel) ?_
    refine ⟨jret_f ?_, rfl⟩
    exact decide_eq_false (by omega)
  · intro h_8
    refine jw_iconst (pc := 11) dX11_shuts_11 ic_1 ?_
    refine jw_goto (pc := 12) (tgt := 16) dX11_shuts_12 (by decide) ?_
    refine jw_ireturn (pc := 16) dX11_shuts_16 rfl (by first | exact jnar_b _ | exact jnar_0 | exact jnar_1 | decide +kernel) ?_
    refine ⟨jret_t ?_, rfl⟩
    exact decide_eq_true (by omega)
theorem t_X12_shuts {o t a b : Nat} (ho : jis M o 10) (ha : jm_I M o 119 = nI a) (hb : jm_I M o 120 = nI b) (ha9 : a < 2 ^ 30) (hb9 : b < 2 ^ 30) (ht : t < 2 ^ 30) : jE G mi_X12_shuts 2 [jr (some o), .int (nI t)] M (some (.int (jb (decide (a ≤ t) && decide (t < b))))) M := by
  refine jE.of (by decide) rfl (Nat.le_of_ble_eq_true rfl) ?_
  refine jw_iload_n (pc := 0) dX12_shuts_0 rfl ?_
  refine jw_aload_n (pc := 1) dX12_shuts_1 rfl ?_
  refine jx_getIs (pc := 2) (jf_X12_7_10.r) rfl dX12_shuts_2 rfl (ho) (by decide) (ha) ?_
  refine jw_aload_n (pc := 5) dX12_shuts_5 rfl ?_
  refine jx_getIs (pc := 6) (jf_X12_13_10.r) rfl dX12_shuts_6 rfl (ho) (by decide) (hb) ?_
  refine jw_iconst (pc := 9) dX12_shuts_9 ic_1 ?_
  refine jw_isub (pc := 10) dX12_shuts_10 ?_
  refine jx_cSNE (mi1 := mi_X1_in) (pc := 11) rfl dX12_shuts_11 q1058 q152 q420 q421 rfl fi_X1_in (t_X1_in) (by first | decide | omega) rfl rfl (by decide) ?_
  refine jw_ireturn (pc := 14) dX12_shuts_14 rfl (by first | exact jnar_b _ | exact jnar_0 | exact jnar_1 | decide +kernel) ?_
  exact ⟨by rw [inb_n ht ha9 hb9], rfl⟩
theorem take_all {α : Type} (f : α → Bool) : ∀ (l : List α) (k : Nat) (x : α), l[k]? = some x → (l.take (k + 1)).all f = ((l.take k).all f && f x)
  | [], k, x, h => by cases h
  | a :: l, 0, x, h => by simp at h; subst h; simp
  | a :: l, k + 1, x, h => by simp at h; simp [take_all f l k x h, Bool.and_assoc]
theorem t_X9_watches {q t p : Nat} (hV : jVx M v V) (hw : jWf V) (hq : q < V 0 1) (ht : t < 2 ^ 30) (hp : jm_C M (v + 2) q = some p) : jE G mi_X9_watches 3 [jr (some p), .int (nI t)] M (some (.int (jb (eyesB V q t)))) M := by
  obtain ⟨p', a1, a2, a3, a4, a5, a6, hb, a7, a8, a9, a11, a10⟩ := hV.2.2.2.2.1 q hq
  cases (Option.some.inj (a1.symm.trans hp))
  have hlen := habL_len V q
  refine jE.of (by decide) rfl (Nat.le_of_ble_eq_true rfl) ?_
  have J : ∀ k : Nat, k ≤ (habL V q).length → jW G mi_X9_watches 3 M 4 [some (jr (some p)), some (.int (nI t)), some (.int (jb (((habL V q).take k).all fun h => !shutB h t))), some (.int (nI k))] [] M (fun r M' => r = .inl (some (.int (jb (eyesB V q t)))) ∧ M' = M) := by
    refine jW.loop _ (fun k => (habL V q).length - k) _ (fun _ => []) (fun _ => M) (fun k hk ih => ?_)
    by_cases hkn : k < (habL V q).length
    · obtain ⟨h, hh⟩ : ∃ h, (habL V q)[k]? = some h := ⟨_, List.getElem?_eq_getElem hkn⟩
      obtain ⟨o, b1, ⟨b2, b3, b4⟩, b5⟩ := a10 k h hh
      have hta := take_all (fun h => !shutB h t) _ _ _ hh
      have J36 : jW G mi_X9_watches 3 M 36 [some (jr (some p)), some (.int (nI t)), some (.int (jb (((habL V q).take k).all fun h => !shutB h t))), some (.int (nI k))] [.int (jb (((habL V q).take (k + 1)).all fun h => !shutB h t))] M (fun r M' => r = .inl (some (.int (jb (eyesB V q t)))) ∧ M' = M) := by
        refine jw_istore_n (pc := 36) dX9_watches_36 (Nat.le_of_ble_eq_true rfl) rfl ?_
        try dsimp only [jput1, jput2, jkill, jclr, jis2, cond]
        first | refine jx_iinc (pc := 37) dX9_watches_37 rfl rfl ?_ | refine jw_iinc (pc := 37) dX9_watches_37 rfl rfl rfl ?_
        try dsimp only [jput1, jkill, jclr, jis2, cond]
        refine jw_goto (pc := 40) (tgt := 4) dX9_watches_40 (by decide) ?_
        exact ih (k + 1) hkn (by omega)
      have J28 : ((habL V q).take k).all (fun h => !shutB h t) = true → jW G mi_X9_watches 3 M 28 [some (jr (some p)), some (.int (nI t)), some (.int (jb (((habL V q).take k).all fun h => !shutB h t))), some (.int (nI k))] [.int (jb (shutB h t))] M (fun r M' => r = .inl (some (.int (jb (eyesB V q t)))) ∧ M' = M) := by
        intro hall
        first | refine jx_ifb_ne (pc := 28) (tgt := 35) dX9_watches_28 (by decide) ?_ ?_ | refine jx_if_ne (pc := 28) (tgt := 35) dX9_watches_28 (by decide) (by omega) ?_ ?_ | refine jw_if_ne (pc := 28) (tgt := 35) dX9_watches_28 (by decide) ?_ ?_
        · intro h_28
          refine jw_iconst (pc := 35) dX9_watches_35 ic_0 ?_
          refine jw_ff ?_ J36; rw [hta, h_28]; simp
        · intro h_28
          refine jw_iconst (pc := 31) dX9_watches_31 ic_1 ?_
          refine jw_goto (pc := 32) (tgt := 36) dX9_watches_32 (by decide) ?_
          refine jw_tt ?_ J36; rw [hta, hall, h_28]; rfl
      refine jw_iload_n (pc := 4) dX9_watches_4 rfl ?_
      refine jw_aload_n (pc := 5) dX9_watches_5 rfl ?_
      refine jx_getIs (pc := 6) (jf_X9_15_7.r) rfl dX9_watches_6 rfl (a2) (by decide) (a6) ?_
      first | refine jx_icmp_ge (pc := 9) (tgt := 43) dX9_watches_9 (by decide) (by omega) (by omega) ?_ ?_ | refine jw_icmp_ge (pc := 9) (tgt := 43) dX9_watches_9 (by decide) ?_ ?_
      · intro h_9
        omega
      · intro h_9
        refine jw_iload_n (pc := 12) dX9_watches_12 rfl ?_
        first | refine jx_ifb_eq (pc := 13) (tgt := 35) dX9_watches_13 (by decide) ?_ ?_ | refine jx_if_eq (pc := 13) (tgt := 35) dX9_watches_13 (by decide) (by omega) ?_ ?_ | refine jw_if_eq (pc := 13) (tgt := 35) dX9_watches_13 (by decide) ?_ ?_
        · intro h_13
          refine jw_iconst (pc := 35) dX9_watches_35 ic_0 ?_
          refine jw_ff ?_ J36; rw [hta, h_13]; rfl
        · intro h_13
          refine jw_aload_n (pc := 16) dX9_watches_16 rfl ?_
          refine jx_getRs (pc := 17) (jf_X9_9_7.r) rfl dX9_watches_17 rfl (a2) (by decide) (a7) ?_
          refine jw_iload_n (pc := 20) dX9_watches_20 rfl ?_
          refine jx_aalds (pc := 21) (by decide) (by decide) dX9_watches_21 (a8) (a9) rfl (by omega) (b1) ?_
          refine jw_iload_n (pc := 22) dX9_watches_22 rfl ?_
          rcases habL_k hh with q1 | ⟨q1, q2, q3⟩ | ⟨q1, q2, q3⟩
          · rw [q1] at b2
            refine jw_callF (pc := 23) (C := "NeverUnseen$Baby") (x := jhx) (mi1 := mi_X10_shuts) (c := 8) (d1 := 1) (n := 1) (As := [.int (nI t)]) rfl dX9_watches_23 (lw_F q1037 q1047 q1049 q169 q1051) (by decide) rfl rfl t_X10_shuts ⟨by decide, by decide⟩ ⟨by decide, by decide, by decide⟩ rfl rfl (by decide) b2.1 (by decide) b2.2.1 rfl rfl (fun v1 M1 q => ?_) (fun a M1 q => by obtain ⟨z, -⟩ := q; cases z)
            obtain ⟨z1, z2⟩ := q; cases z1; cases z2
            have e : shutB h t = true := by unfold shutB; rw [if_pos q1]
            have J := J28 h_13
            rw [e] at J; exact J
          · rw [q1] at b2
            obtain ⟨w1, w2, w3, w4, w5, w6⟩ := wf_q hw hq
            refine jw_callF (pc := 23) (C := "NeverUnseen$Away") (x := jhx) (mi1 := mi_X11_shuts) (c := 9) (d1 := 1) (n := 1) (As := [.int (nI t)]) rfl dX9_watches_23 (lw_F q1037 q1041 q1043 q170 q1045) (by decide) rfl rfl (t_X11_shuts b2 (b3 q1) (by omega) (by omega) ht) ⟨by decide, by decide⟩ ⟨by decide, by decide, by decide⟩ rfl rfl (by decide) b2.1 (by decide) b2.2.1 rfl rfl (fun v1 M1 q => ?_) (fun a M1 q => by obtain ⟨z, -⟩ := q; cases z)
            obtain ⟨z1, z2⟩ := q; cases z1; cases z2
            have e : shutB h t = decide ((t + 1) % h.2.1 = 0) := by unfold shutB; rw [if_neg (by omega), if_pos q1]
            have J := J28 h_13
            rw [e] at J; exact J
          · rw [q1] at b2
            obtain ⟨w1, w2, w3, w4, w5, w6⟩ := wf_q hw hq
            refine jw_callF (pc := 23) (C := "NeverUnseen$Sleep") (x := jhx) (mi1 := mi_X12_shuts) (c := 10) (d1 := 2) (n := 1) (As := [.int (nI t)]) rfl dX9_watches_23 (lw_F q1037 q1053 q1055 q171 q1057) (by decide) rfl rfl (t_X12_shuts b2 (b4 q1).1 (b4 q1).2 (by omega) (by omega) ht) ⟨by decide, by decide⟩ ⟨by decide, by decide, by decide⟩ rfl rfl (by decide) b2.1 (by decide) b2.2.1 rfl rfl (fun v1 M1 q => ?_) (fun a M1 q => by obtain ⟨z, -⟩ := q; cases z)
            obtain ⟨z1, z2⟩ := q; cases z1; cases z2
            have e : shutB h t = (decide (h.2.1 ≤ t) && decide (t < h.2.2)) := by unfold shutB; rw [if_neg (by omega), if_neg (by omega)]
            have J := J28 h_13
            rw [e] at J; exact J
    · have hk' : k = (habL V q).length := by omega
      subst hk'
      refine jw_iload_n (pc := 4) dX9_watches_4 rfl ?_
      refine jw_aload_n (pc := 5) dX9_watches_5 rfl ?_
      refine jx_getIs (pc := 6) (jf_X9_15_7.r) rfl dX9_watches_6 rfl (a2) (by decide) (a6) ?_
      first | refine jx_icmp_ge (pc := 9) (tgt := 43) dX9_watches_9 (by decide) (by omega) (by omega) ?_ ?_ | refine jw_icmp_ge (pc := 9) (tgt := 43) dX9_watches_9 (by decide) ?_ ?_
      · intro h_9
        refine jw_iload_n (pc := 43) dX9_watches_43 rfl ?_
        refine jw_ireturn (pc := 44) dX9_watches_44 rfl (by first | exact jnar_b _ | exact jnar_0 | exact jnar_1 | decide +kernel) ?_
        exact ⟨by rw [List.take_length, habL_eyes hw hq], rfl⟩
      · intro h_9
        omega
  refine jw_iconst (pc := 0) dX9_watches_0 ic_1 ?_
  refine jw_istore_n (pc := 1) dX9_watches_1 (Nat.le_of_ble_eq_true rfl) rfl ?_
  try dsimp only [jput1, jput2, jkill, jclr, jis2, cond]
  refine jw_iconst (pc := 2) dX9_watches_2 ic_0 ?_
  refine jw_istore_n (pc := 3) dX9_watches_3 (Nat.le_of_ble_eq_true rfl) rfl ?_
  try dsimp only [jput1, jput2, jkill, jclr, jis2, cond]
  exact J 0 (Nat.zero_le _)
end JS
