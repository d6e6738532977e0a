section JD
variable {G : Gh} {mi : Mi} {d : Nat} {M0 : Mm} {pc : Nat} {ls : List (Option Value)} {st : List Value} {M : Mm} {P : Rs → Mm → Prop}
theorem jw_castE {own nm : String} {idx c : Nat} {o : Option Nat} {a : Nat} (ho : own = mi.1.cls) (hlk : Cond.classLink own idx nm ∈ lw_all) (hd : decode mi.2.1 pc = .ok (.checkcast idx, 3)) (hoa : o = some a) (hK : jm_K M a = c + 1) (hc : c < 99) (haz : a < jm_Z M) {r : vw_C} (hr : jcls[c]? = some r) (hrn : r.1 = nm) (k : jW G mi d M0 (pc + 3) ls (jr (some a) :: st) M P) : jW G mi d M0 pc ls (jr o :: st) M P := by
  subst ho; subst hoa
  exact jW.s0 (fun p e s m args below meth c H locs la R cells slots Q X hR hS hl w => va_castE X.x X.b X.own (X.ts _ hlk) (by rw [← hrn]; exact jrecv X.kn hR hK hc haz hr) hd w) k
theorem jw_instE {own nm : String} {idx c : Nat} {o : Option Nat} {a : Nat} (ho : own = mi.1.cls) (hlk : Cond.classLink own idx nm ∈ lw_all) (hd : decode mi.2.1 pc = .ok (.instanceof idx, 3)) (hoa : o = some a) (hK : jm_K M a = c + 1) (hc : c < 99) (haz : a < jm_Z M) {r : vw_C} (hr : jcls[c]? = some r) (hrn : r.1 = nm) (k : jW G mi d M0 (pc + 3) ls (.int (nI 1) :: st) M P) : jW G mi d M0 pc ls (jr o :: st) M P := by
  subst ho; subst hoa
  exact jW.s0 (fun p e s m args below meth c H locs la R cells slots Q X hR hS hl w => va_instE X.x X.b X.own (X.ts _ hlk) (by rw [← hrn]; exact jrecv X.kn hR hK hc haz hr) hd w) k
theorem jw_instNo {own nm : String} {idx c : Nat} {o : Option Nat} {a : Nat} (ho : own = mi.1.cls) (hlk : Cond.classLink own idx nm ∈ lw_all) (hd : decode mi.2.1 pc = .ok (.instanceof idx, 3)) (hoa : o = some a) (hK : jm_K M a = c + 1) (hc : c < 99) (haz : a < jm_Z M) {r : vw_C} (hr : jcls[c]? = some r) (hnc : (r.1, nm) ∈ jnc) (k : jW G mi d M0 (pc + 3) ls (.int (nI 0) :: st) M P) : jW G mi d M0 pc ls (jr o :: st) M P := by
  subst ho; subst hoa
  exact jW.s0 (fun p e s m args below meth c H locs la R cells slots Q X hR hS hl w => va_instNo X.x X.b X.own (X.ts _ hlk) (X.kn.2.2.2.2.2.2.2.1 _ hnc) (jrecv X.kn hR hK hc haz hr) hd w) k
theorem jw_instNull {idx : Nat} (hd : decode mi.2.1 pc = .ok (.instanceof idx, 3)) (k : jW G mi d M0 (pc + 3) ls (.int (nI 0) :: st) M P) : jW G mi d M0 pc ls (jr none :: st) M P :=
  jW.s0 (fun p e s m args below meth c H locs la R cells slots Q X hR hS hl w => lv_instN X.x X.b hd w) k
/-- a static of the JDK's -/
theorem jw_gets {i : Nat} {own : String} {idx : Nat} {q : String × String × String} {v : Value} (hq : jsta[i]? = some q) (hv : jg_u G i = jv G v) (ho : own = mi.1.cls) (hlk : Cond.fieldLink own idx q.1 q.2.1 q.2.2 ∈ lw_all) (hd : decode mi.2.1 pc = .ok (.getstatic idx, 3)) (k : jW G mi d M0 (pc + 3) ls (v :: st) M P) : jW G mi d M0 pc ls st M P := by
  subst ho
  refine jW.s0 (fun p e s m args below meth c H locs la R cells slots Q X hR hS hl w => ?_) k
  obtain ⟨cf, kf, fi, f, a, cell, h1, h2, h3, h4, h5, h6, h7, h8⟩ := X.kn.2.2.2.2.2.1 i q hq
  rw [hv] at h7
  exact W.gets X.x X.b X.own (X.ts _ hlk) h1 h2 h3 h4 (by rw [hR.2.2.1 a (Nat.not_le.mp h8)]; exact h5) (fun e => by rw [e] at h6; cases h6) h7 rfl hd w
/-- behind a call of an interface's method -/
theorem jcallN5 {p : Program} {e : Env} {s : State} {m : MethodId} {args : Array Value} {below : List Frame} {meth : Method} {c : Code} {H : Heap} {locs : List Loc} {la : Array Slot} {R : Room} {Q : State → Prop} {a9 : Array Value} {v : Option Value} {M1 : Mm} {st0 rest : List Value} (hR : jRep G M H) (hle : jLe M M1) (h0 : jLe M0 M) (hS : va_S (jAf G) s.heap H locs)
    (hr : va_Run5 p (jg_l G) e R s m args below meth c H locs (jm_Z M - jm_Z M0) (jm_S M - jm_S M0) (jm_Z M1 - jm_Z M) (jm_S M1 - jm_S M) (F0 m pc la st0) rest (jQn G v M1 a9) (jAf G))
    (kk : ∀ (H1 : Heap) (locs1 : List Loc), jRep G M1 H1 → va_S (jAf G) s.heap H1 locs1 → W p (jg_l G) e R s m args below meth c H1 locs1 (jm_Z M1 - jm_Z M0) (jm_S M1 - jm_S M0) Q (F0 m (pc + 5) la ((v.map (jv G)).toList ++ rest))) : W p (jg_l G) e R s m args below meth c H locs (jm_Z M - jm_Z M0) (jm_S M - jm_S M0) Q (F0 m pc la st0) := by
  intro T hT X
  obtain ⟨v', st₀, t, T', L, e0, X', hL, e1, e2, ⟨hv, hR1⟩, sp⟩ := hr T hT X
  cases hv
  have hR1' : jRep G M1 T'.heap := by rw [e1]; exact hR1
  have hz := hle.1
  have hs := hle.2
  have hz0 := h0.1
  have hs0 := h0.2
  have k1 := kk T'.heap (locs ++ L) hR1' (jvaS hR hR1' hle hS hL)
  rw [show jm_Z M1 - jm_Z M0 = jm_Z M - jm_Z M0 + (jm_Z M1 - jm_Z M) by omega, show jm_S M1 - jm_S M0 = jm_S M - jm_S M0 + (jm_S M1 - jm_S M) by omega] at k1
  obtain ⟨t2, b1, b2⟩ := k1 T' rfl X'
  exact ⟨t2, sp t2 b1, b2⟩
theorem jw_callF {own C : String} {idx cnt : Nat} {x : MethodName} {mi1 : Mi} {d1 n c : Nat} {As rest : List Value} {o : Option Nat} {b : Nat} {P1 : Rs → Mm → Prop} (ho : own = mi.1.cls) (hd : decode mi.2.1 pc = .ok (.invokeinterface idx cnt, 5)) (hlk : GoodIn lw_all (va_wsF own idx C x mi1.1 (ws_ mi1.1 mi1.2.1 mi1.2.2.1 mi1.2.2.2.1))) (hfw : (C, x, mi1.1) ∈ jfac) (hhh : mi1.2.2.2.2 = []) (hob : o = some b) (hT : jT G mi1 d1 (jr (some b) :: As) M P1) (hf : d1 + 1 ≤ d ∧ mi1.2.2.1 ≤ 40) (hx : x.cls ≠ "java/lang/invoke/MethodHandle" ∧ x.cls ≠ "java/lang/invoke/VarHandle" ∧ (parseMethodDescriptor x.desc).map (fun d => d.parameters.length) = some n) (hAs : As.length = n) (hst : st = As.reverse ++ jr o :: rest) (hcat : (rest.map fun v => v.category).sum ≤ 8) (hKb : jm_K M b = c + 1) (hc : c < 99) (hbz : b < jm_Z M) {r : vw_C} (hr : jcls[c]? = some r) (hrC : r.1 = C)
    (k : ∀ v M1, P1 (.inl v) M1 → jW G mi d M0 (pc + 5) ls (v.toList ++ rest) M1 P) (kx : ∀ a M1, P1 (.inr a) M1 → False) : jW G mi d M0 pc ls st M P := by
  subst ho; subst hst; subst hob
  obtain ⟨r1, M1, p1, hle, hM⟩ := hT
  have hstk : ((As.reverse ++ jr (some b) :: rest).map (jv G)) = (As.map (jv G)).reverse ++ .ref (je G b) :: rest.map (jv G) := by
    rw [List.map_append, List.map_reverse, List.map_cons, jv_s]
  cases r1 with
  | inr a => exact (kx a M1 p1).elim
  | inl v =>
    refine jW.go (pc1 := pc + 5) (ls1 := ls) (st1 := v.toList ++ rest) (M1 := M1) hle (fun p e s m args below meth c1 H locs la M' Q X hR hS hl h0 h2 kk => ?_) (k v M1 p1)
    have hMet : Met (jg_l G) mi1.1 (jws mi1) (jrm d1 M M1) (jPc G (jr (some b) :: As) M) (jQn G v M1) (jm_Z M1 - jm_Z M) (jm_S M1 - jm_S M) (jAf G) := hM
    rw [jws_code hhh] at hMet
    rw [hstk]
    have hcls := (X.kn.1 c r hr).2
    rw [hrC] at hcls
    refine jcallN5 (a9 := (Value.ref (je G b) :: As.map (jv G)).toArray) hR hle h0 hS (va_runF (C := C) (b := je G b) (As := As.map (jv G)) (rest := rest.map (jv G)) hcls (jfix X) hMet (va_cwF n X.ts hlk rfl rfl rfl (X.kn.2.2.2.2.2.2.1 _ hfw) hx ⟨hf.1, by have h1 := hf.1; have h2 := hf.2; show 8 + (mi1.2.2.1 + 11) + 64 * d1 ≤ 64 * d; omega⟩) ⟨jPc.blind, ?_, fun U hU hW => ⟨by rw [List.map_cons, jv_s], by rw [hU]; exact hR, X.kn.warm hW⟩⟩ rfl (by rw [List.length_map]; exact hAs) hl.1 rfl (by rw [jcats]; show 2 * 0 + _ ≤ _; omega) hd (jcells h0 hle h2)) (fun H1 locs1 hR1 hS1 => ?_)
    · rw [← hrC]
      exact jrecv X.kn hR hKb hc hbz hr
    · have := kk H1 locs1 la hR1 hS1 hl
      rw [← jvmap] at this
      exact this
theorem jws_codeW {mi1 : Mi} {h0 : Nat × Nat × Nat × Nat} {ht : List (Nat × Nat × Nat × Nat)} (h : mi1.2.2.2.2 = h0 :: ht) : jws mi1 = Cond.codeWith mi1.1 mi1.2.1 mi1.2.2.1 mi1.2.2.2.1 (h0 :: ht) :: lw_all := by unfold jws; rw [h]
/-- a call of a method with handlers, that returns -/
theorem jw_callVW {own C : String} {idx : Nat} {mi1 : Mi} {d1 n c : Nat} {As rest : List Value} {o : Option Nat} {b : Nat} {P1 : Rs → Mm → Prop} {h0 : Nat × Nat × Nat × Nat} {ht : List (Nat × Nat × Nat × Nat)} (ho : own = mi.1.cls) (hd : decode mi.2.1 pc = .ok (.invokevirtual idx, 3)) (hhh : mi1.2.2.2.2 = h0 :: ht) (hlk : GoodIn lw_all (wsV own idx C mi1.1 (wsW_ mi1.1 mi1.2.1 mi1.2.2.1 mi1.2.2.2.1 (h0 :: ht)))) (hob : o = some b) (hT : jT G mi1 d1 (jr (some b) :: As) M P1) (hf : jfit mi1 d1 d n) (hC : mi1.1.cls = C) (hAs : As.length = n) (hst : st = As.reverse ++ jr o :: rest) (hcat : (rest.map fun v => v.category).sum ≤ 8) (hKb : jm_K M b = c + 1) (hc : c < 99) (hbz : b < jm_Z M) {r : vw_C} (hr : jcls[c]? = some r) (hrC : r.1 = C)
    (k : ∀ v M1, P1 (.inl v) M1 → jW G mi d M0 (pc + 3) ls (v.toList ++ rest) M1 P) (kx : ∀ a M1, P1 (.inr a) M1 → False) : jW G mi d M0 pc ls st M P := by
  subst ho; subst hst; subst hob
  obtain ⟨r1, M1, p1, hle, hM⟩ := hT
  have hstk : ((As.reverse ++ jr (some b) :: rest).map (jv G)) = (As.map (jv G)).reverse ++ .ref (je G b) :: rest.map (jv G) := by
    rw [List.map_append, List.map_reverse, List.map_cons, jv_s]
  cases r1 with
  | inr a => exact (kx a M1 p1).elim
  | inl v =>
    refine jW.go (pc1 := pc + 3) (ls1 := ls) (st1 := v.toList ++ rest) (M1 := M1) hle (fun p e s m args below meth c1 H locs la M' Q X hR hS hl h0' h2 kk => ?_) (k v M1 p1)
    have hMet : Met (jg_l G) mi1.1 (jws mi1) (jrm d1 M M1) (jPc G (jr (some b) :: As) M) (jQn G v M1) (jm_Z M1 - jm_Z M) (jm_S M1 - jm_S M) (jAf G) := hM
    rw [jws_codeW hhh] at hMet
    rw [hstk]
    refine jcallN (a9 := (Value.ref (je G b) :: As.map (jv G)).toArray) hR hle h0' hS (vx_runVW (C := C) (b := je G b) (As := As.map (jv G)) (rest := rest.map (jv G)) (jfix X) hMet (vx_cwVW n X.ts hlk rfl rfl rfl ⟨hC, hf.2.2⟩ (jroom hf)) ⟨jPc.blind, ?_, fun U hU hW => ⟨by rw [List.map_cons, jv_s], by rw [hU]; exact hR, X.kn.warm hW⟩⟩ rfl (by rw [List.length_map]; exact hAs) hl.1 rfl (by rw [jcats]; show 2 * 0 + _ ≤ _; omega) hd (jcells h0' hle h2)) (fun H1 locs1 hR1 hS1 => ?_)
    · rw [← hrC]
      exact jrecv X.kn hR hKb hc hbz hr
    · have := kk H1 locs1 la hR1 hS1 hl
      rw [← jvmap] at this
      exact this
theorem jw_callSW {own : String} {idx : Nat} {mi1 : Mi} {d1 n : Nat} {As rest : List Value} {P1 : Rs → Mm → Prop} {h0 : Nat × Nat × Nat × Nat} {ht : List (Nat × Nat × Nat × Nat)} (ho : own = mi.1.cls) (hd : decode mi.2.1 pc = .ok (.invokestatic idx, 3)) (hhh : mi1.2.2.2.2 = h0 :: ht) (hlk : GoodIn lw_all (va_wsS own idx mi1.1 (wsW_ mi1.1 mi1.2.1 mi1.2.2.1 mi1.2.2.2.1 (h0 :: ht)))) (hT : jT G mi1 d1 As M P1) (hf : jfit mi1 d1 d n) (hAs : As.length = n) (hst : st = As.reverse ++ rest) (hcat : (rest.map fun v => v.category).sum ≤ 8)
    (k : ∀ v M1, P1 (.inl v) M1 → jW G mi d M0 (pc + 3) ls (v.toList ++ rest) M1 P) (kx : ∀ a M1, P1 (.inr a) M1 → False) : jW G mi d M0 pc ls st M P := by
  subst ho; subst hst
  obtain ⟨r1, M1, p1, hle, hM⟩ := hT
  have hstk : ((As.reverse ++ rest).map (jv G)) = (As.map (jv G)).reverse ++ rest.map (jv G) := by rw [List.map_append, List.map_reverse]
  cases r1 with
  | inr a => exact (kx a M1 p1).elim
  | inl v =>
    refine jW.go (pc1 := pc + 3) (ls1 := ls) (st1 := v.toList ++ rest) (M1 := M1) hle (fun p e s m args below meth c1 H locs la M' Q X hR hS hl h0' h2 kk => ?_) (k v M1 p1)
    have hMet : Met (jg_l G) mi1.1 (jws mi1) (jrm d1 M M1) (jPc G As M) (jQn G v M1) (jm_Z M1 - jm_Z M) (jm_S M1 - jm_S M) (jAf G) := hM
    rw [jws_codeW hhh] at hMet
    rw [hstk]
    refine jcallN (a9 := (As.map (jv G)).toArray) hR hle h0' hS (vx_runSW (As := As.map (jv G)) (rest := rest.map (jv G)) (jfix X) hMet (vx_cwSW n X.ts hlk rfl rfl rfl hf.2.2 (jroom hf)) (jpre X.kn hR) rfl (by rw [List.length_map]; exact hAs) hl.1 rfl (by rw [jcats]; show 2 * 0 + _ ≤ _; omega) hd (jcells h0' hle h2)) (fun H1 locs1 hR1 hS1 => ?_)
    have := kk H1 locs1 la hR1 hS1 hl
    rw [← jvmap] at this
    exact this
/-- System.arraycopy from one made array of ints (or booleans, kind 3) to another -/
theorem jw_copy {t : Nat} {own : String} {idx : Nat} {o1 o2 : Option Nat} {a b : Nat} {i j n : Int32} {i' j' n' : Nat} (ho : own = mi.1.cls) (hl9 : Cond.methodLink own idx arraycopyName ∈ lw_all) (hnat : Cond.native arraycopyName ∈ lw_all) (hst9 : Cond.static arraycopyName ∈ lw_all) (hini : Cond.initialized "java/lang/System" ∈ lw_all) (hd : decode mi.2.1 pc = .ok (.invokestatic idx, 3)) (h1 : o1 = some a) (h2 : o2 = some b) (h64 : 64 ≤ b) (ht : t < 4) (hka : jok M a t) (hkb : jok M b t) (hi : i = nI i') (hj : j = nI j') (hn : n = nI n') (hia : i' + n' ≤ jm_N M a) (hjb : j' + n' ≤ jm_N M b) (hfit : ∀ ty, jtys[t]? = some ty → ∀ k, k < n' → fits ty (.int (jm_A M a (i' + k))) = true) (hd1 : 2 ≤ d) (hcat : (st.map fun v => v.category).sum ≤ 8)
    (k : jW G mi d M0 (pc + 3) ls st (js_As M b (fun q => if j' ≤ q ∧ q < j' + n' then jm_A M a (i' + (q - j')) else jm_A M b q)) P) : jW G mi d M0 pc ls (.int n :: .int j :: jr o2 :: .int i :: jr o1 :: st) M P := by
  subst ho; subst h1; subst h2
  refine jW.go (M1 := js_As M b (fun q => if j' ≤ q ∧ q < j' + n' then jm_A M a (i' + (q - j')) else jm_A M b q)) ⟨Nat.le_refl _, Nat.le_refl _⟩ (fun p e s m args below meth c1 H locs la M' Q X hR hS hl h0 h2 kk => ?_) k
  obtain ⟨ca, a1, a2, a3, a4, a5, a6, a7, a8⟩ := jarr_get hR hka
  obtain ⟨cb, b1, b2, b3, b4, b5, b6, b7, b8⟩ := jarr_get hR hkb
  have htt : t < jtys.length := by show t < 9; omega
  have hty := List.getElem?_eq_getElem htt
  obtain ⟨-, ka, hka1, cma, hka2⟩ := jarrOf X.kn hka.1 hty hka.2.2 a2 a3
  obtain ⟨-, kb, hkb1, cmb, hkb2⟩ := jarrOf X.kn hkb.1 hty hkb.2.2 b2 b3
  have ci : i.toNatClampNeg = i' := by rw [hi]; exact nI_clamp (by omega)
  have cj : j.toNatClampNeg = j' := by rw [hj]; exact nI_clamp (by omega)
  have cn : n.toNatClampNeg = n' := by rw [hn]; exact nI_clamp (by omega)
  have ti : i.toInt = (i' : Int) := by rw [hi]; exact nI_toInt (by omega)
  have tj : j.toInt = (j' : Int) := by rw [hj]; exact nI_toInt (by omega)
  have tn : n.toInt = (n' : Int) := by rw [hn]; exact nI_toInt (by omega)
  have hpr : refKind jtys[t] = false := by
    match t, ht, htt with
    | 0, _, _ => rfl
    | 1, _, _ => rfl
    | 2, _, _ => rfl
    | 3, _, _ => rfl
  have hev : ∀ (M2 : Mm) (x y : Nat), jev M2 x t y = .int (jm_A M2 x y) := by
    intro M2 x y
    match t, ht with
    | 0, _ => rfl
    | 1, _ => rfl
    | 2, _ => rfl
    | 3, _ => rfl
  rw [hka.1, Nat.add_sub_cancel_left] at a8
  rw [hkb.1, Nat.add_sub_cancel_left] at b8
  intro T hT XT
  obtain ⟨vm', X', step⟩ := XT.arraycopy X.x X.own (X.ts _ hl9) (X.ts _ hnat) (X.ts _ hst9) (X.ts _ hini) (src := je G a) (dst := je G b) (cs := ca) (cd := cb) (srcPos := i) (destPos := j) (n := n) (by rw [hT]; exact a1) (by rw [hT]; exact b1) a3 b3 a4 b4 hka1 hkb1 hka2 hkb2 (by simp [hpr]) (by rw [hi]; exact nI_pos (by omega)) (by rw [hj]; exact nI_pos (by omega)) (by rw [hn]; exact nI_pos (by omega)) (by rw [ti, tn]; omega) (by rw [tj, tn]; omega)
    (fun vm₁ _ q hq => by
      rw [cn] at hq
      have e : ca.slots.getD (i.toNatClampNeg + q) .null = .int (jm_A M a (i' + q)) := by
        rw [Array.getD_eq_getD_getElem?, ci, a8 (i' + q) (by omega), hev]
        rfl
      rw [e]
      exact ⟨hfit _ hty q hq, trivial⟩)
    (g := F0 m pc la (.int n :: .int j :: .ref (je G b) :: .int i :: .ref (je G a) :: st.map (jv G))) rfl (by rw [X.ml]; exact hl.1) (rest := st.map (jv G)) rfl (by rw [X.b]; exact hd) (show 1 ≤ d by omega) (by rw [jcats]; show 2 * 0 + _ + (_ + 11) ≤ 64 * d; have h9 : nativeFrameWords "java/lang/System" "arraycopy" 5 ≤ 90 := (by decide +kernel); omega)
  obtain ⟨f1, f2, f3, -, -⟩ := Cell.storeRun_facts cb j.toNatClampNeg (ca.stretch i.toNatClampNeg n.toNatClampNeg)
  have hlen : (ca.stretch i.toNatClampNeg n.toNatClampNeg).length = n' := by simp [Cell.stretch, cn]
  have hget : ∀ q : Nat, (copied ca cb i j n).slots[q]? = if j' ≤ q ∧ q < j' + n' then (ca.stretch i' n')[q - j']? else cb.slots[q]? := by
    intro q
    have := Cell.storeRun_get cb j.toNatClampNeg (ca.stretch i.toNatClampNeg n.toNatClampNeg) q (by rw [hlen, cj]; omega)
    rw [hlen, cj, ci, cn] at this
    rw [← this]
    show (cb.storeRun _ (ca.stretch _ _)).slots[q]? = _
    rw [cj, ci, cn]
  generalize hcp : copied ca cb i j n = cp at X' step hget
  have g1 : cp.cls = cb.cls := by rw [← hcp]; exact f1
  have g2 : cp.vm = cb.vm := by rw [← hcp]; exact f2
  have g3 : cp.slots.size = cb.slots.size := by rw [← hcp]; exact f3
  have hlt : je G b < H.size := (Array.getElem?_eq_some_iff.mp b1).1
  have hheap : ((T.setVm vm').setCell (je G b) cp).heap = H.setIfInBounds (je G b) cp := by rw [← hT]; rfl
  have oq : ∀ q : Nat, q ≠ je G b → (H.setIfInBounds (je G b) cp)[q]? = H[q]? := fun q hq => by simp [Array.getElem?_setIfInBounds, Ne.symm hq]
  have e1 : (H.setIfInBounds (je G b) cp)[je G b]? = some cp := by simp [Array.getElem?_setIfInBounds, hlt]
  have hcell : jcell G (js_As M b (fun q => if j' ≤ q ∧ q < j' + n' then jm_A M a (i' + (q - j')) else jm_A M b q)) b (H.setIfInBounds (je G b) cp) := by
    refine ⟨fun _ h => by rw [jK_As, hkb.1] at h; omega, fun _ => ⟨cp, e1, ?_, by rw [g2]; exact b3, by rw [g2]; exact b4, by rw [g3]; exact b5, by rw [g3]; exact b6, b7, fun q hq => ?_⟩⟩
    · rw [g1, b2]; rfl
    · rw [jN_As] at hq
      rw [jK_As, hkb.1, Nat.add_sub_cancel_left, hev, jA_As, if_pos rfl, hget q]
      by_cases hin : j' ≤ q ∧ q < j' + n'
      · rw [if_pos hin, if_pos hin]
        have : (ca.stretch i' n')[q - j']? = some (ca.slots.getD (i' + (q - j')) .null) := by
          unfold Cell.stretch
          rw [List.getElem?_map, List.getElem?_range (by omega)]
          rfl
        rw [this, Array.getD_eq_getD_getElem?, a8 (i' + (q - j')) (by omega), hev]
        rfl
      · rw [if_neg hin, if_neg hin, b8 q hq, hev]
  have hal : ∀ x, x ≠ b → jal M (js_As M b (fun q => if j' ≤ q ∧ q < j' + n' then jm_A M a (i' + (q - j')) else jm_A M b q)) x := fun x hx => ⟨rfl, rfl, fun _ => rfl, fun _ => rfl, fun _ => rfl, fun y => by rw [jA_As, if_neg hx], fun _ => rfl, fun _ => rfl⟩
  have hR1 := hR.set (M1 := js_As M b (fun q => if j' ≤ q ∧ q < j' + n' then jm_A M a (i' + (q - j')) else jm_A M b q)) (H1 := H.setIfInBounds (je G b) cp) h64 (by simp) oq rfl hal hcell
  obtain ⟨t9, c1, c2⟩ := kk (H.setIfInBounds (je G b) cp) _ la hR1 ⟨by simp; exact hS.1, fun q z1 z2 => by
      rw [oq q (fun e => z2 (by rw [e]; exact je_ge h64))]
      exact hS.2.1 q z1 z2, fun q hq => by
      rcases List.mem_append.mp hq with h | h
      · exact hS.2.2 q h
      · obtain ⟨z, -, hz⟩ := List.mem_map.mp h
        rw [← hz]
        exact je_ge h64⟩ hl _ hheap X'
  exact ⟨t9, step _ c1, c2⟩
end JD
