section JC
variable {G : Gh} {mi : Mi} {d : Nat} {M0 : Mm} {pc : Nat} {ls : List (Option Value)} {st : List Value} {M : Mm} {P : Rs → Mm → Prop}
/-! ends -/
theorem jend {r : Rs} (hP : P r M) (h : ∀ (p : Program) (e : Env) (s : State) (m : MethodId) (args : Array Value) (below : List Frame) (meth : Method) (c : Code) (H : Heap) (locs : List Loc) (la : Array Slot),
    jCx G mi p s m args meth c → jRep G M H → va_S (jAf G) s.heap H locs → jlv G la mi.2.2.1 ls → jLe M0 M →
    W p (jg_l G) e (jrm d M0 M) s m args below meth c H locs (jm_Z M - jm_Z M0) (jm_S M - jm_S M0) (jEnd G r M below args s (jm_Z M - jm_Z M0) (jm_S M - jm_S M0)) (F0 m pc la (st.map (jv G)))) : jW G mi d M0 pc ls st M P := ⟨r, M, hP, jLe.rf, h⟩
theorem jw_ireturn {v : Int32} {ty : FieldType} (hd : decode mi.2.1 pc = .ok (.ireturn, 1)) (hr : mi.2.2.2.1 = some ty) (hn : narrow ty (.int v) = .int v) (hP : P (.inl (some (.int v))) M) : jW G mi d M0 pc ls [.int v] M P :=
  jend hP fun p e s m args below meth c H locs la X hR hS hl hle => W.zret X.x X.b (X.r.trans hr) hn (fun t ht _ => ⟨rfl, by rw [ht]; exact hR⟩) hS.2.2 hd X.lk
theorem jw_lreturn {v : Int64} (hd : decode mi.2.1 pc = .ok (.lreturn, 1)) (hr : mi.2.2.2.1 = some .long) (hP : P (.inl (some (.long v))) M) : jW G mi d M0 pc ls [.long v] M P :=
  jend hP fun p e s m args below meth c H locs la X hR hS hl hle => W.lret X.x X.b (X.r.trans hr) (fun t ht _ => ⟨rfl, by rw [ht]; exact hR⟩) hS.2.2 hd X.lk
theorem jw_areturn {o : Option Nat} {ty : FieldType} (hd : decode mi.2.1 pc = .ok (.areturn, 1)) (hr : mi.2.2.2.1 = some ty) (hrt : (∃ n, ty = .object n) ∨ ∃ t, ty = .array t) (hP : P (.inl (some (jr o))) M) : jW G mi d M0 pc ls [jr o] M P :=
  jend hP fun p e s m args below meth c H locs la X hR hS hl hle => W.aret X.x X.b (X.r.trans hr) hrt (by cases o with | none => exact Or.inl rfl | some a => exact Or.inr ⟨_, rfl⟩) (fun t ht _ => ⟨rfl, by rw [ht]; exact hR⟩) hS.2.2 hd X.lk
theorem jw_return (hd : decode mi.2.1 pc = .ok (.return_, 1)) (hr : mi.2.2.2.1 = none) (hP : P (.inl none) M) : jW G mi d M0 pc ls [] M P :=
  jend hP fun p e s m args below meth c H locs la X hR hS hl hle => W.vret X.x X.b (X.r.trans hr) (fun t ht _ => ⟨rfl, by rw [ht]; exact hR⟩) hS.2.2 hd X.lk
/-! throwing -/
theorem jw_athrow {o : Option Nat} {a : Nat} (hd : decode mi.2.1 pc = .ok (.athrow, 1)) (ho : o = some a) (k : jX G mi d M0 pc ls a M P) : jW G mi d M0 pc ls (jr o :: st) M P := by
  subst ho
  obtain ⟨r, M', h1, h2, h3⟩ := k
  exact ⟨r, M', h1, h2, fun p e s m args below meth c H locs la X hR hS hl hle => vx_athrow X.x X.b hd (h3 p e s m args below meth c H locs la (st.map (jv G)) X hR hS hl hle)⟩
/-- not caught here -/
theorem jx_out {a : Nat} (hh : mi.2.2.2.2 = []) (h64 : 64 ≤ a) (haz : a < jm_Z M) (hK1 : 1 ≤ jm_K M a) (hK2 : jm_K M a < 100) (hP : P (.inr a) M) : jX G mi d M0 pc ls a M P := by
  refine ⟨.inr a, M, hP, jLe.rf, ?_⟩
  intro p e s m args below meth c H locs la rest X hR hS hl hle
  obtain ⟨r, cell, g1, g2, g3, g4, g5, g6, g7⟩ := (hR.2.2.2.2 a haz).1 hK1 hK2
  have hcls := (X.kn.1 _ r g1).2
  refine vy_out (E := r.1) (ce := cell) (fun x hx => ?_) X.lk g2 (g6 h64) (by rw [g3]; exact hcls.1) (fun t ht _ => ⟨rfl, by rw [ht]; exact hR, h64, haz, hK1, hK2, r, g1, rfl⟩) hS.2.2 (Nat.le_refl _) (Nat.le_refl _)
  rw [X.tb, hh] at hx
  cases hx
/-- caught by the one handler there is, which covers pc and names the thrown thing's own kind -/
theorem jx_catch {a c0 : Nat} {hp : Nat × Nat × Nat × Nat} {nm : String} (hh : mi.2.2.2.2 = [hp]) (hcov : hp.1 ≤ pc ∧ pc < hp.2.1) (h0 : hp.2.2.2 ≠ 0) (hlk : Cond.classLink mi.1.cls hp.2.2.2 nm ∈ lw_all) (hca : Cond.castable nm nm ∈ lw_tbl) (h64 : 64 ≤ a) (haz : a < jm_Z M) (hK : jm_K M a = c0 + 1) (hK2 : c0 < 99) {r : vw_C} (hr : jcls[c0]? = some r) (hrn : r.1 = nm) (k : jW G mi d M0 hp.2.2.1 ls [jr (some a)] M P) : jX G mi d M0 pc ls a M P := by
  obtain ⟨r1, M', h1, h2, h3⟩ := k
  refine ⟨r1, M', h1, h2, ?_⟩
  intro p e s m args below meth c H locs la rest X hR hS hl hle
  obtain ⟨r', cell, g1, g2, g3, g4, g5, g6, g7⟩ := (hR.2.2.2.2 a haz).1 (by omega) (by omega)
  have hKc : jm_K M a - 1 = c0 := by omega
  rw [hKc] at g1 g3
  cases hr.symm.trans g1
  have hcls := (X.kn.1 _ r hr).2
  rw [hrn] at hcls
  have htb := X.tb
  rw [hh] at htb
  refine vx_catch X.own [] ⟨hp.1, hp.2.1, hp.2.2.1, hp.2.2.2⟩ [] htb (fun z hz => by cases hz) (by simp only [covers, Bool.and_eq_true, decide_eq_true_eq]; exact hcov) h0 (X.ts _ hlk) (va_Nw.use (A := args) rfl (X.kn.2.2.2.2.1 _ hca rfl)) g2 (g6 h64) (by rw [g3]; exact hcls.1) ?_
  exact h3 p e s m args below meth c H locs la X hR hS hl hle
/-! calls -/
theorem jcats (G : Gh) (st : List Value) : ((st.map (jv G)).map fun v => v.category).sum = (st.map fun v => v.category).sum := by
  rw [List.map_map]
  congr 1
  exact List.map_congr_left fun v _ => jv_cat G v
theorem jfix {p : Program} {s : State} {m : MethodId} {args : Array Value} {meth : Method} {c : Code} (X : jCx G mi p s m args meth c) : CallFix p m c mi.2.1 mi.2.2.1 s args lw_all mi.1.cls := ⟨X.x, X.b, X.ml, X.own, X.ts⟩
theorem jvaS {s : State} {H H1 : Heap} {locs L : List Loc} {M1 : Mm} (hR : jRep G M H) (hR1 : jRep G M1 H1) (hle : jLe M M1) (hS : va_S (jAf G) s.heap H locs) (hL : ∀ q ∈ L, jAf G q.base) : va_S (jAf G) s.heap H1 (locs ++ L) := by
  have a1 := hR.2.1
  have a2 := hR1.2.1
  have a3 := hle.1
  refine ⟨Nat.le_trans hS.1 (by omega), fun q h1 h2 => ?_, fun q hq => ?_⟩
  · have hb : q < jg_b G := by
      unfold jAf at h2
      omega
    rw [hR1.2.2.1 q hb, ← hR.2.2.1 q hb]
    exact hS.2.1 q h1 h2
  · rcases List.mem_append.mp hq with h | h
    · exact hS.2.2 q h
    · exact hL q h
/-- behind a call that returned -/
theorem jcallN {p : Program} {e : Env} {s : State} {m : MethodId} {args : Array Value} {below : List Frame} {meth : Method} {c : Code} {H : Heap} {locs : List Loc} {la : Array Slot} {R : Room} {Q : State → Prop} {a9 : Array Value} {v : Option Value} {M1 : Mm} {st0 rest : List Value} (hR : jRep G M H) (hle : jLe M M1) (h0 : jLe M0 M) (hS : va_S (jAf G) s.heap H locs)
    (hr : va_Run p (jg_l G) e R s m args below meth c H locs (jm_Z M - jm_Z M0) (jm_S M - jm_S M0) (jm_Z M1 - jm_Z M) (jm_S M1 - jm_S M) (F0 m pc la st0) rest (jQn G v M1 a9) (jAf G))
    (kk : ∀ (H1 : Heap) (locs1 : List Loc), jRep G M1 H1 → va_S (jAf G) s.heap H1 locs1 → W p (jg_l G) e R s m args below meth c H1 locs1 (jm_Z M1 - jm_Z M0) (jm_S M1 - jm_S M0) Q (F0 m (pc + 3) la ((v.map (jv G)).toList ++ rest))) : W p (jg_l G) e R s m args below meth c H locs (jm_Z M - jm_Z M0) (jm_S M - jm_S M0) Q (F0 m pc la st0) := by
  intro T hT X
  obtain ⟨v', st₀, t, T', L, e0, X', hL, e1, e2, ⟨hv, hR1⟩, sp⟩ := hr T hT X
  cases hv
  have hR1' : jRep G M1 T'.heap := by rw [e1]; exact hR1
  have hz := hle.1
  have hs := hle.2
  have hz0 := h0.1
  have hs0 := h0.2
  have k1 := kk T'.heap (locs ++ L) hR1' (jvaS hR hR1' hle hS hL)
  rw [show jm_Z M1 - jm_Z M0 = jm_Z M - jm_Z M0 + (jm_Z M1 - jm_Z M) by omega, show jm_S M1 - jm_S M0 = jm_S M - jm_S M0 + (jm_S M1 - jm_S M) by omega] at k1
  obtain ⟨t2, b1, b2⟩ := k1 T' rfl X'
  exact ⟨t2, sp t2 b1, b2⟩
theorem jvmap (v : Option Value) (st : List Value) : (v.map (jv G)).toList ++ st.map (jv G) = (v.toList ++ st).map (jv G) := by cases v <;> rfl
theorem jpre {As : List Value} {s : State} {H : Heap} (hK : jKn G s) (hR : jRep G M H) : PreS s H (jPc G As M) (As.map (jv G)) := ⟨jPc.blind, fun U hU hW => ⟨rfl, by rw [hU]; exact hR, hK.warm hW⟩⟩
theorem jrecv {b c : Nat} {s : State} {H : Heap} (hK : jKn G s) (hR : jRep G M H) (hKb : jm_K M b = c + 1) (hc : c < 99) (hbz : b < jm_Z M) {r : vw_C} (hr : jcls[c]? = some r) : ∃ cellB : Cell, H[je G b]? = some cellB ∧ cellB.vm.isStatics = false ∧ s.vm.findClass r.1 = some cellB.cls := by
  obtain ⟨r', cell, g1, g2, g3, g4, -⟩ := (hR.2.2.2.2 b hbz).1 (by omega) (by omega)
  have hKc : jm_K M b - 1 = c := by omega
  rw [hKc] at g1 g3
  cases hr.symm.trans g1
  exact ⟨cell, g2, g4, by rw [g3]; exact (hK.1 c r hr).2.1⟩
/-- what is owed for a call, beside the callee's contract: its depth, its locals, its argument count -/
def jfit (mi1 : Mi) (d1 d n : Nat) : Prop := d1 + 1 ≤ d ∧ mi1.2.2.1 ≤ 40 ∧ mi1.1.cls ≠ "java/lang/invoke/MethodHandle" ∧ mi1.1.cls ≠ "java/lang/invoke/VarHandle" ∧ (parseMethodDescriptor mi1.1.desc).map (fun d => d.parameters.length) = some n
theorem jws_code {mi1 : Mi} (h : mi1.2.2.2.2 = []) : jws mi1 = Cond.code mi1.1 mi1.2.1 mi1.2.2.1 mi1.2.2.2.1 :: lw_all := by unfold jws; rw [h]
theorem jroom {mi1 : Mi} {d1 d n : Nat} {M' M1 : Mm} (h : jfit mi1 d1 d n) : (jrm d1 M M1).frames + 1 ≤ (jrm d M0 M').frames ∧ 8 + (mi1.2.2.1 + 11) + (jrm d1 M M1).locals ≤ (jrm d M0 M').locals := ⟨h.1, by
  have h1 := h.1
  have h2 := h.2.1
  show 8 + (mi1.2.2.1 + 11) + 64 * d1 ≤ 64 * d
  omega⟩
theorem jcells {M1 M' : Mm} (h0 : jLe M0 M) (h1 : jLe M M1) (h2 : jLe M1 M') : jm_Z M - jm_Z M0 + (jm_Z M1 - jm_Z M) ≤ jm_Z M' - jm_Z M0 ∧ jm_S M - jm_S M0 + (jm_S M1 - jm_S M) ≤ jm_S M' - jm_S M0 := by
  have := h0.1; have := h0.2; have := h1.1; have := h1.2; have := h2.1; have := h2.2
  exact ⟨by omega, by omega⟩
theorem jw_callV {own C : String} {idx : Nat} {mi1 : Mi} {d1 n c : Nat} {As rest : List Value} {o : Option Nat} {b : Nat} {P1 : Rs → Mm → Prop} (ho : own = mi.1.cls) (hd : decode mi.2.1 pc = .ok (.invokevirtual idx, 3)) (hlk : GoodIn lw_all (wsV own idx C mi1.1 (ws_ mi1.1 mi1.2.1 mi1.2.2.1 mi1.2.2.2.1))) (hhh : mi1.2.2.2.2 = []) (hob : o = some b) (hT : jT G mi1 d1 (jr (some b) :: As) M P1) (hf : jfit mi1 d1 d n) (hC : mi1.1.cls = C) (hAs : As.length = n) (hst : st = As.reverse ++ jr o :: rest) (hcat : (rest.map fun v => v.category).sum ≤ 8) (hKb : jm_K M b = c + 1) (hc : c < 99) (hbz : b < jm_Z M) {r : vw_C} (hr : jcls[c]? = some r) (hrC : r.1 = C)
    (k : ∀ v M1, P1 (.inl v) M1 → jW G mi d M0 (pc + 3) ls (v.toList ++ rest) M1 P) (kx : ∀ a M1, P1 (.inr a) M1 → jX G mi d M0 pc ls a M1 P) : jW G mi d M0 pc ls st M P := by
  subst ho; subst hst; subst hob
  obtain ⟨r1, M1, p1, hle, hM⟩ := hT
  have hstk : ((As.reverse ++ jr (some b) :: rest).map (jv G)) = (As.map (jv G)).reverse ++ .ref (je G b) :: rest.map (jv G) := by
    rw [List.map_append, List.map_reverse, List.map_cons, jv_s]
  cases r1 with
  | inl v =>
    refine jW.go (pc1 := pc + 3) (ls1 := ls) (st1 := v.toList ++ rest) (M1 := M1) hle (fun p e s m args below meth c1 H locs la M' Q X hR hS hl h0 h2 kk => ?_) (k v M1 p1)
    have hMet : Met (jg_l G) mi1.1 (jws mi1) (jrm d1 M M1) (jPc G (jr (some b) :: As) M) (jQn G v M1) (jm_Z M1 - jm_Z M) (jm_S M1 - jm_S M) (jAf G) := hM
    have hws := jws_code hhh
    rw [hws] at hMet
    rw [hstk]
    refine jcallN (a9 := (Value.ref (je G b) :: As.map (jv G)).toArray) hR hle h0 hS (va_runV (C := C) (b := je G b) (As := As.map (jv G)) (rest := rest.map (jv G)) (jfix X) hMet (cwV n X.ts hlk rfl rfl rfl ⟨hC, hf.2.2⟩ (jroom hf)) ⟨jPc.blind, ?_, fun U hU hW => ⟨by rw [List.map_cons, jv_s], by rw [hU]; exact hR, X.kn.warm hW⟩⟩ rfl (by rw [List.length_map]; exact hAs) hl.1 rfl (by rw [jcats]; show 2 * 0 + _ ≤ _; omega) hd (jcells h0 hle h2)) (fun H1 locs1 hR1 hS1 => ?_)
    · rw [← hrC]
      exact jrecv X.kn hR hKb hc hbz hr
    · have := kk H1 locs1 la hR1 hS1 hl
      rw [← jvmap] at this
      exact this
  | inr a =>
    have hM : vy_Met (jg_l G) mi1.1 (jws mi1) (jrm d1 M M1) (jPc G (jr (some b) :: As) M) (fun _ _ _ _ => False) (jXC G a M1) (jm_Z M1 - jm_Z M) (jm_S M1 - jm_S M) (jAf G) := hM
    rw [jws_code hhh] at hM
    obtain ⟨r2, M', q1, q2, q3⟩ := kx a M1 p1
    refine ⟨r2, M', q1, hle.tr q2, ?_⟩
    intro p e s m args below meth c1 H locs la X hR hS hl h0
    rw [hstk]
    have hrun := vy_runV (C := C) (b := je G b) (As := As.map (jv G)) (rest := rest.map (jv G)) (g := F0 m pc la ((As.map (jv G)).reverse ++ .ref (je G b) :: rest.map (jv G))) (below := below) (e := e) (locs := locs) (cells := jm_Z M - jm_Z M0) (slots := jm_S M - jm_S M0) (R := jrm d M0 M') (meth := meth) (jfix X) hM (cwV n X.ts hlk rfl rfl rfl ⟨hC, hf.2.2⟩ (jroom hf)) ⟨jPc.blind, (by rw [← hrC]; exact jrecv X.kn hR hKb hc hbz hr), fun U hU hW => ⟨by rw [List.map_cons, jv_s], by rw [hU]; exact hR, X.kn.warm hW⟩⟩ rfl (by rw [List.length_map]; exact hAs) hl.1 rfl (by rw [jcats]; show 2 * 0 + _ ≤ _; omega) hd (jcells h0 hle q2)
    intro T hT XT
    rcases hrun T hT XT with ⟨v, st₀, t, T', L, _, _, _, _, _, hF, _⟩ | ⟨q, st₀, t, T', L, E, ce, z0, X', hL, z1, z2, ⟨hqe, hR1, -⟩, hce, hcv, hcl, stp⟩
    · exact hF.elim
    · have hR1' : jRep G M1 T'.heap := by rw [z1]; exact hR1
      have hz := hle.1
      have hs := hle.2
      have hz0 := h0.1
      have hs0 := h0.2
      have k1 := q3 p e s m args below meth c1 T'.heap (locs ++ L) la (rest.map (jv G)) X hR1' (jvaS hR hR1' hle hS hL) hl (h0.tr hle)
      rw [show jm_Z M1 - jm_Z M0 = jm_Z M - jm_Z M0 + (jm_Z M1 - jm_Z M) by omega, show jm_S M1 - jm_S M0 = jm_S M - jm_S M0 + (jm_S M1 - jm_S M) by omega, ← hqe] at k1
      obtain ⟨t2, b1, b2⟩ := k1 T' rfl X'
      exact ⟨t2, stp.trans b1, b2⟩
theorem jw_callS {own : String} {idx : Nat} {mi1 : Mi} {d1 n : Nat} {As rest : List Value} {P1 : Rs → Mm → Prop} (ho : own = mi.1.cls) (hd : decode mi.2.1 pc = .ok (.invokestatic idx, 3)) (hlk : GoodIn lw_all (va_wsS own idx mi1.1 (ws_ mi1.1 mi1.2.1 mi1.2.2.1 mi1.2.2.2.1))) (hhh : mi1.2.2.2.2 = []) (hT : jT G mi1 d1 As M P1) (hf : jfit mi1 d1 d n) (hAs : As.length = n) (hst : st = As.reverse ++ rest) (hcat : (rest.map fun v => v.category).sum ≤ 8)
    (k : ∀ v M1, P1 (.inl v) M1 → jW G mi d M0 (pc + 3) ls (v.toList ++ rest) M1 P) (kx : ∀ a M1, P1 (.inr a) M1 → False) : jW G mi d M0 pc ls st M P := by
  subst ho; subst hst
  obtain ⟨r1, M1, p1, hle, hM⟩ := hT
  have hstk : ((As.reverse ++ rest).map (jv G)) = (As.map (jv G)).reverse ++ rest.map (jv G) := by rw [List.map_append, List.map_reverse]
  cases r1 with
  | inr a => exact (kx a M1 p1).elim
  | inl v =>
    refine jW.go (pc1 := pc + 3) (ls1 := ls) (st1 := v.toList ++ rest) (M1 := M1) hle (fun p e s m args below meth c1 H locs la M' Q X hR hS hl h0 h2 kk => ?_) (k v M1 p1)
    have hMet : Met (jg_l G) mi1.1 (jws mi1) (jrm d1 M M1) (jPc G As M) (jQn G v M1) (jm_Z M1 - jm_Z M) (jm_S M1 - jm_S M) (jAf G) := hM
    rw [jws_code hhh] at hMet
    rw [hstk]
    refine jcallN (a9 := (As.map (jv G)).toArray) hR hle h0 hS (va_runS (As := As.map (jv G)) (rest := rest.map (jv G)) (jfix X) hMet (va_cwS n X.ts hlk rfl rfl rfl hf.2.2 (jroom hf)) (jpre X.kn hR) rfl (by rw [List.length_map]; exact hAs) hl.1 rfl (by rw [jcats]; show 2 * 0 + _ ≤ _; omega) hd (jcells h0 hle h2)) (fun H1 locs1 hR1 hS1 => ?_)
    have := kk H1 locs1 la hR1 hS1 hl
    rw [← jvmap] at this
    exact this
theorem jw_callSN {own host : String} {idx : Nat} {mi1 : Mi} {d1 n : Nat} {As rest : List Value} {P1 : Rs → Mm → Prop} (ho : own = mi.1.cls) (hd : decode mi.2.1 pc = .ok (.invokestatic idx, 3)) (hl9 : Cond.methodLinkNest own idx mi1.1 host ∈ lw_tbl) (hini : Cond.initialized mi1.1.cls ∈ lw_all) (hst9 : Cond.static mi1.1 ∈ lw_all) (hco : Cond.code mi1.1 mi1.2.1 mi1.2.2.1 mi1.2.2.2.1 ∈ lw_all) (hhh : mi1.2.2.2.2 = []) (hT : jT G mi1 d1 As M P1) (hf : jfit mi1 d1 d n) (hAs : As.length = n) (hst : st = As.reverse ++ rest) (hcat : (rest.map fun v => v.category).sum ≤ 8)
    (k : ∀ v M1, P1 (.inl v) M1 → jW G mi d M0 (pc + 3) ls (v.toList ++ rest) M1 P) (kx : ∀ a M1, P1 (.inr a) M1 → False) : jW G mi d M0 pc ls st M P := by
  subst ho; subst hst
  obtain ⟨r1, M1, p1, hle, hM⟩ := hT
  have hstk : ((As.reverse ++ rest).map (jv G)) = (As.map (jv G)).reverse ++ rest.map (jv G) := by rw [List.map_append, List.map_reverse]
  cases r1 with
  | inr a => exact (kx a M1 p1).elim
  | inl v =>
    refine jW.go (pc1 := pc + 3) (ls1 := ls) (st1 := v.toList ++ rest) (M1 := M1) hle (fun p e s m args below meth c1 H locs la M' Q X hR hS hl h0 h2 kk => ?_) (k v M1 p1)
    have hMet : Met (jg_l G) mi1.1 (jws mi1) (jrm d1 M M1) (jPc G As M) (jQn G v M1) (jm_Z M1 - jm_Z M) (jm_S M1 - jm_S M) (jAf G) := hM
    rw [jws_code hhh] at hMet
    rw [hstk]
    refine jcallN (a9 := (As.map (jv G)).toArray) hR hle h0 hS (va_runSN (As := As.map (jv G)) (rest := rest.map (jv G)) (jfix X) hMet ⟨va_cnB n X.ts (lw_meth hco) rfl rfl rfl (X.kn.2.2.2.2.1 _ hl9 rfl) (X.ts _ hini) hf.2.2 (jroom hf), X.ts _ hst9, trivial⟩ (jpre X.kn hR) rfl (by rw [List.length_map]; exact hAs) hl.1 rfl (by rw [jcats]; show 2 * 0 + _ ≤ _; omega) hd (jcells h0 hle h2)) (fun H1 locs1 hR1 hS1 => ?_)
    have := kk H1 locs1 la hR1 hS1 hl
    rw [← jvmap] at this
    exact this
theorem jw_callI {own : String} {idx : Nat} {mi1 : Mi} {d1 n : Nat} {As rest : List Value} {o : Option Nat} {b : Nat} {P1 : Rs → Mm → Prop} (ho : own = mi.1.cls) (hd : decode mi.2.1 pc = .ok (.invokespecial idx, 3)) (hl9 : Cond.methodLink own idx mi1.1 ∈ lw_all) (hini : Cond.initialized mi1.1.cls ∈ lw_all) (hin9 : Cond.instanceMethod mi1.1 ∈ lw_all) (hco : Cond.code mi1.1 mi1.2.1 mi1.2.2.1 mi1.2.2.2.1 ∈ lw_all) (hrn : mi1.2.2.2.1 = none) (hnm : mi1.1.name = "<init>") (hhh : mi1.2.2.2.2 = []) (hob : o = some b) (hT : jT G mi1 d1 (jr (some b) :: As) M P1) (hf : jfit mi1 d1 d n) (hAs : As.length = n) (hst : st = As.reverse ++ jr o :: rest) (hcat : (rest.map fun v => v.category).sum ≤ 8)
    (k : ∀ v M1, P1 (.inl v) M1 → jW G mi d M0 (pc + 3) ls (v.toList ++ rest) M1 P) (kx : ∀ a M1, P1 (.inr a) M1 → False) : jW G mi d M0 pc ls st M P := by
  subst ho; subst hst; subst hob
  obtain ⟨r1, M1, p1, hle, hM⟩ := hT
  have hstk : ((As.reverse ++ jr (some b) :: rest).map (jv G)) = (As.map (jv G)).reverse ++ .ref (je G b) :: rest.map (jv G) := by
    rw [List.map_append, List.map_reverse, List.map_cons, jv_s]
  cases r1 with
  | inr a => exact (kx a M1 p1).elim
  | inl v =>
    refine jW.go (pc1 := pc + 3) (ls1 := ls) (st1 := v.toList ++ rest) (M1 := M1) hle (fun p e s m args below meth c1 H locs la M' Q X hR hS hl h0 h2 kk => ?_) (k v M1 p1)
    have hMet : Met (jg_l G) mi1.1 (jws mi1) (jrm d1 M M1) (jPc G (jr (some b) :: As) M) (jQn G v M1) (jm_Z M1 - jm_Z M) (jm_S M1 - jm_S M) (jAf G) := hM
    rw [jws_code hhh, hrn] at hMet
    rw [hrn] at hco
    rw [hstk]
    refine jcallN (a9 := (Value.ref (je G b) :: As.map (jv G)).toArray) hR hle h0 hS (va_runI (b := je G b) (As := As.map (jv G)) (rest := rest.map (jv G)) (jfix X) hMet (cwI n X.ts (lw_meth hco) rfl rfl rfl (X.ts _ hini) (X.ts _ hl9) (X.ts _ hin9) hnm hf.2.2 (jroom hf)) ⟨jPc.blind, fun U hU hW => ⟨by rw [List.map_cons, jv_s], by rw [hU]; exact hR, X.kn.warm hW⟩⟩ rfl (by rw [List.length_map]; exact hAs) hl.1 rfl (by rw [jcats]; show 2 * 0 + _ ≤ _; omega) hd (jcells h0 hle h2)) (fun H1 locs1 hR1 hS1 => ?_)
    have := kk H1 locs1 la hR1 hS1 hl
    rw [← jvmap] at this
    exact this
theorem jw_callIN {own host : String} {idx : Nat} {mi1 : Mi} {d1 n : Nat} {As rest : List Value} {o : Option Nat} {b : Nat} {P1 : Rs → Mm → Prop} (ho : own = mi.1.cls) (hd : decode mi.2.1 pc = .ok (.invokespecial idx, 3)) (hl9 : Cond.methodLinkNest own idx mi1.1 host ∈ lw_tbl) (hini : Cond.initialized mi1.1.cls ∈ lw_all) (hin9 : Cond.instanceMethod mi1.1 ∈ lw_all) (hco : Cond.code mi1.1 mi1.2.1 mi1.2.2.1 mi1.2.2.2.1 ∈ lw_all) (hrn : mi1.2.2.2.1 = none) (hnm : mi1.1.name = "<init>") (hhh : mi1.2.2.2.2 = []) (hob : o = some b) (hT : jT G mi1 d1 (jr (some b) :: As) M P1) (hf : jfit mi1 d1 d n) (hAs : As.length = n) (hst : st = As.reverse ++ jr o :: rest) (hcat : (rest.map fun v => v.category).sum ≤ 8)
    (k : ∀ v M1, P1 (.inl v) M1 → jW G mi d M0 (pc + 3) ls (v.toList ++ rest) M1 P) (kx : ∀ a M1, P1 (.inr a) M1 → False) : jW G mi d M0 pc ls st M P := by
  subst ho; subst hst; subst hob
  obtain ⟨r1, M1, p1, hle, hM⟩ := hT
  have hstk : ((As.reverse ++ jr (some b) :: rest).map (jv G)) = (As.map (jv G)).reverse ++ .ref (je G b) :: rest.map (jv G) := by
    rw [List.map_append, List.map_reverse, List.map_cons, jv_s]
  cases r1 with
  | inr a => exact (kx a M1 p1).elim
  | inl v =>
    refine jW.go (pc1 := pc + 3) (ls1 := ls) (st1 := v.toList ++ rest) (M1 := M1) hle (fun p e s m args below meth c1 H locs la M' Q X hR hS hl h0 h2 kk => ?_) (k v M1 p1)
    have hMet : Met (jg_l G) mi1.1 (jws mi1) (jrm d1 M M1) (jPc G (jr (some b) :: As) M) (jQn G v M1) (jm_Z M1 - jm_Z M) (jm_S M1 - jm_S M) (jAf G) := hM
    rw [jws_code hhh, hrn] at hMet
    rw [hrn] at hco
    rw [hstk]
    refine jcallN (a9 := (Value.ref (je G b) :: As.map (jv G)).toArray) hR hle h0 hS (va_runIN (b := je G b) (As := As.map (jv G)) (rest := rest.map (jv G)) (jfix X) hMet ⟨va_cnB n X.ts (lw_meth hco) rfl rfl rfl (X.kn.2.2.2.2.1 _ hl9 rfl) (X.ts _ hini) hf.2.2 (jroom hf), hnm, X.ts _ hin9⟩ ⟨jPc.blind, fun U hU hW => ⟨by rw [List.map_cons, jv_s], by rw [hU]; exact hR, X.kn.warm hW⟩⟩ rfl (by rw [List.length_map]; exact hAs) hl.1 rfl (by rw [jcats]; show 2 * 0 + _ ≤ _; omega) hd (jcells h0 hle h2)) (fun H1 locs1 hR1 hS1 => ?_)
    have := kk H1 locs1 la hR1 hS1 hl
    rw [← jvmap] at this
    exact this
/-- Object() -/
theorem jw_objInit {own : String} {idx : Nat} {o : Option Nat} {a : Nat} (ho : own = mi.1.cls) (hd : decode mi.2.1 pc = .ok (.invokespecial idx, 3)) (hl9 : Cond.methodLink own idx Lib.objectInit ∈ lw_all) (hin9 : Cond.instanceMethod Lib.objectInit ∈ lw_all) (hco : Cond.code Lib.objectInit ⟨#[0xb1]⟩ 1 none ∈ lw_all) (hoa : o = some a) (hd1 : 1 ≤ d) (hcat : (st.map fun v => v.category).sum ≤ 8) (k : jW G mi d M0 (pc + 3) ls st M P) : jW G mi d M0 pc ls (jr o :: st) M P := by
  subst ho; subst hoa
  refine jW.go (M1 := M) jLe.rf (fun p e s m args below meth c H locs la M' Q X hR hS hl h0 h2 kk => ?_) k
  refine W.objInit X.x X.b X.own (X.ts _ hl9) (X.ts _ hin9) (X.ts _ hco) rfl (by rw [X.ml]; exact hl.1) (a := je G a) (rest := st.map (jv G)) rfl hd hd1 (by rw [jcats]; show 2 * 0 + _ + 12 ≤ 64 * d; omega) ?_
  exact kk H locs la hR hS hl
end JC
