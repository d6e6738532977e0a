/-! ===== 'throw new NoSuchElementException()' (after vx_throw0 of laws/EXCEPTIONS, with the thrown thing's address) ===== -/
section VYT
variable {p : Program} {l : Launch} {e : Env} {R : Room} {s : State} {m : MethodId} {args : Array Value} {below : List Frame} {meth : Method} {c : Code} {H : Heap} {locs : List Loc} {cells slots : Nat} {Q : State → Prop}
variable {mc ms : Nat} {free : Addr → Prop} {ls : Array Slot} {rest : List Value}
theorem vy_throw0 {cc : ByteArray} {pc : Nat} {Qc : Array Value → State → Outcome → State → Prop} {XC : Nat → String → State → State → Prop} (hexec : p.tables.exec = Jvm.exec) (hb : c.code = cc) (hl : l.stackTraces = false) {own cls : String} {names : List String} {ik ic : Nat} {A : Nat → Prop}
    (hown : s.vm.findClass own = some m.cls) (hcls : Bundle.fit cls = true) (hnames : ∀ n ∈ names, Bundle.fit n = true)
    (hk : (Cond.classLink own ik cls).before args s = true) (hini : (Cond.initialized cls).before args s = true) (hat : ∀ w ∈ vx_at0 own ic cls names, w.before args s = true)
    (hgood : ∀ w ∈ Cond.classLink own ik cls :: Cond.initialized cls :: vx_at0 own ic cls names, vx_ot w = true)
    (hU : vx_Zq Bundle.tN "UNASSIGNED_STACK" Bundle.steD A s H) (hN : vx_Zq Bundle.tN "SUPPRESSED_SENTINEL" Bundle.listD A s H) (hsz : s.heap.size ≤ H.size) (hsize : ls.size = c.maxLocals)
    (d0 : decode cc pc = .ok (.new ik, 3)) (d3 : decode cc (pc + 3) = .ok (.dup, 1)) (d4 : decode cc (pc + 4) = .ok (.invokespecial ic, 3)) (d7 : decode cc (pc + 7) = .ok (.athrow, 1))
    (hout : ∀ x ∈ c.exceptionTable.toList, covers x (pc + 7) = false)
    (hRframes : names.length + 3 < R.frames) (hRlocals : (rest.map fun v => v.category).sum + (13 * (names.length + 1) + 42) ≤ R.locals) (hRcells : cells + 1 ≤ R.cells) (hRslots : slots + 6 ≤ R.slots) (hlocks : meth.locks = false)
    (hx : ∀ (t : State) (ce : Cell), t.heap.size = H.size + 1 → (∀ q : Nat, q < H.size → t.heap[q]? = H[q]?) → t.heap[H.size]? = some ce → ce.vm = .none → s.vm.findClass cls = some ce.cls → XC H.size cls s t)
    (hf : ∀ z ∈ locs, free z.base) (hc : cells + 1 ≤ mc) (hs : slots + 6 ≤ ms) :
    W p l e R s m args below meth c H locs cells slots (vy_MQ below Qc XC args s mc ms free) (F0 m pc ls rest) := by
  intro T hT X
  have htr : e.platform.stackTraces = false := (show e.platform.stackTraces = l.stackTraces by rw [X.admits.platform]).trans hl
  have Y := vx_rebase X (R' := { frames := R.frames, locals := R.locals, cells := 1, slots := 6 }) (Nat.le_refl _) (Nat.le_refl _) hRcells hRslots
  obtain ⟨s', hA⟩ : ∃ z, z = (T.setVm s.vm).setFrames (.invoking m args :: below) := ⟨_, rfl⟩
  rw [← hA] at Y
  have hvm : s'.vm = s.vm := by rw [hA]; rfl
  have hhp : s'.heap = H := by rw [hA]; exact hT
  have hW0 : s.WarmedH s'.vm := by rw [hvm]; exact State.WarmedH.refl s
  have hat' : ∀ w ∈ vx_at0 own ic cls names, w.before args s' = true := fun w hw => vx_ot_at hW0 hvm.symm (hgood w (List.mem_cons_of_mem _ (List.mem_cons_of_mem _ hw))) (hat w hw)
  have hk' : (Cond.classLink own ik cls).before args s' = true := vx_ot_at hW0 hvm.symm (hgood _ List.mem_cons_self) hk
  have hini' : (Cond.initialized cls).before args s' = true := vx_ot_at hW0 hvm.symm (hgood _ (List.mem_cons_of_mem _ List.mem_cons_self)) hini
  have hU' : vx_Zq Bundle.tN "UNASSIGNED_STACK" Bundle.steD A s' s'.heap := by rw [hhp]; exact vx_Zq.moved hW0.alike hU
  have hN' : vx_Zq Bundle.tN "SUPPRESSED_SENTINEL" Bundle.listD A s' s'.heap := by rw [hhp]; exact vx_Zq.moved hW0.alike hN
  have h : ∀ w ∈ Bundle.ownAtoms0 own ic cls names, w.before args s' = true := vx_own hat' (vx_isRefq hU'.1) (vx_isRefq hN'.1) hU'.2.word hN'.2.word
  have hown' : s'.vm.findClass own = some m.cls := by rw [hvm]; exact hown
  have hins : (Cond.instantiable cls 6).before args s' = true := h _ (by simp [Bundle.ownAtoms0])
  obtain ⟨vm₁, cX, kX, hfX, hkX, -, -, X₁, st1⟩ := Y.newCold hexec (own := own) (C := cls) (index := ik) (n := 6) hown' hk' hins hini'
    (g := F0 m pc ls rest) rfl (by rw [hb]; exact d0) (Nat.le_refl _) (Nat.le_refl _)
  generalize hT1 : (T.setVm vm₁).pushCell { cls := cX, slots := kX.instanceTypes.map defaultValue, vm := .none } = T1 at X₁ st1
  have hcat : (Value.ref T.heap.size).category = 1 := rfl
  have hcellA : T1.heap[T.heap.size]? = some (freshCell cX kX) := by rw [← hT1]; exact State.heap_pushCell_size _ _
  have d3' : decode c.code (pc + 3) = .ok (.dup, 1) := by rw [hb]; exact d3
  obtain ⟨U, hsteps, hrun, hend, hW, hsame, ce, hce, hO⟩ := X₁.ctorThrow0 hexec htr (own := own) (cls := cls) (names := names) (ic := ic) hown' hcls hnames h (fun x hx => nomatch hx) hfX hkX hcellA (by rw [hhp, hT]; exact Nat.le_refl _)
    (g := { method := m, pc := pc + 4, locals := ls, stack := .ref T.heap.size :: .ref T.heap.size :: rest, locked := none }) rfl hsize rfl rfl (rest := rest) rfl
    (by rw [hb]; exact d4) (by rw [hb]; exact d7) hout hRframes (by simp only [List.map_cons, List.sum_cons, hcat]; omega) hlocks
  obtain ⟨f1, f2⟩ := vx_frame hsame
  rw [hhp] at f1 f2
  have f3 : U.heap.size ≤ H.size + 1 := by have := hsame.2.2.1; rw [hhp] at this; exact this
  have hWs : s.WarmedH U.vm := State.WarmedH.trans hW0 hW
  have hcl : s.vm.findClass cls = some ce.cls := by
    have h9 := hO.cls
    rw [hvm] at h9
    exact h9
  have hTH : T.heap.size = H.size := by rw [hT]
  have hall : s.sameButNew ({ U with vm := s.vm } : State) locs mc ms := by
    subst hA
    obtain ⟨e1, e2⟩ := hsame
    rw [State.setFrames_setFrames] at e1
    have h2 : (T.setVm s.vm).sameButNew ({ U with vm := s.vm } : State) [] (0 + 1) (0 + 6) := ⟨e1, e2⟩
    have h3 := X.same.trans h2
    rw [List.append_nil] at h3
    exact h3.mono hc hs
  have f4 : H.size < U.heap.size := by
    rw [hTH] at hce
    exact (Array.getElem?_eq_some_iff.mp hce).1
  refine ⟨U, ?_, .threw T.heap.size, hrun, hend, Or.inr ⟨T.heap.size, rfl, cls, ce, locs, ?_, hce, hO.vm, hcl, hWs, hall, hf⟩⟩
  · refine st1 _ ?_
    show Steps p.tables e below (T1.setTop { method := m, pc := pc + 3, locals := ls, stack := .ref T.heap.size :: rest, locked := none }) _
    jvm_step X₁.here [X₁.here.top, hexec, d3', Value.category]
    exact hsteps
  · rw [hTH]
    rw [hTH] at hce
    exact hx U ce (by omega) (fun q hq => f2 q hq (fun z hz => nomatch hz)) hce hO.vm hcl
end VYT
def ledN : List String := ["java/lang/RuntimeException", "java/lang/Exception"]
theorem led_in (w : Cond) (hw : w ∈ Bundle.ownAtoms0 "NeverUnseen" 438 "java/util/NoSuchElementException" ledN) (hn : vx_no w = true) : w ∈ lw_all ∨ (w ∈ lw_tbl ∧ jxw w = true ∧ w.onTables = true) := by
  simp only [ledN, Bundle.ownAtoms0, Bundle.throwableAtoms, Bundle.chain0Atoms, Bundle.passAtoms, List.cons_append, List.nil_append, List.mem_cons, List.mem_append, List.not_mem_nil, or_false] at hw
  repeat' rcases hw with hw | hw
  all_goals
    first
      | (exact absurd (show false = true from hn) (by decide))
      | exact Or.inl q1266
      | exact Or.inl q1267
      | exact Or.inl q154
      | exact Or.inr ⟨q198, rfl, rfl⟩
      | exact Or.inr ⟨q199, rfl, rfl⟩
      | exact Or.inl q203
      | exact Or.inl q205
      | exact Or.inl q207
      | exact Or.inl q209
      | exact Or.inl q211
      | exact Or.inl q212
      | exact Or.inl q213
      | exact Or.inl q214
      | exact Or.inl q215
      | exact Or.inl q216
      | exact Or.inl q217
      | exact Or.inl q219
      | exact Or.inl q221
      | exact Or.inl q222
      | exact Or.inl q223
      | exact Or.inl q225
      | exact Or.inl q226
      | exact Or.inl q228
      | exact Or.inl q229
      | exact Or.inl q230
      | exact Or.inl q241
      | exact Or.inl q242
      | exact Or.inl q247
      | exact Or.inl q248
      | exact Or.inl q249
      | exact Or.inl q250
      | exact Or.inl q251
      | exact Or.inl q256
      | exact Or.inl q257
      | exact Or.inl q258
      | exact Or.inl q259
      | exact Or.inl q261
      | exact Or.inl q262
      | exact Or.inl q2263
      | exact Or.inr ⟨q2280, rfl, rfl⟩
      | exact Or.inl q155
      | exact Or.inr ⟨q196, rfl, rfl⟩
      | exact Or.inr ⟨q197, rfl, rfl⟩
      | exact Or.inl q238
      | exact Or.inl q239
      | exact Or.inl q240
      | exact Or.inl q1416
      | exact Or.inl q1417
      | exact Or.inl q1418
      | exact Or.inl q156
      | exact Or.inr ⟨q194, rfl, rfl⟩
      | exact Or.inr ⟨q195, rfl, rfl⟩
      | exact Or.inl q235
      | exact Or.inl q236
      | exact Or.inl q237
      | exact Or.inl q1413
      | exact Or.inl q1414
      | exact Or.inl q1415
      | exact Or.inl q581
      | exact Or.inl q639
      | exact Or.inl q711
      | exact Or.inl q712
      | exact Or.inl q713
      | exact Or.inr ⟨q2270, rfl, rfl⟩
      | exact Or.inl q708
      | exact Or.inl q667
      | exact Or.inl q668
      | exact Or.inl q669
      | exact Or.inl q176
      | exact Or.inl q224
      | exact Or.inl q1401
      | exact Or.inr ⟨q1402, rfl, rfl⟩
      | exact Or.inl q1403
      | exact Or.inl q1404
      | exact Or.inl q1405
      | exact Or.inl q1406
      | exact Or.inl q1407
      | exact Or.inl q1408
      | exact Or.inl q1410
      | exact Or.inl q1411
      | exact Or.inl q1412
      | exact Or.inl q1419
      | exact Or.inl q1420
      | exact Or.inr ⟨q2279, rfl, rfl⟩
      | exact Or.inl q183
      | exact Or.inl q184
      | exact Or.inr ⟨q2271, rfl, rfl⟩
      | exact Or.inl q1395
      | exact Or.inl q182
      | exact Or.inl q400
      | exact Or.inl q1265
      | exact Or.inl q1400
      | exact Or.inl q1409
      | exact Or.inr ⟨q2264, rfl, rfl⟩
theorem led_good : ∀ w ∈ Cond.classLink "NeverUnseen" 436 "java/util/NoSuchElementException" :: Cond.initialized "java/util/NoSuchElementException" :: vx_at0 "NeverUnseen" 438 "java/util/NoSuchElementException" ledN, vx_ot w = true := by decide +kernel
section JTW
variable {G : Gh} {mi : Mi} {d : Nat} {M0 : Mm} {pc : Nat} {ls : List (Option Value)} {st : List Value} {M : Mm} {P : Rs → Mm → Prop}
theorem jw_throwN (ho : "NeverUnseen" = mi.1.cls) (hh : mi.2.2.2.2 = []) (d0 : decode mi.2.1 pc = .ok (.new 436, 3)) (d3 : decode mi.2.1 (pc + 3) = .ok (.dup, 1)) (d4 : decode mi.2.1 (pc + 4) = .ok (.invokespecial 438, 3)) (d7 : decode mi.2.1 (pc + 7) = .ok (.athrow, 1)) (hd : 6 ≤ d) (hcat : (st.map fun v => v.category).sum ≤ 8)
    (hP : P (.inr (jm_Z M)) (js_new M 15 0 6)) : jW G mi d M0 pc ls st M P := by
  refine ⟨.inr (jm_Z M), js_new M 15 0 6, hP, ⟨by rw [jZ_n]; omega, by rw [jS_n]; omega⟩, ?_⟩
  intro p e s m args below meth c H locs la X hR hS hl hle
  have hR9 := hR
  obtain ⟨r1, r2, r3, r4, r5⟩ := hR
  have hkn := X.kn
  obtain ⟨k1, k2, k3, k4, k5, k6, k7, k8, k9, k10, k11⟩ := hkn
  have hq : ∀ q : Nat, q < (jg_H G).size → ¬ jg_b G ≤ q → H[q]? = (jg_H G)[q]? := fun q _ hn => r3 q (by omega)
  have hbl := X.bl
  have hown : s.vm.findClass "NeverUnseen" = some m.cls := by rw [ho]; exact X.own
  refine vy_throw0 (own := "NeverUnseen") (cls := "java/util/NoSuchElementException") (names := ledN) (ik := 436) (ic := 438) (A := fun a => jg_b G ≤ a) X.x X.b k9 hown (by decide +kernel) (by decide +kernel) (X.ts _ q1400) (X.ts _ q176) (fun w hw => ?_) led_good (k10.kept hq) (k11.kept hq) hS.1 (by rw [hl.1, X.ml]) d0 d3 d4 d7 (fun x hx => ?_) ?_ ?_ ?_ ?_ X.lk (fun t ce h1 h2 h3 h4 h5 => ?_) hS.2.2 ?_ ?_
  · obtain ⟨w1, w2⟩ := List.mem_filter.mp hw
    rcases led_in w w1 w2 with h | ⟨h, h2, h3⟩
    · exact X.ts w h
    · exact (k5 w h h2).use h3
  · rw [X.tb, hh] at hx; cases hx
  · show 2 + 3 < d; omega
  · rw [jcats]; show _ + (13 * 3 + 42) ≤ 64 * d; omega
  · show _ ≤ jm_Z (js_new M 15 0 6) - jm_Z M0
    rw [jZ_n]; have := hle.1; omega
  · show _ ≤ jm_S (js_new M 15 0 6) - jm_S M0
    rw [jS_n]; have := hle.2; omega
  · have hK : jm_K (js_new M 15 0 6) (jm_Z M) = 15 := by rw [jK_n, if_pos rfl]
    have hcls := (k1 14 ("java/util/NoSuchElementException", TJ9, 6) rfl).2.1
    refine ⟨(je_Z hR9).symm, ?_, r1, by rw [jZ_n]; omega, by rw [hK]; decide, by rw [hK]; decide, ("java/util/NoSuchElementException", TJ9, 6), by rw [hK]; rfl, rfl⟩
    refine hR9.push h1 h2 (jZ_n _ _ _) jal_n ⟨fun _ _ => ?_, fun q => by rw [hK] at q; omega⟩
    refine ⟨("java/util/NoSuchElementException", TJ9, 6), ce, by rw [hK]; rfl, by rw [je_Z hR9]; exact h3, ?_, by rw [h4]; rfl, by rw [h4]; exact fun q => (by cases q), fun _ => h4, fun k q hq => ?_⟩
    · rw [hK]
      have e := h5.symm.trans hcls
      exact Option.some.inj e
    · rw [hK] at hq; cases hq
  · show _ ≤ jm_Z (js_new M 15 0 6) - jm_Z M0
    rw [jZ_n]; have := hle.1; omega
  · show _ ≤ jm_S (js_new M 15 0 6) - jm_S M0
    rw [jS_n]; have := hle.2; omega
end JTW
