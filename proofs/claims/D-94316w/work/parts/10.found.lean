/-! the abstract memory: addresses are small numbers; 0..63 stand for what was there before (texts, the script), 64.. for what the law has made -/
abbrev Mm : Type := (Nat → Nat → Int32) × (Nat → Nat → Int64) × (Nat → Nat → Option Nat) × (Nat → Nat → Int32) × (Nat → Nat → Int64) × (Nat → Nat → Option Nat) × (Nat → Nat) × (Nat → Nat) × Nat × Nat
def jm_I (M : Mm) (a k : Nat) : Int32 := M.1 a k
def jm_L (M : Mm) (a k : Nat) : Int64 := M.2.1 a k
def jm_R (M : Mm) (a k : Nat) : Option Nat := M.2.2.1 a k
def jm_A (M : Mm) (a k : Nat) : Int32 := M.2.2.2.1 a k
def jm_B (M : Mm) (a k : Nat) : Int64 := M.2.2.2.2.1 a k
def jm_C (M : Mm) (a k : Nat) : Option Nat := M.2.2.2.2.2.1 a k
def jm_K (M : Mm) (a : Nat) : Nat := M.2.2.2.2.2.2.1 a
def jm_N (M : Mm) (a : Nat) : Nat := M.2.2.2.2.2.2.2.1 a
def jm_Z (M : Mm) : Nat := M.2.2.2.2.2.2.2.2.1
def jm_S (M : Mm) : Nat := M.2.2.2.2.2.2.2.2.2
/-- a field's map with one place written: the key first -/
def ju2 {α : Type} (f : Nat → Nat → α) (a k : Nat) (v : α) : Nat → Nat → α := fun b j => bif Nat.beq j k && Nat.beq b a then v else f b j
/-- an array's map with one place written: the address first -/
def ju3 {α : Type} (f : Nat → Nat → α) (a k : Nat) (v : α) : Nat → Nat → α := fun b j => bif Nat.beq b a && Nat.beq j k then v else f b j
/-- a map with a whole array written -/
def ju4 {α : Type} (f : Nat → Nat → α) (a : Nat) (g : Nat → α) : Nat → Nat → α := fun b j => bif Nat.beq b a then g j else f b j
def ju1 {α : Type} (f : Nat → α) (a : Nat) (v : α) : Nat → α := fun b => bif Nat.beq b a then v else f b
theorem jbeq {a b : Nat} (h : a ≠ b) : Nat.beq a b = false := by
  cases hb : Nat.beq a b with
  | false => rfl
  | true => exact absurd (Nat.eq_of_beq_eq_true hb) h
theorem ju2_eq {α : Type} (f : Nat → Nat → α) (a k : Nat) (v : α) (b j : Nat) : ju2 f a k v b j = if j = k ∧ b = a then v else f b j := by
  unfold ju2
  by_cases h1 : j = k <;> by_cases h2 : b = a
  · subst h1; subst h2; simp [Nat.beq_refl]
  · subst h1; rw [if_neg (fun q => h2 q.2), jbeq h2]; simp
  · rw [if_neg (fun q => h1 q.1), jbeq h1]; simp
  · rw [if_neg (fun q => h1 q.1), jbeq h1]; simp
theorem ju3_eq {α : Type} (f : Nat → Nat → α) (a k : Nat) (v : α) (b j : Nat) : ju3 f a k v b j = if b = a ∧ j = k then v else f b j := by
  unfold ju3
  by_cases h1 : j = k <;> by_cases h2 : b = a
  · subst h1; subst h2; simp [Nat.beq_refl]
  · rw [if_neg (fun q => h2 q.1), jbeq h2]; simp
  · rw [if_neg (fun q => h1 q.2), jbeq h1]; simp
  · rw [if_neg (fun q => h2 q.1), jbeq h2]; simp
theorem ju4_eq {α : Type} (f : Nat → Nat → α) (a : Nat) (g : Nat → α) (b j : Nat) : ju4 f a g b j = if b = a then g j else f b j := by
  unfold ju4
  by_cases h2 : b = a
  · subst h2; simp [Nat.beq_refl]
  · rw [if_neg h2, jbeq h2]; simp
theorem ju1_eq {α : Type} (f : Nat → α) (a : Nat) (v : α) (b : Nat) : ju1 f a v b = if b = a then v else f b := by
  unfold ju1
  by_cases h2 : b = a
  · subst h2; simp [Nat.beq_refl]
  · rw [if_neg h2, jbeq h2]; simp
def js_I (M : Mm) (a k : Nat) (v : Int32) : Mm := ⟨ju2 M.1 a k v, M.2⟩
def js_L (M : Mm) (a k : Nat) (v : Int64) : Mm := ⟨M.1, ju2 M.2.1 a k v, M.2.2⟩
def js_R (M : Mm) (a k : Nat) (v : Option Nat) : Mm := ⟨M.1, M.2.1, ju2 M.2.2.1 a k v, M.2.2.2⟩
def js_A (M : Mm) (a k : Nat) (v : Int32) : Mm := ⟨M.1, M.2.1, M.2.2.1, ju3 M.2.2.2.1 a k v, M.2.2.2.2⟩
def js_B (M : Mm) (a k : Nat) (v : Int64) : Mm := ⟨M.1, M.2.1, M.2.2.1, M.2.2.2.1, ju3 M.2.2.2.2.1 a k v, M.2.2.2.2.2⟩
def js_C (M : Mm) (a k : Nat) (v : Option Nat) : Mm := ⟨M.1, M.2.1, M.2.2.1, M.2.2.2.1, M.2.2.2.2.1, ju3 M.2.2.2.2.2.1 a k v, M.2.2.2.2.2.2⟩
/-- a whole array of ints written -/
def js_As (M : Mm) (a : Nat) (g : Nat → Int32) : Mm := ⟨M.1, M.2.1, M.2.2.1, ju4 M.2.2.2.1 a g, M.2.2.2.2⟩
/-- a new cell: of kind c, n long, s slots -/
def js_new (M : Mm) (c n s : Nat) : Mm := ⟨ju4 M.1 (jm_Z M) (fun _ => 0), ju4 M.2.1 (jm_Z M) (fun _ => 0), ju4 M.2.2.1 (jm_Z M) (fun _ => none), ju4 M.2.2.2.1 (jm_Z M) (fun _ => 0), ju4 M.2.2.2.2.1 (jm_Z M) (fun _ => 0), ju4 M.2.2.2.2.2.1 (jm_Z M) (fun _ => none), ju1 M.2.2.2.2.2.2.1 (jm_Z M) c, ju1 M.2.2.2.2.2.2.2.1 (jm_Z M) n, jm_Z M + 1, jm_S M + s⟩
/-! reading behind a write -/
section
variable {M : Mm} {a k b j : Nat}
theorem jI_I (v : Int32) : jm_I (js_I M a k v) b j = if j = k ∧ b = a then v else jm_I M b j := ju2_eq _ _ _ _ _ _
theorem jI_L (v : Int64) : jm_I (js_L M a k v) b j = jm_I M b j := rfl
theorem jI_R (v : Option Nat) : jm_I (js_R M a k v) b j = jm_I M b j := rfl
theorem jI_A (v : Int32) : jm_I (js_A M a k v) b j = jm_I M b j := rfl
theorem jI_B (v : Int64) : jm_I (js_B M a k v) b j = jm_I M b j := rfl
theorem jI_C (v : Option Nat) : jm_I (js_C M a k v) b j = jm_I M b j := rfl
theorem jI_As (g : Nat → Int32) : jm_I (js_As M a g) b j = jm_I M b j := rfl
theorem jI_n (c n s : Nat) : jm_I (js_new M c n s) b j = if b = jm_Z M then 0 else jm_I M b j := ju4_eq M.1 (jm_Z M) (fun _ => 0) b j
theorem jL_I (v : Int32) : jm_L (js_I M a k v) b j = jm_L M b j := rfl
theorem jL_L (v : Int64) : jm_L (js_L M a k v) b j = if j = k ∧ b = a then v else jm_L M b j := ju2_eq _ _ _ _ _ _
theorem jL_R (v : Option Nat) : jm_L (js_R M a k v) b j = jm_L M b j := rfl
theorem jL_A (v : Int32) : jm_L (js_A M a k v) b j = jm_L M b j := rfl
theorem jL_B (v : Int64) : jm_L (js_B M a k v) b j = jm_L M b j := rfl
theorem jL_C (v : Option Nat) : jm_L (js_C M a k v) b j = jm_L M b j := rfl
theorem jL_As (g : Nat → Int32) : jm_L (js_As M a g) b j = jm_L M b j := rfl
theorem jL_n (c n s : Nat) : jm_L (js_new M c n s) b j = if b = jm_Z M then 0 else jm_L M b j := ju4_eq M.2.1 (jm_Z M) (fun _ => 0) b j
theorem jR_I (v : Int32) : jm_R (js_I M a k v) b j = jm_R M b j := rfl
theorem jR_L (v : Int64) : jm_R (js_L M a k v) b j = jm_R M b j := rfl
theorem jR_R (v : Option Nat) : jm_R (js_R M a k v) b j = if j = k ∧ b = a then v else jm_R M b j := ju2_eq _ _ _ _ _ _
theorem jR_A (v : Int32) : jm_R (js_A M a k v) b j = jm_R M b j := rfl
theorem jR_B (v : Int64) : jm_R (js_B M a k v) b j = jm_R M b j := rfl
theorem jR_C (v : Option Nat) : jm_R (js_C M a k v) b j = jm_R M b j := rfl
theorem jR_As (g : Nat → Int32) : jm_R (js_As M a g) b j = jm_R M b j := rfl
theorem jR_n (c n s : Nat) : jm_R (js_new M c n s) b j = if b = jm_Z M then none else jm_R M b j := ju4_eq M.2.2.1 (jm_Z M) (fun _ => none) b j
theorem jA_I (v : Int32) : jm_A (js_I M a k v) b j = jm_A M b j := rfl
theorem jA_L (v : Int64) : jm_A (js_L M a k v) b j = jm_A M b j := rfl
theorem jA_R (v : Option Nat) : jm_A (js_R M a k v) b j = jm_A M b j := rfl
theorem jA_A (v : Int32) : jm_A (js_A M a k v) b j = if b = a ∧ j = k then v else jm_A M b j := ju3_eq _ _ _ _ _ _
theorem jA_B (v : Int64) : jm_A (js_B M a k v) b j = jm_A M b j := rfl
theorem jA_C (v : Option Nat) : jm_A (js_C M a k v) b j = jm_A M b j := rfl
theorem jA_As (g : Nat → Int32) : jm_A (js_As M a g) b j = if b = a then g j else jm_A M b j := ju4_eq _ _ _ _ _
theorem jA_n (c n s : Nat) : jm_A (js_new M c n s) b j = if b = jm_Z M then 0 else jm_A M b j := ju4_eq M.2.2.2.1 (jm_Z M) (fun _ => 0) b j
theorem jB_I (v : Int32) : jm_B (js_I M a k v) b j = jm_B M b j := rfl
theorem jB_L (v : Int64) : jm_B (js_L M a k v) b j = jm_B M b j := rfl
theorem jB_R (v : Option Nat) : jm_B (js_R M a k v) b j = jm_B M b j := rfl
theorem jB_A (v : Int32) : jm_B (js_A M a k v) b j = jm_B M b j := rfl
theorem jB_B (v : Int64) : jm_B (js_B M a k v) b j = if b = a ∧ j = k then v else jm_B M b j := ju3_eq _ _ _ _ _ _
theorem jB_C (v : Option Nat) : jm_B (js_C M a k v) b j = jm_B M b j := rfl
theorem jB_As (g : Nat → Int32) : jm_B (js_As M a g) b j = jm_B M b j := rfl
theorem jB_n (c n s : Nat) : jm_B (js_new M c n s) b j = if b = jm_Z M then 0 else jm_B M b j := ju4_eq M.2.2.2.2.1 (jm_Z M) (fun _ => 0) b j
theorem jC_I (v : Int32) : jm_C (js_I M a k v) b j = jm_C M b j := rfl
theorem jC_L (v : Int64) : jm_C (js_L M a k v) b j = jm_C M b j := rfl
theorem jC_R (v : Option Nat) : jm_C (js_R M a k v) b j = jm_C M b j := rfl
theorem jC_A (v : Int32) : jm_C (js_A M a k v) b j = jm_C M b j := rfl
theorem jC_B (v : Int64) : jm_C (js_B M a k v) b j = jm_C M b j := rfl
theorem jC_C (v : Option Nat) : jm_C (js_C M a k v) b j = if b = a ∧ j = k then v else jm_C M b j := ju3_eq _ _ _ _ _ _
theorem jC_As (g : Nat → Int32) : jm_C (js_As M a g) b j = jm_C M b j := rfl
theorem jC_n (c n s : Nat) : jm_C (js_new M c n s) b j = if b = jm_Z M then none else jm_C M b j := ju4_eq M.2.2.2.2.2.1 (jm_Z M) (fun _ => none) b j
theorem jK_I (v : Int32) : jm_K (js_I M a k v) b = jm_K M b := rfl
theorem jK_L (v : Int64) : jm_K (js_L M a k v) b = jm_K M b := rfl
theorem jK_R (v : Option Nat) : jm_K (js_R M a k v) b = jm_K M b := rfl
theorem jK_A (v : Int32) : jm_K (js_A M a k v) b = jm_K M b := rfl
theorem jK_B (v : Int64) : jm_K (js_B M a k v) b = jm_K M b := rfl
theorem jK_C (v : Option Nat) : jm_K (js_C M a k v) b = jm_K M b := rfl
theorem jK_As (g : Nat → Int32) : jm_K (js_As M a g) b = jm_K M b := rfl
theorem jK_n (c n s : Nat) : jm_K (js_new M c n s) b = if b = jm_Z M then c else jm_K M b := ju1_eq _ _ _ _
theorem jN_I (v : Int32) : jm_N (js_I M a k v) b = jm_N M b := rfl
theorem jN_L (v : Int64) : jm_N (js_L M a k v) b = jm_N M b := rfl
theorem jN_R (v : Option Nat) : jm_N (js_R M a k v) b = jm_N M b := rfl
theorem jN_A (v : Int32) : jm_N (js_A M a k v) b = jm_N M b := rfl
theorem jN_B (v : Int64) : jm_N (js_B M a k v) b = jm_N M b := rfl
theorem jN_C (v : Option Nat) : jm_N (js_C M a k v) b = jm_N M b := rfl
theorem jN_As (g : Nat → Int32) : jm_N (js_As M a g) b = jm_N M b := rfl
theorem jN_n (c n s : Nat) : jm_N (js_new M c n s) b = if b = jm_Z M then n else jm_N M b := ju1_eq _ _ _ _
theorem jZ_I (v : Int32) : jm_Z (js_I M a k v) = jm_Z M := rfl
theorem jZ_L (v : Int64) : jm_Z (js_L M a k v) = jm_Z M := rfl
theorem jZ_R (v : Option Nat) : jm_Z (js_R M a k v) = jm_Z M := rfl
theorem jZ_A (v : Int32) : jm_Z (js_A M a k v) = jm_Z M := rfl
theorem jZ_B (v : Int64) : jm_Z (js_B M a k v) = jm_Z M := rfl
theorem jZ_C (v : Option Nat) : jm_Z (js_C M a k v) = jm_Z M := rfl
theorem jZ_As (g : Nat → Int32) : jm_Z (js_As M a g) = jm_Z M := rfl
theorem jZ_n (c n s : Nat) : jm_Z (js_new M c n s) = jm_Z M + 1 := rfl
theorem jS_I (v : Int32) : jm_S (js_I M a k v) = jm_S M := rfl
theorem jS_L (v : Int64) : jm_S (js_L M a k v) = jm_S M := rfl
theorem jS_R (v : Option Nat) : jm_S (js_R M a k v) = jm_S M := rfl
theorem jS_A (v : Int32) : jm_S (js_A M a k v) = jm_S M := rfl
theorem jS_B (v : Int64) : jm_S (js_B M a k v) = jm_S M := rfl
theorem jS_C (v : Option Nat) : jm_S (js_C M a k v) = jm_S M := rfl
theorem jS_As (g : Nat → Int32) : jm_S (js_As M a g) = jm_S M := rfl
theorem jS_n (c n s : Nat) : jm_S (js_new M c n s) = jm_S M + s := rfl
end
/-! values: a reference or null is 'jr o' -/
def jr (o : Option Nat) : Value := match o with
  | none => .null
  | some a => .ref a
def jb (b : Bool) : Int32 := nI b.toNat
/-- what is fixed while the law runs: the launch, where the new heap begins, where the old things lie, the numbers of the tables, the heap at the start -/
abbrev Gh : Type := Launch × Nat × (Nat → Nat) × va_G × (Nat → ClassId) × (Nat → ClassId) × Heap × (Nat → Value)
def jg_l (G : Gh) : Launch := G.1
def jg_b (G : Gh) : Nat := G.2.1
def jg_c (G : Gh) : Nat → Nat := G.2.2.1
def jg_D (G : Gh) : va_G := G.2.2.2.1
def jg_a (G : Gh) : Nat → ClassId := G.2.2.2.2.1
def jg_k (G : Gh) : Nat → ClassId := G.2.2.2.2.2.1
def jg_H (G : Gh) : Heap := G.2.2.2.2.2.2.1
def jg_u (G : Gh) : Nat → Value := G.2.2.2.2.2.2.2
def je (G : Gh) (a : Nat) : Nat := if a < 64 then jg_c G a else jg_b G + (a - 64)
def jv (G : Gh) (v : Value) : Value := match v with
  | .ref a => .ref (je G a)
  | v => v
theorem jv_i (G : Gh) (x : Int32) : jv G (.int x) = .int x := rfl
theorem jv_l (G : Gh) (x : Int64) : jv G (.long x) = .long x := rfl
theorem jv_r (G : Gh) (o : Option Nat) : jv G (jr o) = va_rf (o.map (je G)) := by cases o <;> rfl
theorem jv_s (G : Gh) (a : Nat) : jv G (jr (some a)) = .ref (je G a) := rfl
theorem jv_cat (G : Gh) (v : Value) : (jv G v).category = v.category := by cases v <;> rfl
/-! the locals: a list, none where nothing is known -/
def jget : List (Option Value) → Nat → Option Value
  | [], _ => none
  | x :: _, 0 => x
  | _ :: t, n + 1 => jget t n
def jis2 (v : Value) : Bool := match v with
  | .long _ => true
  | .double _ => true
  | _ => false
theorem jis2_cat (v : Value) : jis2 v = true ↔ v.category = 2 := by cases v <;> simp [jis2, Value.category]
def jkill (x : Option Value) : Option Value := match x with
  | none => none
  | some v => bif jis2 v then none else some v
def jput1 : List (Option Value) → Nat → Value → List (Option Value)
  | [], _, _ => []
  | _ :: t, 0, v => some v :: t
  | x :: t, 1, v => jkill x :: jput1 t 0 v
  | x :: t, n + 2, v => x :: jput1 t (n + 1) v
def jclr : List (Option Value) → List (Option Value)
  | [] => []
  | _ :: t => none :: t
def jput2 : List (Option Value) → Nat → Value → List (Option Value)
  | [], _, _ => []
  | _ :: t, 0, v => some v :: jclr t
  | x :: t, 1, v => jkill x :: jput2 t 0 v
  | x :: t, n + 2, v => x :: jput2 t (n + 1) v
/-- fewer known locals -/
def jsub : List (Option Value) → List (Option Value) → Prop
  | [], _ => True
  | none :: t, [] => jsub t []
  | none :: t, _ :: u => jsub t u
  | some _ :: _, [] => False
  | some v :: t, w :: u => w = some v ∧ jsub t u
theorem jsub_get : ∀ (l' l : List (Option Value)), jsub l' l → ∀ (i : Nat) (v : Value), jget l' i = some v → jget l i = some v
  | [], _, _, i, v, h => by simp [jget] at h
  | none :: t, [], h, 0, v, q => by simp [jget] at q
  | none :: t, [], h, i + 1, v, q => by
    have := jsub_get t [] h i v q
    simp [jget] at this
  | none :: t, _ :: u, h, 0, v, q => by simp [jget] at q
  | none :: t, _ :: u, h, i + 1, v, q => jsub_get t u h i v q
  | some _ :: _, [], h, _, _, _ => h.elim
  | some w :: t, x :: u, h, 0, v, q => by
    simp only [jget] at q ⊢
    rw [h.1]; exact q
  | some w :: t, x :: u, h, i + 1, v, q => jsub_get t u h.2 i v q
theorem jput1_get : ∀ (l : List (Option Value)) (i : Nat) (v : Value) (j : Nat) (w : Value), jget (jput1 l i v) j = some w → (j = i ∧ w = v) ∨ (j ≠ i ∧ jget l j = some w ∧ ¬ (j + 1 = i ∧ jis2 w = true))
  | [], i, v, j, w, h => by simp [jput1, jget] at h
  | x :: t, 0, v, 0, w, h => by
    simp only [jput1, jget, Option.some.injEq] at h
    exact Or.inl ⟨rfl, h.symm⟩
  | x :: t, 0, v, j + 1, w, h => by
    simp only [jput1, jget] at h
    exact Or.inr ⟨by omega, h, by omega⟩
  | x :: t, 1, v, 0, w, h => by
    simp only [jput1, jget] at h
    refine Or.inr ⟨by omega, ?_, ?_⟩
    · cases x with
      | none => simp [jkill] at h
      | some y =>
        cases hy : jis2 y
        · simpa [jkill, hy, jget] using h
        · simp [jkill, hy] at h
    · rintro ⟨-, hw⟩
      cases x with
      | none => simp [jkill] at h
      | some y =>
        cases hy : jis2 y
        · simp [jkill, hy] at h
          subst h
          rw [hy] at hw
          cases hw
        · simp [jkill, hy] at h
  | x :: t, 1, v, j + 1, w, h => by
    simp only [jput1, jget] at h
    rcases jput1_get t 0 v j w h with ⟨h1, h2⟩ | ⟨h1, h2, h3⟩
    · exact Or.inl ⟨by omega, h2⟩
    · exact Or.inr ⟨by omega, h2, by omega⟩
  | x :: t, n + 2, v, 0, w, h => by
    simp only [jput1, jget] at h
    exact Or.inr ⟨by omega, h, by omega⟩
  | x :: t, n + 2, v, j + 1, w, h => by
    simp only [jput1, jget] at h
    rcases jput1_get t (n + 1) v j w h with ⟨h1, h2⟩ | ⟨h1, h2, h3⟩
    · exact Or.inl ⟨by omega, h2⟩
    · exact Or.inr ⟨by omega, h2, fun q => h3 ⟨by omega, q.2⟩⟩
theorem jclr_get (l : List (Option Value)) (j : Nat) (w : Value) (h : jget (jclr l) j = some w) : j ≠ 0 ∧ jget l j = some w := by
  cases l with
  | nil => simp [jclr, jget] at h
  | cons x t =>
    cases j with
    | zero => simp [jclr, jget] at h
    | succ j => exact ⟨by omega, h⟩
theorem jput2_get : ∀ (l : List (Option Value)) (i : Nat) (v : Value) (j : Nat) (w : Value), jget (jput2 l i v) j = some w → (j = i ∧ w = v) ∨ (j ≠ i ∧ j ≠ i + 1 ∧ jget l j = some w ∧ ¬ (j + 1 = i ∧ jis2 w = true))
  | [], i, v, j, w, h => by simp [jput2, jget] at h
  | x :: t, 0, v, 0, w, h => by
    simp only [jput2, jget, Option.some.injEq] at h
    exact Or.inl ⟨rfl, h.symm⟩
  | x :: t, 0, v, j + 1, w, h => by
    simp only [jput2, jget] at h
    obtain ⟨h1, h2⟩ := jclr_get _ _ _ h
    exact Or.inr ⟨by omega, by omega, h2, by omega⟩
  | x :: t, 1, v, 0, w, h => by
    simp only [jput2, jget] at h
    refine Or.inr ⟨by omega, by omega, ?_, ?_⟩
    · cases x with
      | none => simp [jkill] at h
      | some y =>
        cases hy : jis2 y
        · simpa [jkill, hy, jget] using h
        · simp [jkill, hy] at h
    · rintro ⟨-, hw⟩
      cases x with
      | none => simp [jkill] at h
      | some y =>
        cases hy : jis2 y
        · simp [jkill, hy] at h
          subst h
          rw [hy] at hw
          cases hw
        · simp [jkill, hy] at h
  | x :: t, 1, v, j + 1, w, h => by
    simp only [jput2, jget] at h
    rcases jput2_get t 0 v j w h with ⟨h1, h2⟩ | ⟨h1, h2, h3, h4⟩
    · exact Or.inl ⟨by omega, h2⟩
    · exact Or.inr ⟨by omega, by omega, h3, by omega⟩
  | x :: t, n + 2, v, 0, w, h => by
    simp only [jput2, jget] at h
    exact Or.inr ⟨by omega, by omega, h, by omega⟩
  | x :: t, n + 2, v, j + 1, w, h => by
    simp only [jput2, jget] at h
    rcases jput2_get t (n + 1) v j w h with ⟨h1, h2⟩ | ⟨h1, h2, h3, h4⟩
    · exact Or.inl ⟨by omega, h2⟩
    · exact Or.inr ⟨by omega, by omega, h3, fun q => h4 ⟨by omega, q.2⟩⟩
def jlv (G : Gh) (la : Array Slot) (n : Nat) (ls : List (Option Value)) : Prop := la.size = n ∧ lv_wf la ∧ ∀ (i : Nat) (v : Value), jget ls i = some v → la[i]? = some (.val (jv G v))
theorem jlv.sub {G : Gh} {la : Array Slot} {n : Nat} {l l' : List (Option Value)} (h : jlv G la n l) (hs : jsub l' l) : jlv G la n l' := ⟨h.1, h.2.1, fun i v q => h.2.2 i v (jsub_get l' l hs i v q)⟩
/-- the known locals as the kit's list -/
def jprs (G : Gh) (n : Nat) (ls : List (Option Value)) : List (Nat × Value) := (List.range n).filterMap (fun i => (jget ls i).map (fun v => (i, jv G v)))
theorem jprs_mem {G : Gh} {n : Nat} {ls : List (Option Value)} {q : Nat × Value} : q ∈ jprs G n ls ↔ q.1 < n ∧ ∃ v, jget ls q.1 = some v ∧ q.2 = jv G v := by
  unfold jprs
  rw [List.mem_filterMap]
  constructor
  · rintro ⟨i, hi, h⟩
    rw [Option.map_eq_some_iff] at h
    obtain ⟨v, h1, h2⟩ := h
    subst h2
    exact ⟨List.mem_range.mp hi, v, h1, rfl⟩
  · rintro ⟨h1, v, h2, h3⟩
    exact ⟨q.1, List.mem_range.mpr h1, by rw [h2]; obtain ⟨a, b⟩ := q; simp only at h3; subst h3; rfl⟩
theorem jlv.has {G : Gh} {la : Array Slot} {n : Nat} {ls : List (Option Value)} (h : jlv G la n ls) : lv_has la n (jprs G n ls) := ⟨h.1, h.2.1, fun q hq => by
  obtain ⟨-, v, h2, h3⟩ := jprs_mem.mp hq
  rw [h3]
  exact h.2.2 _ _ h2⟩
theorem jlv.lt {G : Gh} {la : Array Slot} {n : Nat} {ls : List (Option Value)} (h : jlv G la n ls) {i : Nat} {v : Value} (hi : jget ls i = some v) : i < n := by
  rw [← h.1]
  exact lv_lt (h.2.2 i v hi)
theorem jlv.put1 {G : Gh} {la la' : Array Slot} {n : Nat} {ls : List (Option Value)} {i : Nat} {v : Value} (h : jlv G la n ls)
    (h' : lv_has la' n ((i, jv G v) :: (jprs G n ls).filter (fun q => !(q.1 == i) && !(q.1 + 1 == i && q.2.category == 2)))) : jlv G la' n (jput1 ls i v) := by
  refine ⟨h'.1, h'.2.1, fun j w hj => ?_⟩
  rcases jput1_get ls i v j w hj with ⟨h1, h2⟩ | ⟨h1, h2, h3⟩
  · subst h1; subst h2
    exact h'.2.2 (j, jv G w) List.mem_cons_self
  · refine h'.2.2 (j, jv G w) (List.mem_cons_of_mem _ (List.mem_filter.mpr ⟨jprs_mem.mpr ⟨h.lt h2, w, h2, rfl⟩, ?_⟩))
    have e1 : (j == i) = false := by simpa using h1
    simp only [e1, jv_cat, Bool.not_false, Bool.true_and, Bool.not_eq_true']
    rw [Bool.and_eq_false_iff]
    by_cases e2 : j + 1 = i
    · right
      have : ¬ jis2 w = true := fun q => h3 ⟨e2, q⟩
      rw [jis2_cat] at this
      simpa using this
    · left; simpa using e2
theorem jlv.put2 {G : Gh} {la la' : Array Slot} {n : Nat} {ls : List (Option Value)} {i : Nat} {v : Value} (h : jlv G la n ls)
    (h' : lv_has la' n ((i, jv G v) :: (jprs G n ls).filter (fun q => !(q.1 == i) && (!(q.1 == i + 1) && !(q.1 + 1 == i && q.2.category == 2))))) : jlv G la' n (jput2 ls i v) := by
  refine ⟨h'.1, h'.2.1, fun j w hj => ?_⟩
  rcases jput2_get ls i v j w hj with ⟨h1, h2⟩ | ⟨h1, h0, h2, h3⟩
  · subst h1; subst h2
    exact h'.2.2 (j, jv G w) List.mem_cons_self
  · refine h'.2.2 (j, jv G w) (List.mem_cons_of_mem _ (List.mem_filter.mpr ⟨jprs_mem.mpr ⟨h.lt h2, w, h2, rfl⟩, ?_⟩))
    have e1 : (j == i) = false := by simpa using h1
    have e0 : (j == i + 1) = false := by simpa using h0
    simp only [e1, e0, jv_cat, Bool.not_false, Bool.true_and, Bool.not_eq_true']
    rw [Bool.and_eq_false_iff]
    by_cases e2 : j + 1 = i
    · right
      have : ¬ jis2 w = true := fun q => h3 ⟨e2, q⟩
      rw [jis2_cat] at this
      simpa using this
    · left; simpa using e2
/-- a method's locals at its entry -/
def jent : List Value → Nat → List (Option Value)
  | [], n => List.replicate n none
  | v :: t, n => bif jis2 v then some v :: none :: jent t (n - 2) else some v :: jent t (n - 1)
theorem jent_get (G : Gh) : ∀ (vs : List Value) (n i j : Nat) (w : Value), jget (jent vs n) j = some w → (i + j, jv G w) ∈ lv_args i (vs.map (jv G))
  | [], n, i, j, w, h => by
    exfalso
    simp only [jent] at h
    have hz : ∀ (n j : Nat), jget (List.replicate n (none : Option Value)) j = none := by
      intro n
      induction n with
      | zero => intro j; rfl
      | succ n ih =>
        intro j
        cases j with
        | zero => rfl
        | succ j => exact ih j
    rw [hz] at h
    cases h
  | v :: t, n, i, j, w, h => by
    simp only [List.map_cons, lv_args, jv_cat]
    by_cases hv : jis2 v = true
    · have hc : v.category = 2 := (jis2_cat v).mp hv
      simp only [jent, hv, cond_true] at h
      rw [if_pos hc]
      match j, h with
      | 0, h =>
        simp only [jget, Option.some.injEq] at h
        subst h
        exact List.mem_cons_self
      | 1, h => simp [jget] at h
      | j + 2, h =>
        have := jent_get G t (n - 2) (i + 2) j w h
        rw [show i + (j + 2) = i + 2 + j by omega]
        exact List.mem_cons_of_mem _ this
    · have hc : ¬ v.category = 2 := fun q => hv ((jis2_cat v).mpr q)
      have hv' : jis2 v = false := by simpa using hv
      simp only [jent, hv', cond_false] at h
      rw [if_neg hc]
      match j, h with
      | 0, h =>
        simp only [jget, Option.some.injEq] at h
        subst h
        exact List.mem_cons_self
      | j + 1, h =>
        have := jent_get G t (n - 1) (i + 1) j w h
        rw [show i + (j + 1) = i + 1 + j by omega]
        exact List.mem_cons_of_mem _ this
theorem jent_lv (G : Gh) (vs : List Value) (n : Nat) (h : (lg_sl (vs.map (jv G))).length ≤ n) : jlv G ((lg_sl (vs.map (jv G)) ++ List.replicate (n - (lg_sl (vs.map (jv G))).length) Slot.unset).toArray) n (jent vs n) := by
  have h1 := lv_entry (vs.map (jv G)) h
  refine ⟨h1.1, h1.2.1, fun i v hi => ?_⟩
  have := jent_get G vs n 0 i v hi
  rw [Nat.zero_add] at this
  exact h1.2.2 _ this
/-- how many places the arguments take -/
def jlen : List Value → Nat
  | [] => 0
  | v :: t => bif jis2 v then jlen t + 2 else jlen t + 1
theorem jlen_eq (G : Gh) (vs : List Value) : (lg_sl (vs.map (jv G))).length = jlen vs := by
  induction vs with
  | nil => rfl
  | cons v t ih =>
    have e : lg_sl ((v :: t).map (jv G)) = (if (jv G v).category = 2 then [.val (jv G v), .second] else [.val (jv G v)]) ++ lg_sl (t.map (jv G)) := rfl
    rw [e, List.length_append, ih, jv_cat]
    by_cases hv : jis2 v = true
    · rw [if_pos ((jis2_cat v).mp hv)]
      simp [jlen, hv]; omega
    · rw [if_neg (fun q => hv ((jis2_cat v).mpr q))]
      simp [jlen, hv]; omega
/-! the heap holds the memory -/
def jfv (M : Mm) (a : Nat) (q : Nat × Nat) : Value := match q.2 with
  | 0 => .int (jm_I M a q.1)
  | 1 => .long (jm_L M a q.1)
  | _ => jr (jm_R M a q.1)
def jev (M : Mm) (a t j : Nat) : Value := match t with
  | 0 => .int (jm_A M a j)
  | 1 => .int (jm_A M a j)
  | 2 => .int (jm_A M a j)
  | 3 => .int (jm_A M a j)
  | 4 => .long (jm_B M a j)
  | _ => jr (jm_C M a j)
def jac (G : Gh) (M : Mm) (a : Nat) : ClassId := if a < 64 then jg_k G a else jg_a G (jm_K M a - 100)
def jobj (G : Gh) (M : Mm) (a : Nat) (H : Heap) : Prop := ∃ (r : vw_C) (cell : Cell), jcls[jm_K M a - 1]? = some r ∧ H[je G a]? = some cell ∧ cell.cls = (jg_D G).1 (jm_K M a - 1) ∧ cell.vm.isStatics = false ∧ cell.vm ≠ .unknown ∧ (64 ≤ a → cell.vm = .none) ∧
  ∀ (k : Nat) (q : Nat × Nat), (jlay.getD (jm_K M a - 1) [])[k]? = some q → cell.slots[(jg_D G).2 (jm_K M a - 1) k]? = some (jv G (jfv M a q))
def jarr (G : Gh) (M : Mm) (a : Nat) (H : Heap) : Prop := ∃ (cell : Cell), H[je G a]? = some cell ∧ cell.cls = jac G M a ∧ (∀ k, cell.vm ≠ .statics k) ∧ cell.vm ≠ .unknown ∧ jm_N M a ≤ cell.slots.size ∧ cell.slots.size.toInt32 = nI (jm_N M a) ∧ jm_N M a < 2 ^ 31 ∧
  ∀ j : Nat, j < jm_N M a → cell.slots[j]? = some (jv G (jev M a (jm_K M a - 100) j))
def jcell (G : Gh) (M : Mm) (a : Nat) (H : Heap) : Prop := (1 ≤ jm_K M a → jm_K M a < 100 → jobj G M a H) ∧ (100 ≤ jm_K M a → jarr G M a H)
def jRep (G : Gh) (M : Mm) (H : Heap) : Prop := 64 ≤ jm_Z M ∧ H.size + 64 = jg_b G + jm_Z M ∧ (∀ q : Nat, q < jg_b G → H[q]? = (jg_H G)[q]?) ∧ (∀ a : Nat, a < 64 → 1 ≤ jm_K M a → jg_c G a < jg_b G) ∧ ∀ a : Nat, a < jm_Z M → jcell G M a H
/-- two memories are alike at a -/
def jal (M M1 : Mm) (a : Nat) : Prop := jm_K M1 a = jm_K M a ∧ jm_N M1 a = jm_N M a ∧ (∀ k, jm_I M1 a k = jm_I M a k) ∧ (∀ k, jm_L M1 a k = jm_L M a k) ∧ (∀ k, jm_R M1 a k = jm_R M a k) ∧ (∀ k, jm_A M1 a k = jm_A M a k) ∧ (∀ k, jm_B M1 a k = jm_B M a k) ∧ ∀ k, jm_C M1 a k = jm_C M a k
theorem jal.fv {M M1 : Mm} {a : Nat} (h : jal M M1 a) (q : Nat × Nat) : jfv M1 a q = jfv M a q := by
  obtain ⟨-, -, h1, h2, h3, -⟩ := h
  unfold jfv
  split
  · rw [h1]
  · rw [h2]
  · rw [h3]
theorem jal.ev {M M1 : Mm} {a : Nat} (h : jal M M1 a) (t j : Nat) : jev M1 a t j = jev M a t j := by
  obtain ⟨-, -, -, -, -, h1, h2, h3⟩ := h
  unfold jev
  split
  · rw [h1]
  · rw [h1]
  · rw [h1]
  · rw [h1]
  · rw [h2]
  · rw [h3]
theorem jcell.kept {G : Gh} {M M1 : Mm} {a : Nat} {H H1 : Heap} (h : jcell G M a H) (hal : jal M M1 a) (hH : H1[je G a]? = H[je G a]?) : jcell G M1 a H1 := by
  refine ⟨fun k1 k2 => ?_, fun k1 => ?_⟩
  · rw [hal.1] at k1 k2
    obtain ⟨r, cell, h1, h2, h3, h4, h5, h6, h7⟩ := h.1 k1 k2
    unfold jobj
    rw [hal.1, hH]
    exact ⟨r, cell, h1, h2, h3, h4, h5, h6, fun k q hq => by rw [hal.fv]; exact h7 k q hq⟩
  · rw [hal.1] at k1
    obtain ⟨cell, h1, h2, h3, h4, h5, h6, h7, h8⟩ := h.2 k1
    unfold jarr jac
    rw [hal.1, hal.2.1, hH]
    exact ⟨cell, h1, h2, h3, h4, h5, h6, h7, fun j hj => by rw [hal.ev]; exact h8 j hj⟩
theorem je_lt {G : Gh} {M : Mm} {H : Heap} (h : jRep G M H) {a : Nat} (ha : a < jm_Z M) (hK : 1 ≤ jm_K M a) : je G a < H.size := by
  obtain ⟨h1, h2, h3, h4, h5⟩ := h
  unfold je
  split
  · have := h4 a (by assumption) hK
    omega
  · omega
theorem je_ne {G : Gh} {M : Mm} {H : Heap} (h : jRep G M H) {a a0 : Nat} (hK : 1 ≤ jm_K M a) (h0 : 64 ≤ a0) (hne : a ≠ a0) : je G a ≠ je G a0 := by
  obtain ⟨h1, h2, h3, h4, h5⟩ := h
  unfold je
  rw [if_neg (by omega : ¬ a0 < 64)]
  split
  · have := h4 a (by assumption) hK
    omega
  · omega
theorem je_ge {G : Gh} {a : Nat} (h : 64 ≤ a) : jg_b G ≤ je G a := by
  unfold je
  rw [if_neg (by omega)]
  omega
theorem jcell_0 {G : Gh} {M : Mm} {a : Nat} {H : Heap} (h : jm_K M a = 0) : jcell G M a H := ⟨fun q => by omega, fun q => by omega⟩
/-- one cell of the new part is written -/
theorem jRep.set {G : Gh} {M M1 : Mm} {H H1 : Heap} {a0 : Nat} (h : jRep G M H) (h0 : 64 ≤ a0) (hz : H1.size = H.size) (ho : ∀ q : Nat, q ≠ je G a0 → H1[q]? = H[q]?) (hZ : jm_Z M1 = jm_Z M) (hal : ∀ a, a ≠ a0 → jal M M1 a) (hc : jcell G M1 a0 H1) : jRep G M1 H1 := by
  have hR := h
  obtain ⟨h1, h2, h3, h4, h5⟩ := h
  refine ⟨by omega, by omega, fun q hq => ?_, fun a ha hK => ?_, fun a ha => ?_⟩
  · rw [ho q, h3 q hq]
    have := je_ge (G := G) h0
    omega
  · have hne : a ≠ a0 := by omega
    rw [(hal a hne).1] at hK
    exact h4 a ha hK
  · by_cases hne : a = a0
    · subst hne; exact hc
    · by_cases hk : 1 ≤ jm_K M a
      · exact (h5 a (by omega)).kept (hal a hne) (ho _ (je_ne hR hk h0 hne))
      · exact jcell_0 (by rw [(hal a hne).1]; omega)
/-- a cell is made -/
theorem jRep.push {G : Gh} {M M1 : Mm} {H H1 : Heap} (h : jRep G M H) (hz : H1.size = H.size + 1) (ho : ∀ q : Nat, q < H.size → H1[q]? = H[q]?) (hZ : jm_Z M1 = jm_Z M + 1) (hal : ∀ a, a ≠ jm_Z M → jal M M1 a) (hc : jcell G M1 (jm_Z M) H1) : jRep G M1 H1 := by
  have hR := h
  obtain ⟨h1, h2, h3, h4, h5⟩ := h
  refine ⟨by omega, by omega, fun q hq => ?_, fun a ha hK => ?_, fun a ha => ?_⟩
  · rw [ho q (by omega), h3 q hq]
  · have hne : a ≠ jm_Z M := by omega
    rw [(hal a hne).1] at hK
    exact h4 a ha hK
  · by_cases hne : a = jm_Z M
    · subst hne; exact hc
    · by_cases hk : 1 ≤ jm_K M a
      · exact (h5 a (by omega)).kept (hal a hne) (ho _ (je_lt hR (by omega) hk))
      · exact jcell_0 (by rw [(hal a hne).1]; omega)
theorem je_Z {G : Gh} {M : Mm} {H : Heap} (h : jRep G M H) : je G (jm_Z M) = H.size := by
  obtain ⟨h1, h2, -⟩ := h
  unfold je
  rw [if_neg (by omega)]
  omega
/-! likeness of memories behind a write -/
theorem jal_I {M : Mm} {a k : Nat} {v : Int32} : ∀ b, b ≠ a → jal M (js_I M a k v) b := fun b hb => ⟨rfl, rfl, fun j => by rw [jI_I, if_neg (fun q => hb q.2)], fun _ => rfl, fun _ => rfl, fun _ => rfl, fun _ => rfl, fun _ => rfl⟩
theorem jal_L {M : Mm} {a k : Nat} {v : Int64} : ∀ b, b ≠ a → jal M (js_L M a k v) b := fun b hb => ⟨rfl, rfl, fun _ => rfl, fun j => by rw [jL_L, if_neg (fun q => hb q.2)], fun _ => rfl, fun _ => rfl, fun _ => rfl, fun _ => rfl⟩
theorem jal_R {M : Mm} {a k : Nat} {v : Option Nat} : ∀ b, b ≠ a → jal M (js_R M a k v) b := fun b hb => ⟨rfl, rfl, fun _ => rfl, fun _ => rfl, fun j => by rw [jR_R, if_neg (fun q => hb q.2)], fun _ => rfl, fun _ => rfl, fun _ => rfl⟩
theorem jal_A {M : Mm} {a k : Nat} {v : Int32} : ∀ b, b ≠ a → jal M (js_A M a k v) b := fun b hb => ⟨rfl, rfl, fun _ => rfl, fun _ => rfl, fun _ => rfl, fun j => by rw [jA_A, if_neg (fun q => hb q.1)], fun _ => rfl, fun _ => rfl⟩
theorem jal_B {M : Mm} {a k : Nat} {v : Int64} : ∀ b, b ≠ a → jal M (js_B M a k v) b := fun b hb => ⟨rfl, rfl, fun _ => rfl, fun _ => rfl, fun _ => rfl, fun _ => rfl, fun j => by rw [jB_B, if_neg (fun q => hb q.1)], fun _ => rfl⟩
theorem jal_C {M : Mm} {a k : Nat} {v : Option Nat} : ∀ b, b ≠ a → jal M (js_C M a k v) b := fun b hb => ⟨rfl, rfl, fun _ => rfl, fun _ => rfl, fun _ => rfl, fun _ => rfl, fun _ => rfl, fun j => by rw [jC_C, if_neg (fun q => hb q.1)]⟩
theorem jal_n {M : Mm} {c n s : Nat} : ∀ b, b ≠ jm_Z M → jal M (js_new M c n s) b := fun b hb => ⟨by rw [jK_n, if_neg hb], by rw [jN_n, if_neg hb], fun j => by rw [jI_n, if_neg hb], fun j => by rw [jL_n, if_neg hb], fun j => by rw [jR_n, if_neg hb], fun j => by rw [jA_n, if_neg hb], fun j => by rw [jB_n, if_neg hb], fun j => by rw [jC_n, if_neg hb]⟩
/-! what is known of the tables at any state of the run -/
def jck (a : Nat) : Option Nat := if a = 63 then some 0 else if a < 42 ∧ a % 2 = 1 then some 1 else none
/-- words that hold on, one by one, though no contract's list may carry them -/
def jxw (w : Cond) : Bool := match w with
  | .fieldLinkNest _ _ _ _ _ _ => true
  | .methodLinkNest _ _ _ _ => true
  | .castable _ _ => true
  | .declares _ => true
  | .arrayOver (.object _) => true
  | _ => false
def jKn (G : Gh) (s : State) : Prop :=
  (∀ (c : Nat) (q : vw_C), jcls[c]? = some q → u_Kn s q.1 q.2.1 q.2.2 ((jg_D G).1 c) ((jg_D G).2 c)) ∧
  (∀ (t : Nat) (ty : FieldType), jtys[t]? = some ty → ArrOfT s (jg_a G t) ty ∧ va_RA s (jg_a G t) ty) ∧
  (∀ (a t : Nat) (ty : FieldType), a < 64 → jck a = some t → jtys[t]? = some ty → ArrOfT s (jg_k G a) ty) ∧
  (∀ q ∈ jstr, vk_R q.1 q.2.1 q.2.2.1 (jg_c G q.2.2.2) s) ∧
  (∀ w ∈ lw_tbl, jxw w = true → va_Nw w s) ∧
  (∀ (i : Nat) (q : String × String × String), jsta[i]? = some q → va_Z q.1 q.2.1 q.2.2 (jg_u G i) (fun a => jg_b G ≤ a) s (jg_H G)) ∧
  (∀ q ∈ jfac, va_Fw q.1 q.2.1 q.2.2 s) ∧
  (∀ q ∈ jnc, va_Nc q.1 q.2 s) ∧
  (jg_l G).stackTraces = false ∧ vx_Zq Bundle.tN "UNASSIGNED_STACK" Bundle.steD (fun a => jg_b G ≤ a) s (jg_H G) ∧ vx_Zq Bundle.tN "SUPPRESSED_SENTINEL" Bundle.listD (fun a => jg_b G ≤ a) s (jg_H G)
theorem jKn.warm {G : Gh} {s U : State} (hW : s.WarmedH U.vm) (h : jKn G s) : jKn G U := by
  obtain ⟨h1, h2, h3, h4, h5, h6, h7, h8, h9, h10, h11⟩ := h
  have hvm : s.vm.Alike U.vm := hW.alike
  refine ⟨fun c q hq => u_Kn_moved hvm (h1 c q hq), fun t ty ht => ⟨arrOfT_moved hvm (h2 t ty ht).1, (h2 t ty ht).2.moved hvm⟩, fun a t ty ha hk ht => arrOfT_moved hvm (h3 a t ty ha hk ht), fun q hq => (h4 q hq).warm hW, fun w hw hx => ?_, fun i q hq => (h6 i q hq).moved hvm, fun q hq => ?_, fun q hq => (h8 q hq).moved hvm, h9, vx_Zq.moved hvm h10, vx_Zq.moved hvm h11⟩
  · have hz := h5 w hw hx
    cases w <;> first | (exact absurd (show false = true from hx) (by decide)) | skip
    all_goals first
      | exact va_Nw.warmF hW hz
      | exact va_Nw.warmM hW hz
      | exact va_Nw.warmC hW hz
      | exact va_Nw.warmD hW hz
      | skip
    all_goals
      rename_i t
      cases t <;> first | (exact absurd (show false = true from hx) (by decide)) | exact va_AO.moved hvm hz
  · refine (h7 q hq).moved ?_ hvm
    simp only [jfac, List.mem_cons, List.not_mem_nil, or_false] at hq
    rcases hq with rfl | rfl | rfl <;> exact ⟨by decide, by decide⟩
theorem jKn.eqv {G : Gh} {s U : State} (hv : s.vm = U.vm) (h : jKn G s) : jKn G U := by
  have hal : s.vm.Alike U.vm := by rw [hv]; exact Vm.Alike.refl _
  obtain ⟨h1, h2, h3, h4, h5, h6, h7, h8, h9, h10, h11⟩ := h
  refine ⟨fun c q hq => u_Kn_moved hal (h1 c q hq), fun t ty ht => ⟨arrOfT_moved hal (h2 t ty ht).1, (h2 t ty ht).2.moved hal⟩, fun a t ty ha hk ht => arrOfT_moved hal (h3 a t ty ha hk ht), fun q hq => vk_R.same hv.symm (h4 q hq), fun w hw hx => ?_, fun i q hq => (h6 i q hq).moved hal, fun q hq => ?_, fun q hq => (h8 q hq).moved hal, h9, vx_Zq.moved hal h10, vx_Zq.moved hal h11⟩
  · have hz := h5 w hw hx
    cases w <;> first | (exact absurd (show false = true from hx) (by decide)) | exact va_Nw.same rfl hv hz | skip
    all_goals
      rename_i t
      cases t <;> first | (exact absurd (show false = true from hx) (by decide)) | exact va_AO.moved hal hz
  · refine (h7 q hq).moved ?_ hal
    simp only [jfac, List.mem_cons, List.not_mem_nil, or_false] at hq
    rcases hq with rfl | rfl | rfl <;> exact ⟨by decide, by decide⟩
/-! the judgements -/
abbrev Rs : Type := Option Value ⊕ Nat
def jLe (M M' : Mm) : Prop := jm_Z M ≤ jm_Z M' ∧ jm_S M ≤ jm_S M'
theorem jLe.rf {M : Mm} : jLe M M := ⟨Nat.le_refl _, Nat.le_refl _⟩
theorem jLe.tr {M M1 M2 : Mm} (h : jLe M M1) (h1 : jLe M1 M2) : jLe M M2 := ⟨Nat.le_trans h.1 h1.1, Nat.le_trans h.2 h1.2⟩
def jrm (d : Nat) (M M' : Mm) : Room := { frames := d, cells := jm_Z M' - jm_Z M, slots := jm_S M' - jm_S M, locals := 64 * d }
def jAf (G : Gh) : Nat → Prop := fun q => jg_b G ≤ q
def jPc (G : Gh) (As : List Value) (M : Mm) : Array Value → State → Prop := fun v U => v = (As.map (jv G)).toArray ∧ jRep G M U.heap ∧ jKn G U
def jQn (G : Gh) (v : Option Value) (M' : Mm) : Array Value → State → Outcome → State → Prop := fun _ _ o t => o = .returned (v.map (jv G)) ∧ jRep G M' t.heap
theorem jPc.blind {G : Gh} {As : List Value} {M : Mm} : FrameBlind (jPc G As M) := by
  intro a U g mk h
  obtain ⟨h1, h2, h3⟩ := h
  exact ⟨h1, h2, jKn.eqv (s := U) (U := U.calling g mk a) rfl h3⟩
/-! throwing, with the thrown thing's address (after laws/EXCEPTIONS: vx_T, vx_Q, vx_Met, vx_Post, vx_back, vx_Run, vx_runV, vx_MQ, vx_out) -/
def vy_T (XC : Nat → String → State → State → Prop) (st : State) (q : Addr) (t : State) (mc ms : Nat) (free : Addr → Prop) : Prop :=
  ∃ (E : String) (ce : Cell) (L : List Loc), XC q E st t ∧ t.heap[q]? = some ce ∧ ce.vm = .none ∧ st.vm.findClass E = some ce.cls ∧ st.WarmedH t.vm ∧ st.sameButNew ({ t with vm := st.vm } : State) L mc ms ∧ ∀ z ∈ L, free z.base
def vy_Q (Qc : Array Value → State → Outcome → State → Prop) (XC : Nat → String → State → State → Prop) (mc ms : Nat) (free : Addr → Prop) : Array Value → State → Outcome → State → Prop := fun a st o t =>
  (Qc a st o t ∧ ∃ L, FrameEnd st o t L mc ms ∧ ∀ q ∈ L, free q.base) ∨ ∃ q, o = .threw q ∧ vy_T XC st q t mc ms free
def vy_Met (l : Launch) (y : MethodName) (ws : List Cond) (rm : Room) (Pc : Array Value → State → Prop) (Qc : Array Value → State → Outcome → State → Prop) (XC : Nat → String → State → State → Prop) (mc ms : Nat) (free : Addr → Prop) : Prop :=
  MetFree l y (headSpec ws rm) Pc (fun _ _ _ _ _ => True) (vy_Q Qc XC mc ms free)
def vy_Post (XC : Nat → String → State → State → Prop) (mc ms : Nat) (free : Addr → Prop) : Pt → Array Value → Addr → Pt → Prop := fun A a q B =>
  ∃ (g : JFrame) (mk : MethodId) (t : State) (L : List Loc) (E : String) (ce : Cell), B.U.heap = t.heap ∧ B.U.vm = t.vm ∧ XC q E (A.U.calling g mk a) t ∧ t.heap[q]? = some ce ∧ ce.vm = .none ∧ A.U.vm.findClass E = some ce.cls ∧ B.locs = A.locs ++ L ∧ (∀ z ∈ L, free z.base) ∧ B.cells = A.cells + mc ∧ B.slots = A.slots + ms
theorem jcat1 (G : Gh) {v : Value} (h : jis2 v = false) : (jv G v).category = 1 := by
  rw [jv_cat]
  have h1 := lv_cat v
  have h2 : ¬ v.category = 2 := fun q => by rw [(jis2_cat v).mpr q] at h; cases h
  omega
theorem jis2_r (o : Option Nat) : jis2 (jr o) = false := by cases o <;> rfl
theorem jkill_r (o : Option Nat) : jkill (some (jr o)) = some (jr o) := by cases o <;> rfl
section VYA
variable {l : Launch} {R : Room} {p : Program} {e : Env} {below : List Frame} {s : State} {sargs : Array Value} {y : MethodName} {len W9 : Nat}
theorem vy_back {ws : List Cond} {rm : Room} {Pc : Array Value → State → Prop} {Qc : Array Value → State → Outcome → State → Prop} {XC : Nat → String → State → State → Prop} {mc ms : Nat} {free : Addr → Prop} {bytes : ByteArray} {maxL : Nat} {ret : Option FieldType}
    (hM : vy_Met l y ws rm Pc Qc XC mc ms free) (hblind : FrameBlind Pc) (hrc : rm.cells = mc) (hrs : rm.slots = ms)
    (hframes : rm.frames + 1 ≤ R.frames) (hlocals : W9 + (maxL + 11) + rm.locals ≤ R.locals)
    (hws : ∀ w ∈ ws, ∀ a' U, s.WarmedH U.vm → w.before a' U = true) (hcode : Cond.code y bytes maxL ret ∈ ws) (hinit : ∀ a' U, s.WarmedH U.vm → (Cond.initialized y.cls).before a' U = true) :
    vx_Back l R p e below s sargs y len W9 (PreOf R mc ms Pc) (PostOf Qc mc ms free) (vy_Post XC mc ms free) := by
  intro m meth c A g ig mk a X hg hsize hdg hW hn hp
  have h1 : (headSpec ws rm).pre.before a A.U = true := atoms_intro fun w hw => hws w hw _ _ X.warmed
  have h2 : (Cond.code y bytes maxL ret).before a A.U = true := hws _ hcode _ _ X.warmed
  have h3 : (Cond.initialized y.cls).before a A.U = true := hinit _ _ X.warmed
  have h4 : A.cells + (headSpec ws rm).room.cells ≤ R.cells := by rw [show (headSpec ws rm).room.cells = mc from hrc]; exact hp.1
  have h5 : A.slots + (headSpec ws rm).room.slots ≤ R.slots := by rw [show (headSpec ws rm).room.slots = ms from hrs]; exact hp.2.1
  have hPc : Pc a (A.U.calling g mk a) := hblind _ _ _ _ hp.2.2
  obtain ⟨U, Ls, c0, s0⟩ := A
  dsimp only [Pt.U, Pt.locs, Pt.cells, Pt.slots] at h1 h2 h3 h4 h5 X hn hPc ⊢
  obtain ⟨methY, cY, hmY, hcY, -, hlY, -, -, -, -⟩ := Cond.code_spec hn h2
  obtain ⟨kY, hkY, -⟩ := className_of_methodNamed hn
  have hinitY : kY.init = .initialized := Cond.initialized_spec (findClass_of_methodNamed hn) hkY h3
  have h : At U g.method c below := by rw [hg]; exact X.here
  have hlocals9 : W9 + (maxL + 11) + (headSpec ws rm).room.locals ≤ R.locals := hlocals
  have happ : (headSpec ws rm).appliesLoose y e.platform (U.calling g mk a) = true :=
    Spec.appliesLoose_calling (g := g) h hdg hn hkY hinitY
      (X.room_calling (g := g) (R' := (headSpec ws rm).room) hsize hmY hcY hframes (by rw [hlY]; omega) h4 h5) h1
  obtain ⟨mid, hmid⟩ := h.above
  have hfr : (U.setTop g).frames = (.java g :: mid) ++ below := by rw [State.frames_setTop' g h.top, hmid]; rfl
  obtain ⟨o, s₂, hsteps, -, hend, hq⟩ := Steps.callFree hM p X.admits X.cas X.clock (acts := []) hfr happ hPc trivial
  have hq' : vy_Q Qc XC mc ms free a (U.calling g mk a) o s₂ := hq
  rw [State.frames_setTop' g h.top] at hend
  obtain ⟨g₀, hg0⟩ := Option.isSome_iff_exists.mp h.top
  obtain ⟨r, hr⟩ := State.topJava?_eq_some.mp hg0
  have hr' : (({ U with heap := s₂.heap, slotsUsed := s₂.slotsUsed } : State).setVm s₂.vm).frames = .java g₀ :: r := hr
  rcases hq' with ⟨hqc, L, hfe, hL⟩ | ⟨q, rfl, E, ce, L, hx, hce, hcv, hcl, hW₂, hsm, hL⟩
  · obtain ⟨⟨v, rfl⟩, hW₂, e2, q2, q3, q4, q5, q6⟩ := id hfe
    have e3 : s₂ = ({ (U.calling g mk a).setFrames s₂.frames with heap := s₂.heap, slotsUsed := s₂.slotsUsed } : State).setVm s₂.vm := by
      have : s₂ = ({ s₂ with vm := (U.calling g mk a).vm } : State).setVm s₂.vm := rfl
      rw [e2] at this
      exact this
    obtain ⟨c₂, i₂, len₂, hc₂, hd₂, hf₂⟩ := hend
    have hW' : U.WarmedH s₂.vm := hW₂
    have hcc : c₂ = c := by
      have h1 : s₂.code? g.method = U.code? g.method := by
        rw [State.code?_eq, State.code?_eq, hW'.alike.method?]
      exact Option.some.inj (hc₂.symm.trans (h1.trans h.code))
    subst hcc
    have hlen : len₂ = len := by rw [hdg] at hd₂; cases hd₂; rfl
    subst hlen
    have hs₂ : s₂ = (({ U with heap := s₂.heap, slotsUsed := s₂.slotsUsed } : State).setVm s₂.vm).setTop { g with pc := g.pc + len₂, stack := v.toList ++ g.stack } := by
      refine e3.trans ?_
      rw [hf₂, State.calling_eq h.top, State.setFrames_setFrames, State.setTop_of_frames _ hr', hr]
      rfl
    have hsame : U.sameButNew ({ U with heap := s₂.heap, slotsUsed := s₂.slotsUsed } : State) L mc ms := by
      refine ⟨?_, q2, q3, q4, q5, q6⟩
      obtain ⟨t, ht, -⟩ := State.frames_cons hr
      show ({ U with heap := s₂.heap, slotsUsed := s₂.slotsUsed } : State) = { U.setFrames U.frames with heap := s₂.heap, slotsUsed := s₂.slotsUsed }
      rw [State.setFrames_self ht]
    subst hg
    refine Or.inl ⟨v, ⟨(({ U with heap := s₂.heap, slotsUsed := s₂.slotsUsed } : State).setVm s₂.vm), Ls ++ L, c0 + mc, s0 + ms⟩,
      ⟨X.admits, X.cas, X.clock, X.frames, X.room, X.hears, X.method, X.code, (X.here.setHeapUsed s₂.heap s₂.slotsUsed).setVm hW'.alike, X.tail, State.WarmedH.trans X.warmed hW', X.limits, X.bytes, X.same.trans (hsame.setVm s.vm)⟩,
      ⟨g, mk, s₂, L, rfl, rfl, hqc, rfl, hL, rfl, rfl⟩, ?_⟩
    show Steps p.tables e below _ ((({ U with heap := s₂.heap, slotsUsed := s₂.slotsUsed } : State).setVm s₂.vm).setTop { g with pc := g.pc + len₂, stack := v.toList ++ g.stack })
    rw [← hs₂]
    exact hsteps
  · obtain ⟨e2, q2, q3, q4, q5, q6⟩ := id hsm
    have e3 : s₂ = ({ (U.calling g mk a).setFrames s₂.frames with heap := s₂.heap, slotsUsed := s₂.slotsUsed } : State).setVm s₂.vm := by
      have : s₂ = ({ s₂ with vm := (U.calling g mk a).vm } : State).setVm s₂.vm := rfl
      rw [e2] at this
      exact this
    have hf₂ : s₂.frames = .throwing q :: .java g :: U.frames.tail := hend
    have hW' : U.WarmedH s₂.vm := hW₂
    have hs₂ : s₂ = ((({ U with heap := s₂.heap, slotsUsed := s₂.slotsUsed } : State).setVm s₂.vm).setTop g).pushFrame (.throwing q) := by
      refine e3.trans ?_
      rw [hf₂, State.calling_eq h.top, State.setFrames_setFrames, State.pushFrame, State.frames_setTop _ hr', State.setTop_of_frames _ hr', State.setFrames_setFrames, hr]
      rfl
    have hsame : U.sameButNew ({ U with heap := s₂.heap, slotsUsed := s₂.slotsUsed } : State) L mc ms := by
      refine ⟨?_, q2, q3, q4, q5, q6⟩
      obtain ⟨t, ht, -⟩ := State.frames_cons hr
      show ({ U with heap := s₂.heap, slotsUsed := s₂.slotsUsed } : State) = { U.setFrames U.frames with heap := s₂.heap, slotsUsed := s₂.slotsUsed }
      rw [State.setFrames_self ht]
    subst hg
    refine Or.inr ⟨q, ⟨(({ U with heap := s₂.heap, slotsUsed := s₂.slotsUsed } : State).setVm s₂.vm), Ls ++ L, c0 + mc, s0 + ms⟩,
      ⟨X.admits, X.cas, X.clock, X.frames, X.room, X.hears, X.method, X.code, (X.here.setHeapUsed s₂.heap s₂.slotsUsed).setVm hW'.alike, X.tail, State.WarmedH.trans X.warmed hW', X.limits, X.bytes, X.same.trans (hsame.setVm s.vm)⟩,
      ⟨g, mk, s₂, L, E, ce, rfl, rfl, hx, hce, hcv, hcl, rfl, hL, rfl, rfl⟩, ?_⟩
    show Steps p.tables e below _ (((({ U with heap := s₂.heap, slotsUsed := s₂.slotsUsed } : State).setVm s₂.vm).setTop g).pushFrame (.throwing q))
    rw [← hs₂]
    exact hsteps
end VYA
def vy_Run (p : Program) (l : Launch) (e : Env) (R : Room) (s : State) (m : MethodId) (args : Array Value) (below : List Frame) (meth : Method) (c : Code) (H : Heap) (locs : List Loc) (cells slots mc ms : Nat) (g : JFrame) (rest : List Value) (Qa : State → Outcome → State → Prop) (XC : Nat → String → State → State → Prop) (free : Addr → Prop) : Prop :=
  ∀ T : State, T.heap = H → Stand p l e R s m args below meth c T locs cells slots →
    (∃ (v : Option Value) (st₀ t T' : State) (L : List Loc), st₀.heap = H ∧ Stand p l e R s m args below meth c T' (locs ++ L) (cells + mc) (slots + ms) ∧ (∀ q ∈ L, free q.base) ∧ T'.heap = t.heap ∧ T'.vm = t.vm ∧ Qa st₀ (.returned v) t ∧
      Goes p e below T g T' { g with pc := g.pc + 3, stack := v.toList ++ rest }) ∨
    (∃ (q : Addr) (st₀ t T' : State) (L : List Loc) (E : String) (ce : Cell), st₀.heap = H ∧ Stand p l e R s m args below meth c T' (locs ++ L) (cells + mc) (slots + ms) ∧ (∀ z ∈ L, free z.base) ∧ T'.heap = t.heap ∧ T'.vm = t.vm ∧ XC q E st₀ t ∧ t.heap[q]? = some ce ∧ ce.vm = .none ∧ s.vm.findClass E = some ce.cls ∧
      Steps p.tables e below (T.setTop g) ((T'.setTop { g with stack := rest }).pushFrame (.throwing q)))
section VYB
variable {p : Program} {l : Launch} {e : Env} {R : Room} {s : State} {m : MethodId} {args : Array Value} {below : List Frame} {meth : Method} {c : Code} {H : Heap} {locs : List Loc} {cells slots : Nat}
variable {y : MethodName} {bytes cc : ByteArray} {maxL nL mc ms n index : Nat} {ret : Option FieldType} {ws : List Cond} {rm : Room} {Pc : Array Value → State → Prop} {Qc : Array Value → State → Outcome → State → Prop} {XC : Nat → String → State → State → Prop} {free : Addr → Prop} {Ts : List Cond} {own C : String} {b : Addr} {As rest : List Value} {g : JFrame}
theorem vy_callBack (cb : CallB R s args own index y bytes maxL ret ws rm mc ms n) (hM : vy_Met l y ws rm Pc Qc XC mc ms free) (hbl : FrameBlind Pc) : vx_Back l R p e below s args y 3 8 (PreOf R mc ms Pc) (PostOf Qc mc ms free) (vy_Post XC mc ms free) := by
  obtain ⟨hrc, hrs, hfr, hlo, hws, hcw, -, hini, -⟩ := cb
  exact vy_back (bytes := bytes) (maxL := maxL) (ret := ret) hM hbl hrc hrs hfr hlo hws hcw (fun a' U hW => word_at hW (Or.inl (by first | rfl | simp [Cond.onTables, Cond.keeps, Cond.steady])) hini)
theorem vy_runV (S : CallFix p m c cc nL s args Ts own) (hM : vy_Met l y ws rm Pc Qc XC mc ms free) (cw : CallW R s args own C index y bytes maxL ret ws rm mc ms n) (hp : PreV s H C b Pc As)
    (hg : g.method = m) (hn : As.length = n) (hsize : g.locals.size = nL) (hstack : g.stack = As.reverse ++ .ref b :: rest) (hW : 2 * g.monitorRoom + (rest.map fun v => v.category).sum ≤ 8) (hdg : decode cc g.pc = .ok (.invokevirtual index, 3)) (hf : cells + mc ≤ R.cells ∧ slots + ms ≤ R.slots) :
    vy_Run p l e R s m args below meth c H locs cells slots mc ms g rest (Qc (Value.ref b :: As).toArray) XC free := by
  have hK : vx_Back l R p e below s args y 3 8 (PreOf R mc ms Pc) (PostOf Qc mc ms free) (vy_Post XC mc ms free) := vy_callBack cw.1 hM hp.1
  obtain ⟨⟨-, -, -, -, -, -, hcode, -, hy, hlen, hl⟩, hin, hse⟩ := cw
  obtain ⟨hx, hb, hml, ho, -⟩ := S
  obtain ⟨-, ⟨cellB, hcB, hoB, hclB⟩, hPc⟩ := hp
  intro T hT X
  rcases vx_callV X hx (C := C) (bytes := bytes) (maxL := maxL) (ret := ret) ho hl hin hse hcode hy hK (by rw [hT]; exact hcB) hoB hclB hg (hsize.trans hml.symm) (argsL := As) (rest := rest) (fun sig h => hn.trans (hlen sig h)) hstack hW (by rw [hb]; exact hdg)
    (fun vm₁ hW₁ => ⟨hf.1, hf.2, hPc (T.setVm vm₁) hT hW₁⟩) with ⟨v, vm₁, ⟨U', l2, c2, s2⟩, hW₁, X', ⟨g', mk, t, L, e1, e2, hq, h1, hL, h2, h3⟩, st⟩ | ⟨q, vm₁, ⟨U', l2, c2, s2⟩, hW₁, X', ⟨g', mk, t, L, E, ce, e1, e2, hq, hce, hcv, hcl, h1, hL, h2, h3⟩, st⟩
  · dsimp only [Pt.U, Pt.locs, Pt.cells, Pt.slots] at X' e1 e2 h1 h2 h3 st
    subst h1; subst h2; subst h3
    exact Or.inl ⟨v, (T.setVm vm₁).calling g' mk (Value.ref b :: As).toArray, t, U', L, hT, X', hL, e1, e2, hq, st⟩
  · dsimp only [Pt.U, Pt.locs, Pt.cells, Pt.slots] at X' e1 e2 h1 h2 h3 st hcl
    subst h1; subst h2; subst h3
    exact Or.inr ⟨q, (T.setVm vm₁).calling g' mk (Value.ref b :: As).toArray, t, U', L, E, ce, hT, X', hL, e1, e2, hq, hce, hcv, vx_cls hW₁ hcl, st⟩
end VYB
section VYC
variable {p : Program} {l : Launch} {e : Env} {R : Room} {s : State} {m : MethodId} {args : Array Value} {below : List Frame} {meth : Method} {c : Code} {H : Heap} {locs : List Loc} {cells slots : Nat} {Q : State → Prop}
variable {mc ms : Nat} {free : Addr → Prop} {A0 A1 : Nat → Prop} {H0 : Heap} {a : Array Value} {ls : Array Slot} {st0 rest : List Value}
variable {Qc : Array Value → State → Outcome → State → Prop} {XC : Nat → String → State → State → Prop}
/-- what a body that may throw owes at its end -/
def vy_MQ (below : List Frame) (Qc : Array Value → State → Outcome → State → Prop) (XC : Nat → String → State → State → Prop) (a : Array Value) (s : State) (mc ms : Nat) (free : Addr → Prop) : State → Prop := fun t =>
  ∃ o, t.status = .running ∧ Ended t below o ∧ vy_Q Qc XC mc ms free a s o t
theorem vy_out {pc : Nat} {E : String} {ce : Cell} {q : Addr} {mc ms : Nat} (hout : ∀ x ∈ c.exceptionTable.toList, covers x pc = false) (hlocks : meth.locks = false) (hcell : H[q]? = some ce) (hv : ce.vm = .none) (hcl : s.vm.findClass E = some ce.cls)
    (hx : ∀ t : State, t.heap = H → s.vm.Alike t.vm → XC q E s t) (hf : ∀ z ∈ locs, free z.base) (hc : cells ≤ mc) (hs : slots ≤ ms) :
    vx_W p l e R s m args below meth c H locs cells slots (vy_MQ below Qc XC args s mc ms free) (F0 m pc ls rest) q := by
  intro T hT X
  obtain ⟨st1, hrun, hend, hW, hsm⟩ := X.leaveThrown q (g := F0 m pc ls rest) rfl rfl rfl hout hlocks
  have hcell9 : (T.setFrames (.throwing q :: below)).heap[q]? = some ce := by
    show T.heap[q]? = some ce
    rw [hT]; exact hcell
  exact ⟨_, st1, .threw q, hrun, hend, Or.inr ⟨q, rfl, E, ce, locs, hx _ hT hW.alike, hcell9, hv, hcl, hW, hsm.mono hc hs, hf⟩⟩
end VYC
section VYD
variable {l : Launch}
theorem vy_ofW {y : MethodName} {ws ws' : List Cond} {rm : Room} {Pc : Array Value → State → Prop} {Qc : Array Value → State → Outcome → State → Prop} {XC : Nat → String → State → State → Prop} {mc ms : Nat} {free : Addr → Prop} {cc : ByteArray} {maxL : Nat} {ret : Option FieldType}
    (hy : plainName y.cls = true) (hw : ws = Cond.code y cc maxL ret :: ws')
    (body : ∀ p e s m args below meth c s₁, BodyLoose p l y (headSpec ws rm) cc maxL ret e s m args below meth c s₁ → c.maxLocals = maxL → (∀ x ∈ c.exceptionTable.toList, False) → Pc args s →
      W p l e (headSpec ws rm).room s m args below meth c s.heap [] 0 0 (vy_MQ below Qc XC args s mc ms free) (entryFrame m args maxL)) : vy_Met l y ws rm Pc Qc XC mc ms free := by
  refine MetFree.of_bodyS (code := cc) (maxLocals := maxL) (ret := ret) hy ?_ ?_
  · intro args s m h hn
    obtain ⟨meth, c, h1, h2, h3, h4, h5, h6, -, -⟩ := Cond.code_spec hn (atoms_spec (ws := ws) h _ (by rw [hw]; exact List.mem_cons_self))
    exact ⟨meth, c, h1, h2, h3, h4, h5, h6⟩
  · intro p e s m args below meth c s₁ B hml hP _
    have hh0 : s₁.heap = s.heap := by rw [B.state]; rfl
    have ht : ∀ x ∈ c.exceptionTable.toList, False := by
      obtain ⟨meth9, c9, h1, h2, -, -, -, -, h7, -⟩ := Cond.code_spec B.named (atoms_spec (ws := ws) B.pre _ (by rw [hw]; exact List.mem_cons_self))
      cases Option.some.inj (h1.symm.trans B.method)
      cases Option.some.inj (h2.symm.trans (Stand.of_body B).code)
      intro x hx
      rw [Array.isEmpty_iff.mp h7] at hx
      cases hx
    obtain ⟨t, a1, o, b1, b2, b3⟩ := body p e s m args below meth c s₁ B hml ht hP s₁ hh0 (Stand.of_body B)
    exact ⟨t, o, a1, b1, b2, b3⟩
end VYD
/-- what a body of the method mi stands in -/
def jCx (G : Gh) (mi : Mi) (p : Program) (s : State) (m : MethodId) (args : Array Value) (meth : Method) (c : Code) : Prop :=
  p.tables.exec = Jvm.exec ∧ c.code = mi.2.1 ∧ meth.sig.returnType = mi.2.2.2.1 ∧ meth.locks = false ∧ c.maxLocals = mi.2.2.1 ∧ s.vm.findClass mi.1.cls = some m.cls ∧ (∀ w ∈ lw_all, w.before args s = true) ∧ jKn G s ∧ meth.name = mi.1.name ∧ c.exceptionTable.toList = tableOf mi.2.2.2.2 ∧ jg_b G ≤ s.heap.size
theorem jCx.x {G : Gh} {mi : Mi} {p : Program} {s : State} {m : MethodId} {args : Array Value} {meth : Method} {c : Code} (h : jCx G mi p s m args meth c) : p.tables.exec = Jvm.exec := h.1
theorem jCx.b {G : Gh} {mi : Mi} {p : Program} {s : State} {m : MethodId} {args : Array Value} {meth : Method} {c : Code} (h : jCx G mi p s m args meth c) : c.code = mi.2.1 := h.2.1
theorem jCx.r {G : Gh} {mi : Mi} {p : Program} {s : State} {m : MethodId} {args : Array Value} {meth : Method} {c : Code} (h : jCx G mi p s m args meth c) : meth.sig.returnType = mi.2.2.2.1 := h.2.2.1
theorem jCx.lk {G : Gh} {mi : Mi} {p : Program} {s : State} {m : MethodId} {args : Array Value} {meth : Method} {c : Code} (h : jCx G mi p s m args meth c) : meth.locks = false := h.2.2.2.1
theorem jCx.ml {G : Gh} {mi : Mi} {p : Program} {s : State} {m : MethodId} {args : Array Value} {meth : Method} {c : Code} (h : jCx G mi p s m args meth c) : c.maxLocals = mi.2.2.1 := h.2.2.2.2.1
theorem jCx.own {G : Gh} {mi : Mi} {p : Program} {s : State} {m : MethodId} {args : Array Value} {meth : Method} {c : Code} (h : jCx G mi p s m args meth c) : s.vm.findClass mi.1.cls = some m.cls := h.2.2.2.2.2.1
theorem jCx.ts {G : Gh} {mi : Mi} {p : Program} {s : State} {m : MethodId} {args : Array Value} {meth : Method} {c : Code} (h : jCx G mi p s m args meth c) : ∀ w ∈ lw_all, w.before args s = true := h.2.2.2.2.2.2.1
theorem jCx.kn {G : Gh} {mi : Mi} {p : Program} {s : State} {m : MethodId} {args : Array Value} {meth : Method} {c : Code} (h : jCx G mi p s m args meth c) : jKn G s := h.2.2.2.2.2.2.2.1
theorem jCx.nm {G : Gh} {mi : Mi} {p : Program} {s : State} {m : MethodId} {args : Array Value} {meth : Method} {c : Code} (h : jCx G mi p s m args meth c) : meth.name = mi.1.name := h.2.2.2.2.2.2.2.2.1
theorem jCx.tb {G : Gh} {mi : Mi} {p : Program} {s : State} {m : MethodId} {args : Array Value} {meth : Method} {c : Code} (h : jCx G mi p s m args meth c) : c.exceptionTable.toList = tableOf mi.2.2.2.2 := h.2.2.2.2.2.2.2.2.2.1
theorem jCx.bl {G : Gh} {mi : Mi} {p : Program} {s : State} {m : MethodId} {args : Array Value} {meth : Method} {c : Code} (h : jCx G mi p s m args meth c) : jg_b G ≤ s.heap.size := h.2.2.2.2.2.2.2.2.2.2
def jXC (G : Gh) (a : Nat) (M' : Mm) : Nat → String → State → State → Prop := fun q E _ t => q = je G a ∧ jRep G M' t.heap ∧ 64 ≤ a ∧ a < jm_Z M' ∧ 1 ≤ jm_K M' a ∧ jm_K M' a < 100 ∧ ∃ r : vw_C, jcls[jm_K M' a - 1]? = some r ∧ E = r.1
def jEnd (G : Gh) (r : Rs) (M' : Mm) (below : List Frame) (args : Array Value) (s : State) (mc ms : Nat) : State → Prop := match r with
  | .inl v => MQ below (jQn G v M') args s mc ms (jAf G)
  | .inr a => vy_MQ below (fun _ _ _ _ => False) (jXC G a M') args s mc ms (jAf G)
def jRun (G : Gh) (mi : Mi) (d : Nat) (M0 : Mm) (pc : Nat) (ls : List (Option Value)) (st : List Value) (M : Mm) (r : Rs) (M' : Mm) : Prop :=
  ∀ (p : Program) (e : Env) (s : State) (m : MethodId) (args : Array Value) (below : List Frame) (meth : Method) (c : Code) (H : Heap) (locs : List Loc) (la : Array Slot),
    jCx G mi p s m args meth c → jRep G M H → va_S (jAf G) s.heap H locs → jlv G la mi.2.2.1 ls → jLe M0 M →
    W p (jg_l G) e (jrm d M0 M') s m args below meth c H locs (jm_Z M - jm_Z M0) (jm_S M - jm_S M0) (jEnd G r M' below args s (jm_Z M' - jm_Z M0) (jm_S M' - jm_S M0)) (F0 m pc la (st.map (jv G)))
def jRunX (G : Gh) (mi : Mi) (d : Nat) (M0 : Mm) (pc : Nat) (ls : List (Option Value)) (a : Nat) (M : Mm) (r : Rs) (M' : Mm) : Prop :=
  ∀ (p : Program) (e : Env) (s : State) (m : MethodId) (args : Array Value) (below : List Frame) (meth : Method) (c : Code) (H : Heap) (locs : List Loc) (la : Array Slot) (rest : List Value),
    jCx G mi p s m args meth c → jRep G M H → va_S (jAf G) s.heap H locs → jlv G la mi.2.2.1 ls → jLe M0 M →
    vx_W p (jg_l G) e (jrm d M0 M') s m args below meth c H locs (jm_Z M - jm_Z M0) (jm_S M - jm_S M0) (jEnd G r M' below args s (jm_Z M' - jm_Z M0) (jm_S M' - jm_S M0)) (F0 m pc la rest) (je G a)
/-- from here the method comes to an end with P -/
def jW (G : Gh) (mi : Mi) (d : Nat) (M0 : Mm) (pc : Nat) (ls : List (Option Value)) (st : List Value) (M : Mm) (P : Rs → Mm → Prop) : Prop := ∃ (r : Rs) (M' : Mm), P r M' ∧ jLe M M' ∧ jRun G mi d M0 pc ls st M r M'
/-- .. with a thrown at pc -/
def jX (G : Gh) (mi : Mi) (d : Nat) (M0 : Mm) (pc : Nat) (ls : List (Option Value)) (a : Nat) (M : Mm) (P : Rs → Mm → Prop) : Prop := ∃ (r : Rs) (M' : Mm), P r M' ∧ jLe M M' ∧ jRunX G mi d M0 pc ls a M r M'
def jws (mi : Mi) : List Cond := (match mi.2.2.2.2 with
  | [] => Cond.code mi.1 mi.2.1 mi.2.2.1 mi.2.2.2.1
  | hh => Cond.codeWith mi.1 mi.2.1 mi.2.2.1 mi.2.2.2.1 hh) :: lw_all
def jMet (G : Gh) (mi : Mi) (d : Nat) (As : List Value) (M : Mm) (r : Rs) (M' : Mm) : Prop := match r with
  | .inl v => Met (jg_l G) mi.1 (jws mi) (jrm d M M') (jPc G As M) (jQn G v M') (jm_Z M' - jm_Z M) (jm_S M' - jm_S M) (jAf G)
  | .inr a => vy_Met (jg_l G) mi.1 (jws mi) (jrm d M M') (jPc G As M) (fun _ _ _ _ => False) (jXC G a M') (jm_Z M' - jm_Z M) (jm_S M' - jm_S M) (jAf G)
/-- THE CONTRACT: the method mi, called with As at the memory M, d frames left, comes to an end with P -/
def jT (G : Gh) (mi : Mi) (d : Nat) (As : List Value) (M : Mm) (P : Rs → Mm → Prop) : Prop := ∃ (r : Rs) (M' : Mm), P r M' ∧ jLe M M' ∧ jMet G mi d As M r M'
theorem jT.mono {G : Gh} {mi : Mi} {d : Nat} {As : List Value} {M : Mm} {P Q : Rs → Mm → Prop} (h : jT G mi d As M P) (hPQ : ∀ r M', P r M' → Q r M') : jT G mi d As M Q := by
  obtain ⟨r, M', h1, h2, h3⟩ := h
  exact ⟨r, M', hPQ _ _ h1, h2, h3⟩
theorem jW.mono {G : Gh} {mi : Mi} {d : Nat} {M0 : Mm} {pc : Nat} {ls : List (Option Value)} {st : List Value} {M : Mm} {P Q : Rs → Mm → Prop} (h : jW G mi d M0 pc ls st M P) (hPQ : ∀ r M', P r M' → Q r M') : jW G mi d M0 pc ls st M Q := by
  obtain ⟨r, M', h1, h2, h3⟩ := h
  exact ⟨r, M', hPQ _ _ h1, h2, h3⟩
theorem plain_of {C : String} (h : plainName C = true) : plainName C = true := h
/-- the contract out of the walk of the body -/
theorem jT.of {G : Gh} {mi : Mi} {d : Nat} {As : List Value} {M : Mm} {P : Rs → Mm → Prop} (hy : plainName mi.1.cls = true) (hhh : mi.2.2.2.2 = []) (hlen : jlen As ≤ mi.2.2.1) (h : jW G mi d M 0 (jent As mi.2.2.1) [] M P) : jT G mi d As M P := by
  obtain ⟨r, M', h1, h2, h3⟩ := h
  refine ⟨r, M', h1, h2, ?_⟩
  have hws : jws mi = Cond.code mi.1 mi.2.1 mi.2.2.1 mi.2.2.2.1 :: lw_all := by unfold jws; rw [hhh]
  have key : ∀ (p : Program) (e : Env) (s : State) (m : MethodId) (args : Array Value) (below : List Frame) (meth : Method) (c : Code) (s₁ : State), BodyLoose p (jg_l G) mi.1 (headSpec (jws mi) (jrm d M M')) mi.2.1 mi.2.2.1 mi.2.2.2.1 e s m args below meth c s₁ → c.maxLocals = mi.2.2.1 → (∀ x ∈ c.exceptionTable.toList, False) → jPc G As M args s →
      W p (jg_l G) e (jrm d M M') s m args below meth c s.heap [] 0 0 (jEnd G r M' below args s (jm_Z M' - jm_Z M) (jm_S M' - jm_S M)) (entryFrame m args mi.2.2.1) := by
    intro p e s m args below meth c s₁ B hml hex hv
    obtain ⟨rfl, hR, hK⟩ := hv
    have hts : ∀ w ∈ jws mi, w.before (As.map (jv G)).toArray s = true := atoms_spec (ws := jws mi) B.pre
    have hts : ∀ w ∈ lw_all, w.before (As.map (jv G)).toArray s = true := fun w h => hts w (List.mem_cons_of_mem _ h)
    have hl := jent_lv G As mi.2.2.1 (by rw [jlen_eq]; exact hlen)
    rw [lg_entry_eq]
    have hnil : c.exceptionTable.toList = tableOf mi.2.2.2.2 := by
      rw [hhh]
      cases hc : c.exceptionTable.toList with
      | nil => rfl
      | cons x t => exact (hex x (by rw [hc]; exact List.mem_cons_self)).elim
    have hb : jg_b G ≤ s.heap.size := by
      have h1 := hR.1
      have h2 := hR.2.1
      omega
    have := h3 p e s m (As.map (jv G)).toArray below meth c s.heap [] _ ⟨B.exec, B.bytes, B.returns, B.notSynchronized, hml, findClass_of_methodNamed B.named, hts, hK, (name_of_methodNamed B.named B.method).1, hnil, hb⟩ hR va_S.rf hl jLe.rf
    rw [Nat.sub_self, Nat.sub_self] at this
    exact this
  match r, key with
  | .inl v, key =>
    refine Met.ofW (cc := mi.2.1) (maxL := mi.2.2.1) (ret := mi.2.2.2.1) hy hws ?_
    intro p e s m args below meth c s₁ B hml hv
    refine key p e s m args below meth c s₁ B hml ?_ hv
    obtain ⟨meth9, c9, g1, g2, -, -, -, -, g7, -⟩ := Cond.code_spec B.named (atoms_spec (ws := jws mi) B.pre _ (by rw [hws]; exact List.mem_cons_self))
    cases Option.some.inj (g1.symm.trans B.method)
    cases Option.some.inj (g2.symm.trans (Stand.of_body B).code)
    intro x hx
    rw [Array.isEmpty_iff.mp g7] at hx
    cases hx
  | .inr a, key => exact vy_ofW (cc := mi.2.1) (maxL := mi.2.2.1) (ret := mi.2.2.2.1) hy hws key
/-- .. of a body with handlers, that returns -/
theorem jT.ofH {G : Gh} {mi : Mi} {d : Nat} {As : List Value} {M : Mm} {P : Rs → Mm → Prop} {h0 : Nat × Nat × Nat × Nat} {ht : List (Nat × Nat × Nat × Nat)} (hy : plainName mi.1.cls = true) (hhh : mi.2.2.2.2 = h0 :: ht) (hlen : jlen As ≤ mi.2.2.1) (h : jW G mi d M 0 (jent As mi.2.2.1) [] M (fun r M' => P r M' ∧ ∃ v, r = .inl v)) : jT G mi d As M P := by
  obtain ⟨r, M', ⟨h1, v, rfl⟩, h2, h3⟩ := h
  refine ⟨.inl v, M', h1, h2, ?_⟩
  have hws : jws mi = Cond.codeWith mi.1 mi.2.1 mi.2.2.1 mi.2.2.2.1 (h0 :: ht) :: lw_all := by unfold jws; rw [hhh]
  refine va_MetW (cc := mi.2.1) (maxL := mi.2.2.1) (ret := mi.2.2.2.1) hy hws ?_
  intro p e s m args below meth c s₁ B hml hv
  obtain ⟨rfl, hR, hK⟩ := hv
  have hts : ∀ w ∈ jws mi, w.before (As.map (jv G)).toArray s = true := atoms_spec (ws := jws mi) B.pre
  have htb := vx_table (x := mi.1) B (hts _ (by rw [hws]; exact List.mem_cons_self))
  have hts : ∀ w ∈ lw_all, w.before (As.map (jv G)).toArray s = true := fun w h => hts w (List.mem_cons_of_mem _ h)
  have hl := jent_lv G As mi.2.2.1 (by rw [jlen_eq]; exact hlen)
  rw [lg_entry_eq]
  have hb : jg_b G ≤ s.heap.size := by
    have h1 := hR.1
    have h2 := hR.2.1
    omega
  have := h3 p e s m (As.map (jv G)).toArray below meth c s.heap [] _ ⟨B.exec, B.bytes, B.returns, B.notSynchronized, hml, findClass_of_methodNamed B.named, hts, hK, (name_of_methodNamed B.named B.method).1, by rw [hhh]; exact htb, hb⟩ hR va_S.rf hl jLe.rf
  rw [Nat.sub_self, Nat.sub_self] at this
  exact this
/-! steps -/
section JS
variable {G : Gh} {mi : Mi} {d : Nat} {M0 : Mm} {pc pc1 : Nat} {ls ls1 : List (Option Value)} {st st1 : List Value} {M M1 : Mm} {P : Rs → Mm → Prop}
/-- a step that may write and make -/
theorem jW.go (hle : jLe M M1)
    (h : ∀ (p : Program) (e : Env) (s : State) (m : MethodId) (args : Array Value) (below : List Frame) (meth : Method) (c : Code) (H : Heap) (locs : List Loc) (la : Array Slot) (M' : Mm) (Q : State → Prop),
      jCx G mi p s m args meth c → jRep G M H → va_S (jAf G) s.heap H locs → jlv G la mi.2.2.1 ls → jLe M0 M → jLe M1 M' →
      (∀ (H1 : Heap) (locs1 : List Loc) (la1 : Array Slot), jRep G M1 H1 → va_S (jAf G) s.heap H1 locs1 → jlv G la1 mi.2.2.1 ls1 → W p (jg_l G) e (jrm d M0 M') s m args below meth c H1 locs1 (jm_Z M1 - jm_Z M0) (jm_S M1 - jm_S M0) Q (F0 m pc1 la1 (st1.map (jv G)))) →
      W p (jg_l G) e (jrm d M0 M') s m args below meth c H locs (jm_Z M - jm_Z M0) (jm_S M - jm_S M0) Q (F0 m pc la (st.map (jv G))))
    (k : jW G mi d M0 pc1 ls1 st1 M1 P) : jW G mi d M0 pc ls st M P := by
  obtain ⟨r, M', h1, h2, h3⟩ := k
  refine ⟨r, M', h1, hle.tr h2, ?_⟩
  intro p e s m args below meth c H locs la C hR hS hl h0
  exact h p e s m args below meth c H locs la M' _ C hR hS hl h0 h2 fun H1 locs1 la1 hR1 hS1 hl1 => h3 p e s m args below meth c H1 locs1 la1 C hR1 hS1 hl1 (h0.tr hle)
/-- a step on the locals and the stack alone -/
theorem jW.s1
    (h : ∀ (p : Program) (e : Env) (s : State) (m : MethodId) (args : Array Value) (below : List Frame) (meth : Method) (c : Code) (H : Heap) (locs : List Loc) (la : Array Slot) (R : Room) (cells slots : Nat) (Q : State → Prop),
      jCx G mi p s m args meth c → jRep G M H → va_S (jAf G) s.heap H locs → jlv G la mi.2.2.1 ls →
      (∀ (la1 : Array Slot), jlv G la1 mi.2.2.1 ls1 → W p (jg_l G) e R s m args below meth c H locs cells slots Q (F0 m pc1 la1 (st1.map (jv G)))) →
      W p (jg_l G) e R s m args below meth c H locs cells slots Q (F0 m pc la (st.map (jv G))))
    (k : jW G mi d M0 pc1 ls1 st1 M P) : jW G mi d M0 pc ls st M P :=
  jW.go jLe.rf (fun p e s m args below meth c H locs la M' Q C hR hS hl _ _ kk => h p e s m args below meth c H locs la _ _ _ Q C hR hS hl fun la1 hl1 => kk H locs la1 hR hS hl1) k
theorem jW.s0
    (h : ∀ (p : Program) (e : Env) (s : State) (m : MethodId) (args : Array Value) (below : List Frame) (meth : Method) (c : Code) (H : Heap) (locs : List Loc) (la : Array Slot) (R : Room) (cells slots : Nat) (Q : State → Prop),
      jCx G mi p s m args meth c → jRep G M H → va_S (jAf G) s.heap H locs → jlv G la mi.2.2.1 ls →
      W p (jg_l G) e R s m args below meth c H locs cells slots Q (F0 m pc1 la (st1.map (jv G))) →
      W p (jg_l G) e R s m args below meth c H locs cells slots Q (F0 m pc la (st.map (jv G))))
    (k : jW G mi d M0 pc1 ls st1 M P) : jW G mi d M0 pc ls st M P :=
  jW.s1 (fun p e s m args below meth c H locs la R cells slots Q C hR hS hl kk => h p e s m args below meth c H locs la R cells slots Q C hR hS hl (kk la hl)) k
/-- fewer known locals -/
theorem jW.sub (h : jsub ls1 ls) (k : jW G mi d M0 pc ls1 st M P) : jW G mi d M0 pc ls st M P :=
  jW.s1 (fun p e s m args below meth c H locs la R cells slots Q C hR hS hl kk => kk la (hl.sub h)) k
/-- the same under other names -/
theorem jW.eq (hl : ls1 = ls) (hs : st1 = st) (hM : M1 = M) (k : jW G mi d M0 pc ls1 st1 M1 P) : jW G mi d M0 pc ls st M P := by
  subst hl; subst hs; subst hM; exact k
/-- a loop: a measure falls -/
theorem jW.loop {σ : Type} (I : σ → Prop) (μ : σ → Nat) (fl : σ → List (Option Value)) (fs : σ → List Value) (fM : σ → Mm)
    (h : ∀ x : σ, I x → (∀ y : σ, I y → μ y < μ x → jW G mi d M0 pc (fl y) (fs y) (fM y) P) → jW G mi d M0 pc (fl x) (fs x) (fM x) P) : ∀ x : σ, I x → jW G mi d M0 pc (fl x) (fs x) (fM x) P := by
  have key : ∀ (n : Nat) (x : σ), μ x < n → I x → jW G mi d M0 pc (fl x) (fs x) (fM x) P := by
    intro n
    induction n with
    | zero => intro x hx; exact absurd hx (Nat.not_lt_zero _)
    | succ n ih =>
      intro x hx hI
      exact h x hI fun y hy hlt => ih y (by omega) hy
  exact fun x hx => key (μ x + 1) x (Nat.lt_succ_self _) hx
end JS
section JR
variable {G : Gh} {mi : Mi} {d : Nat} {M0 : Mm} {pc : Nat} {ls : List (Option Value)} {st : List Value} {M : Mm} {P : Rs → Mm → Prop}
theorem jw_iconst {n : Int} {v : Int32} (hd : decode mi.2.1 pc = .ok (.iconst n, 1)) (hv : Int32.ofInt n = v) (k : jW G mi d M0 (pc + 1) ls (.int v :: st) M P) : jW G mi d M0 pc ls (st) M P :=
  jW.s0 (fun p e s m args below meth c H locs la R cells slots Q C hR hS hl w => lv_iconst C.x C.b hd hv w) k
theorem jw_bipush {n : Int} {v : Int32} (hd : decode mi.2.1 pc = .ok (.bipush n, 2)) (hv : (Int8.ofInt n).toInt32 = v) (k : jW G mi d M0 (pc + 2) ls (.int v :: st) M P) : jW G mi d M0 pc ls (st) M P :=
  jW.s0 (fun p e s m args below meth c H locs la R cells slots Q C hR hS hl w => lv_bipush C.x C.b hd hv w) k
theorem jw_sipush {n : Int} {v : Int32} (hd : decode mi.2.1 pc = .ok (.sipush n, 3)) (hv : (Int16.ofInt n).toInt32 = v) (k : jW G mi d M0 (pc + 3) ls (.int v :: st) M P) : jW G mi d M0 pc ls (st) M P :=
  jW.s0 (fun p e s m args below meth c H locs la R cells slots Q C hR hS hl w => lv_sipush C.x C.b hd hv w) k
theorem jw_lconst {n : Fin 2} {v : Int64} (hd : decode mi.2.1 pc = .ok (.lconst n, 1)) (hv : Int64.ofNat (n : Nat) = v) (k : jW G mi d M0 (pc + 1) ls (.long v :: st) M P) : jW G mi d M0 pc ls (st) M P :=
  jW.s0 (fun p e s m args below meth c H locs la R cells slots Q C hR hS hl w => lv_lconst C.x C.b hd hv w) k
theorem jw_null  (hd : decode mi.2.1 pc = .ok (.aconst_null, 1)) (k : jW G mi d M0 (pc + 1) ls (jr none :: st) M P) : jW G mi d M0 pc ls (st) M P :=
  jW.s0 (fun p e s m args below meth c H locs la R cells slots Q C hR hS hl w => lv_null C.x C.b hd w) k
theorem jw_iadd {x y : Int32} (hd : decode mi.2.1 pc = .ok (.iadd, 1)) (k : jW G mi d M0 (pc + 1) ls (.int (x + y) :: st) M P) : jW G mi d M0 pc ls (.int y :: .int x :: st) M P :=
  jW.s0 (fun p e s m args below meth c H locs la R cells slots Q C hR hS hl w => lv_iadd C.x C.b hd w) k
theorem jw_isub {x y : Int32} (hd : decode mi.2.1 pc = .ok (.isub, 1)) (k : jW G mi d M0 (pc + 1) ls (.int (x - y) :: st) M P) : jW G mi d M0 pc ls (.int y :: .int x :: st) M P :=
  jW.s0 (fun p e s m args below meth c H locs la R cells slots Q C hR hS hl w => lv_isub C.x C.b hd w) k
theorem jw_imul {x y : Int32} (hd : decode mi.2.1 pc = .ok (.imul, 1)) (k : jW G mi d M0 (pc + 1) ls (.int (x * y) :: st) M P) : jW G mi d M0 pc ls (.int y :: .int x :: st) M P :=
  jW.s0 (fun p e s m args below meth c H locs la R cells slots Q C hR hS hl w => lv_imul C.x C.b hd w) k
theorem jw_iand {x y : Int32} (hd : decode mi.2.1 pc = .ok (.iand, 1)) (k : jW G mi d M0 (pc + 1) ls (.int (x &&& y) :: st) M P) : jW G mi d M0 pc ls (.int y :: .int x :: st) M P :=
  jW.s0 (fun p e s m args below meth c H locs la R cells slots Q C hR hS hl w => lv_iand C.x C.b hd w) k
theorem jw_ior {x y : Int32} (hd : decode mi.2.1 pc = .ok (.ior, 1)) (k : jW G mi d M0 (pc + 1) ls (.int (x ||| y) :: st) M P) : jW G mi d M0 pc ls (.int y :: .int x :: st) M P :=
  jW.s0 (fun p e s m args below meth c H locs la R cells slots Q C hR hS hl w => lv_ior C.x C.b hd w) k
theorem jw_ixor {x y : Int32} (hd : decode mi.2.1 pc = .ok (.ixor, 1)) (k : jW G mi d M0 (pc + 1) ls (.int (x ^^^ y) :: st) M P) : jW G mi d M0 pc ls (.int y :: .int x :: st) M P :=
  jW.s0 (fun p e s m args below meth c H locs la R cells slots Q C hR hS hl w => lv_ixor C.x C.b hd w) k
theorem jw_ishl {x y : Int32} (hd : decode mi.2.1 pc = .ok (.ishl, 1)) (k : jW G mi d M0 (pc + 1) ls (.int (x <<< (y &&& 31)) :: st) M P) : jW G mi d M0 pc ls (.int y :: .int x :: st) M P :=
  jW.s0 (fun p e s m args below meth c H locs la R cells slots Q C hR hS hl w => lv_ishl C.x C.b hd w) k
theorem jw_ishr {x y : Int32} (hd : decode mi.2.1 pc = .ok (.ishr, 1)) (k : jW G mi d M0 (pc + 1) ls (.int (x >>> (y &&& 31)) :: st) M P) : jW G mi d M0 pc ls (.int y :: .int x :: st) M P :=
  jW.s0 (fun p e s m args below meth c H locs la R cells slots Q C hR hS hl w => lv_ishr C.x C.b hd w) k
theorem jw_idiv {x y : Int32} (hd : decode mi.2.1 pc = .ok (.idiv, 1)) (hne : ¬ y = 0) (k : jW G mi d M0 (pc + 1) ls (.int (x / y) :: st) M P) : jW G mi d M0 pc ls (.int y :: .int x :: st) M P :=
  jW.s0 (fun p e s m args below meth c H locs la R cells slots Q C hR hS hl w => lv_idiv C.x C.b hd hne w) k
theorem jw_irem {x y : Int32} (hd : decode mi.2.1 pc = .ok (.irem, 1)) (hne : ¬ y = 0) (k : jW G mi d M0 (pc + 1) ls (.int (x - x / y * y) :: st) M P) : jW G mi d M0 pc ls (.int y :: .int x :: st) M P :=
  jW.s0 (fun p e s m args below meth c H locs la R cells slots Q C hR hS hl w => lv_irem C.x C.b hd hne w) k
theorem jw_ineg {x : Int32} (hd : decode mi.2.1 pc = .ok (.ineg, 1)) (k : jW G mi d M0 (pc + 1) ls (.int (-x) :: st) M P) : jW G mi d M0 pc ls (.int x :: st) M P :=
  jW.s0 (fun p e s m args below meth c H locs la R cells slots Q C hR hS hl w => lv_ineg C.x C.b hd w) k
theorem jw_iushr {x y v : Int32} (hd : decode mi.2.1 pc = .ok (.iushr, 1)) (hv : (x.toUInt32 >>> (y.toUInt32 &&& Int32.toUInt32 31)).toInt32 = v) (k : jW G mi d M0 (pc + 1) ls (.int v :: st) M P) : jW G mi d M0 pc ls (.int y :: .int x :: st) M P :=
  jW.s0 (fun p e s m args below meth c H locs la R cells slots Q C hR hS hl w => lv_iushr C.x C.b hd hv w) k
theorem jw_ladd {x y : Int64} (hd : decode mi.2.1 pc = .ok (.ladd, 1)) (k : jW G mi d M0 (pc + 1) ls (.long (x + y) :: st) M P) : jW G mi d M0 pc ls (.long y :: .long x :: st) M P :=
  jW.s0 (fun p e s m args below meth c H locs la R cells slots Q C hR hS hl w => lv_ladd C.x C.b hd w) k
theorem jw_lsub {x y : Int64} (hd : decode mi.2.1 pc = .ok (.lsub, 1)) (k : jW G mi d M0 (pc + 1) ls (.long (x - y) :: st) M P) : jW G mi d M0 pc ls (.long y :: .long x :: st) M P :=
  jW.s0 (fun p e s m args below meth c H locs la R cells slots Q C hR hS hl w => lv_lsub C.x C.b hd w) k
theorem jw_lmul {x y : Int64} (hd : decode mi.2.1 pc = .ok (.lmul, 1)) (k : jW G mi d M0 (pc + 1) ls (.long (x * y) :: st) M P) : jW G mi d M0 pc ls (.long y :: .long x :: st) M P :=
  jW.s0 (fun p e s m args below meth c H locs la R cells slots Q C hR hS hl w => lv_lmul C.x C.b hd w) k
theorem jw_land {x y : Int64} (hd : decode mi.2.1 pc = .ok (.land, 1)) (k : jW G mi d M0 (pc + 1) ls (.long (x &&& y) :: st) M P) : jW G mi d M0 pc ls (.long y :: .long x :: st) M P :=
  jW.s0 (fun p e s m args below meth c H locs la R cells slots Q C hR hS hl w => lv_land C.x C.b hd w) k
theorem jw_lor {x y : Int64} (hd : decode mi.2.1 pc = .ok (.lor, 1)) (k : jW G mi d M0 (pc + 1) ls (.long (x ||| y) :: st) M P) : jW G mi d M0 pc ls (.long y :: .long x :: st) M P :=
  jW.s0 (fun p e s m args below meth c H locs la R cells slots Q C hR hS hl w => lv_lor C.x C.b hd w) k
theorem jw_lxor {x y : Int64} (hd : decode mi.2.1 pc = .ok (.lxor, 1)) (k : jW G mi d M0 (pc + 1) ls (.long (x ^^^ y) :: st) M P) : jW G mi d M0 pc ls (.long y :: .long x :: st) M P :=
  jW.s0 (fun p e s m args below meth c H locs la R cells slots Q C hR hS hl w => lv_lxor C.x C.b hd w) k
theorem jw_ldiv {x y : Int64} (hd : decode mi.2.1 pc = .ok (.ldiv, 1)) (hne : ¬ y = 0) (k : jW G mi d M0 (pc + 1) ls (.long (x / y) :: st) M P) : jW G mi d M0 pc ls (.long y :: .long x :: st) M P :=
  jW.s0 (fun p e s m args below meth c H locs la R cells slots Q C hR hS hl w => lv_ldiv C.x C.b hd hne w) k
theorem jw_lrem {x y : Int64} (hd : decode mi.2.1 pc = .ok (.lrem, 1)) (hne : ¬ y = 0) (k : jW G mi d M0 (pc + 1) ls (.long (x - x / y * y) :: st) M P) : jW G mi d M0 pc ls (.long y :: .long x :: st) M P :=
  jW.s0 (fun p e s m args below meth c H locs la R cells slots Q C hR hS hl w => lv_lrem C.x C.b hd hne w) k
theorem jw_lshl {x v : Int64} {y : Int32} (hd : decode mi.2.1 pc = .ok (.lshl, 1)) (hv : x <<< (y.toInt64 &&& 63) = v) (k : jW G mi d M0 (pc + 1) ls (.long v :: st) M P) : jW G mi d M0 pc ls (.int y :: .long x :: st) M P :=
  jW.s0 (fun p e s m args below meth c H locs la R cells slots Q C hR hS hl w => lv_lshl C.x C.b hd hv w) k
theorem jw_lcmp {x y : Int64} (hd : decode mi.2.1 pc = .ok (.lcmp, 1)) (k : jW G mi d M0 (pc + 1) ls (.int (lg_cmp x y) :: st) M P) : jW G mi d M0 pc ls (.long y :: .long x :: st) M P :=
  jW.s0 (fun p e s m args below meth c H locs la R cells slots Q C hR hS hl w => W.lcmp C.x C.b hd w) k
theorem jw_i2l {x : Int32} {v : Int64} (hd : decode mi.2.1 pc = .ok (.i2l, 1)) (hv : x.toInt64 = v) (k : jW G mi d M0 (pc + 1) ls (.long v :: st) M P) : jW G mi d M0 pc ls (.int x :: st) M P :=
  jW.s0 (fun p e s m args below meth c H locs la R cells slots Q C hR hS hl w => lv_i2l C.x C.b hd hv w) k
theorem jw_l2i {x : Int64} {v : Int32} (hd : decode mi.2.1 pc = .ok (.l2i, 1)) (hv : x.toInt32 = v) (k : jW G mi d M0 (pc + 1) ls (.int v :: st) M P) : jW G mi d M0 pc ls (.long x :: st) M P :=
  jW.s0 (fun p e s m args below meth c H locs la R cells slots Q C hR hS hl w => lv_l2i C.x C.b hd hv w) k
theorem jw_i2b {x v : Int32} (hd : decode mi.2.1 pc = .ok (.i2b, 1)) (hv : x.toInt8.toInt32 = v) (k : jW G mi d M0 (pc + 1) ls (.int v :: st) M P) : jW G mi d M0 pc ls (.int x :: st) M P :=
  jW.s0 (fun p e s m args below meth c H locs la R cells slots Q C hR hS hl w => lv_i2b C.x C.b hd hv w) k
theorem jw_i2c {x v : Int32} (hd : decode mi.2.1 pc = .ok (.i2c, 1)) (hv : (x.toUInt32 % 65536).toInt32 = v) (k : jW G mi d M0 (pc + 1) ls (.int v :: st) M P) : jW G mi d M0 pc ls (.int x :: st) M P :=
  jW.s0 (fun p e s m args below meth c H locs la R cells slots Q C hR hS hl w => lv_i2c C.x C.b hd hv w) k
theorem jw_dup {v : Value} (hd : decode mi.2.1 pc = .ok (.dup, 1)) (hc : jis2 v = false) (k : jW G mi d M0 (pc + 1) ls (v :: v :: st) M P) : jW G mi d M0 pc ls (v :: st) M P :=
  jW.s0 (fun p e s m args below meth c H locs la R cells slots Q C hR hS hl w => lv_dup C.x C.b hd (jcat1 G hc) w) k
theorem jw_pop {v : Value} (hd : decode mi.2.1 pc = .ok (.pop, 1)) (hc : jis2 v = false) (k : jW G mi d M0 (pc + 1) ls (st) M P) : jW G mi d M0 pc ls (v :: st) M P :=
  jW.s0 (fun p e s m args below meth c H locs la R cells slots Q C hR hS hl w => lv_pop C.x C.b hd (jcat1 G hc) w) k
theorem jw_dup2 {v w : Value} (hd : decode mi.2.1 pc = .ok (.dup2, 1)) (hc : jis2 v = false) (hc2 : jis2 w = false) (k : jW G mi d M0 (pc + 1) ls (v :: w :: v :: w :: st) M P) : jW G mi d M0 pc ls (v :: w :: st) M P :=
  jW.s0 (fun p e s m args below meth c H locs la R cells slots Q C hR hS hl w => lv_dup2_11 C.x C.b hd (jcat1 G hc) (jcat1 G hc2) w) k
theorem jw_dup_x1 {v w : Value} (hd : decode mi.2.1 pc = .ok (.dup_x1, 1)) (hc : jis2 v = false) (hc2 : jis2 w = false) (k : jW G mi d M0 (pc + 1) ls (v :: w :: v :: st) M P) : jW G mi d M0 pc ls (v :: w :: st) M P :=
  jW.s0 (fun p e s m args below meth c H locs la R cells slots Q C hR hS hl w => lv_dup_x1 C.x C.b hd (jcat1 G hc) (jcat1 G hc2) w) k
theorem jw_iload_n {kk : Fin 4} {x : Int32} (hd : decode mi.2.1 pc = .ok (.iload_n kk, 1)) (hl : jget ls kk.val = some (.int x)) (k : jW G mi d M0 (pc + 1) ls (.int x :: st) M P) : jW G mi d M0 pc ls (st) M P :=
  jW.s0 (fun p e s m args below meth c H locs la R cells slots Q C hR hS hl w => lv_iload_n C.x C.b hd rfl (hl.2.2 _ _ ‹jget ls kk.val = some (.int x)›) w) k
theorem jw_iload {i : Nat} {x : Int32} (hd : decode mi.2.1 pc = .ok (.iload i, 2)) (hl : jget ls i = some (.int x)) (k : jW G mi d M0 (pc + 2) ls (.int x :: st) M P) : jW G mi d M0 pc ls (st) M P :=
  jW.s0 (fun p e s m args below meth c H locs la R cells slots Q C hR hS hl w => lv_iload C.x C.b hd (hl.2.2 _ _ ‹jget ls i = some (.int x)›) w) k
theorem jw_lload_n {kk : Fin 4} {x : Int64} (hd : decode mi.2.1 pc = .ok (.lload_n kk, 1)) (hl : jget ls kk.val = some (.long x)) (k : jW G mi d M0 (pc + 1) ls (.long x :: st) M P) : jW G mi d M0 pc ls (st) M P :=
  jW.s0 (fun p e s m args below meth c H locs la R cells slots Q C hR hS hl w => lv_lload_n C.x C.b hd rfl (hl.2.2 _ _ ‹jget ls kk.val = some (.long x)›) w) k
theorem jw_lload {i : Nat} {x : Int64} (hd : decode mi.2.1 pc = .ok (.lload i, 2)) (hl : jget ls i = some (.long x)) (k : jW G mi d M0 (pc + 2) ls (.long x :: st) M P) : jW G mi d M0 pc ls (st) M P :=
  jW.s0 (fun p e s m args below meth c H locs la R cells slots Q C hR hS hl w => lv_lload C.x C.b hd (hl.2.2 _ _ ‹jget ls i = some (.long x)›) w) k
theorem jw_aload_n {kk : Fin 4} {o : Option Nat} (hd : decode mi.2.1 pc = .ok (.aload_n kk, 1)) (hl : jget ls kk.val = some (jr o)) (k : jW G mi d M0 (pc + 1) ls (jr o :: st) M P) : jW G mi d M0 pc ls st M P := by
  refine jW.s0 (fun p e s m args below meth c H locs la R cells slots Q C hR hS hl1 w => ?_) k
  have h := hl1.2.2 _ _ hl
  cases o with
  | none => exact lv_aload_nN C.x C.b hd rfl h w
  | some a => exact lv_aload_n C.x C.b hd rfl h w
theorem jw_aload {i : Nat} {o : Option Nat} (hd : decode mi.2.1 pc = .ok (.aload i, 2)) (hl : jget ls i = some (jr o)) (k : jW G mi d M0 (pc + 2) ls (jr o :: st) M P) : jW G mi d M0 pc ls st M P := by
  refine jW.s0 (fun p e s m args below meth c H locs la R cells slots Q C hR hS hl1 w => ?_) k
  have h := hl1.2.2 _ _ hl
  cases o with
  | none => exact lv_aloadN C.x C.b hd h w
  | some a => exact lv_aload C.x C.b hd h w
theorem jw_istore_n {kk : Fin 4} {x : Int32} (hd : decode mi.2.1 pc = .ok (.istore_n kk, 1)) (hn : kk.val < mi.2.2.1) {ls1 : List (Option Value)} (he : jput1 ls kk.val (.int x) = ls1) (k : jW G mi d M0 (pc + 1) ls1 st M P) : jW G mi d M0 pc ls (.int x :: st) M P := by
  subst he
  exact jW.s1 (fun p e s m args below meth c H locs la R cells slots Q C hR hS hl kk1 => lv_istore_n C.x C.b hd rfl hl.has hn rfl (fun la1 h1 => kk1 la1 (hl.put1 h1))) k
theorem jw_istore {i : Nat} {x : Int32} (hd : decode mi.2.1 pc = .ok (.istore i, 2)) (hn : i < mi.2.2.1) {ls1 : List (Option Value)} (he : jput1 ls i (.int x) = ls1) (k : jW G mi d M0 (pc + 2) ls1 st M P) : jW G mi d M0 pc ls (.int x :: st) M P := by
  subst he
  exact jW.s1 (fun p e s m args below meth c H locs la R cells slots Q C hR hS hl kk1 => lv_istore C.x C.b hd hl.has hn rfl (fun la1 h1 => kk1 la1 (hl.put1 h1))) k
theorem jw_lstore_n {kk : Fin 4} {x : Int64} (hd : decode mi.2.1 pc = .ok (.lstore_n kk, 1)) (hn : kk.val + 1 < mi.2.2.1) {ls1 : List (Option Value)} (he : jput2 ls kk.val (.long x) = ls1) (k : jW G mi d M0 (pc + 1) ls1 st M P) : jW G mi d M0 pc ls (.long x :: st) M P := by
  subst he
  exact jW.s1 (fun p e s m args below meth c H locs la R cells slots Q C hR hS hl kk1 => lv_lstore_n C.x C.b hd rfl hl.has hn rfl (fun la1 h1 => kk1 la1 (hl.put2 h1))) k
theorem jw_lstore {i : Nat} {x : Int64} (hd : decode mi.2.1 pc = .ok (.lstore i, 2)) (hn : i + 1 < mi.2.2.1) {ls1 : List (Option Value)} (he : jput2 ls i (.long x) = ls1) (k : jW G mi d M0 (pc + 2) ls1 st M P) : jW G mi d M0 pc ls (.long x :: st) M P := by
  subst he
  exact jW.s1 (fun p e s m args below meth c H locs la R cells slots Q C hR hS hl kk1 => lv_lstore C.x C.b hd hl.has hn rfl (fun la1 h1 => kk1 la1 (hl.put2 h1))) k
theorem jw_astore_n {kk : Fin 4} {o : Option Nat} (hd : decode mi.2.1 pc = .ok (.astore_n kk, 1)) (hn : kk.val < mi.2.2.1) {ls1 : List (Option Value)} (he : jput1 ls kk.val (jr o) = ls1) (k : jW G mi d M0 (pc + 1) ls1 st M P) : jW G mi d M0 pc ls (jr o :: st) M P := by
  subst he
  refine jW.s1 (fun p e s m args below meth c H locs la R cells slots Q C hR hS hl kk1 => ?_) k
  cases o with
  | none => exact lv_astore_nN C.x C.b hd rfl hl.has hn rfl (fun la1 h1 => kk1 la1 (hl.put1 h1))
  | some a => exact lv_astore_n C.x C.b hd rfl hl.has hn rfl (fun la1 h1 => kk1 la1 (hl.put1 h1))
theorem jw_astore {i : Nat} {o : Option Nat} (hd : decode mi.2.1 pc = .ok (.astore i, 2)) (hn : i < mi.2.2.1) {ls1 : List (Option Value)} (he : jput1 ls i (jr o) = ls1) (k : jW G mi d M0 (pc + 2) ls1 st M P) : jW G mi d M0 pc ls (jr o :: st) M P := by
  subst he
  refine jW.s1 (fun p e s m args below meth c H locs la R cells slots Q C hR hS hl kk1 => ?_) k
  cases o with
  | none => exact lv_astoreN C.x C.b hd hl.has hn rfl (fun la1 h1 => kk1 la1 (hl.put1 h1))
  | some a => exact lv_astore C.x C.b hd hl.has hn rfl (fun la1 h1 => kk1 la1 (hl.put1 h1))
theorem jw_iinc {i : Nat} {n : Int} {x v : Int32} (hd : decode mi.2.1 pc = .ok (.iinc i n, 3)) (hl : jget ls i = some (.int x)) (hv : x + Int32.ofInt n = v) {ls1 : List (Option Value)} (he : jput1 ls i (.int v) = ls1) (k : jW G mi d M0 (pc + 3) ls1 st M P) : jW G mi d M0 pc ls st M P := by
  subst he
  refine jW.s1 (fun p e s m args below meth c H locs la R cells slots Q C hR hS hl1 kk1 => ?_) k
  have hlt := hl1.lt hl
  obtain ⟨kk, hk⟩ := List.getElem?_of_mem (jprs_mem (q := (i, .int x)).mpr ⟨hlt, _, hl, rfl⟩)
  exact lv_iinc C.x C.b hd hl1.has hk hv hlt rfl (fun la1 h1 => kk1 la1 (hl1.put1 h1))
theorem jw_if_eq {x : Int32} {off : Int} {tgt : Nat} (hd : decode mi.2.1 pc = .ok (.ifCond .eq off, 3)) (ht : (pc : Int) + off = (tgt : Int)) (kt : x = 0 → jW G mi d M0 tgt ls st M P) (kf : ¬ x = 0 → jW G mi d M0 (pc + 3) ls st M P) : jW G mi d M0 pc ls (.int x :: st) M P := by
  by_cases h : x = 0
  · exact jW.s0 (fun p e s m args below meth c H locs la R cells slots Q C hR hS hl w => lv_if_eq C.x C.b hd ht (fun _ => w) (fun q => by first | exact absurd q h | exact absurd h q)) (kt h)
  · exact jW.s0 (fun p e s m args below meth c H locs la R cells slots Q C hR hS hl w => lv_if_eq C.x C.b hd ht (fun q => absurd q h) (fun _ => w)) (kf (by first | exact h | exact Decidable.of_not_not h))
theorem jw_if_ne {x : Int32} {off : Int} {tgt : Nat} (hd : decode mi.2.1 pc = .ok (.ifCond .ne off, 3)) (ht : (pc : Int) + off = (tgt : Int)) (kt : ¬ x = 0 → jW G mi d M0 tgt ls st M P) (kf : x = 0 → jW G mi d M0 (pc + 3) ls st M P) : jW G mi d M0 pc ls (.int x :: st) M P := by
  by_cases h : ¬ x = 0
  · exact jW.s0 (fun p e s m args below meth c H locs la R cells slots Q C hR hS hl w => lv_if_ne C.x C.b hd ht (fun _ => w) (fun q => by first | exact absurd q h | exact absurd h q)) (kt h)
  · exact jW.s0 (fun p e s m args below meth c H locs la R cells slots Q C hR hS hl w => lv_if_ne C.x C.b hd ht (fun q => absurd q h) (fun _ => w)) (kf (by first | exact h | exact Decidable.of_not_not h))
theorem jw_if_lt {x : Int32} {off : Int} {tgt : Nat} (hd : decode mi.2.1 pc = .ok (.ifCond .lt off, 3)) (ht : (pc : Int) + off = (tgt : Int)) (kt : x < 0 → jW G mi d M0 tgt ls st M P) (kf : ¬ x < 0 → jW G mi d M0 (pc + 3) ls st M P) : jW G mi d M0 pc ls (.int x :: st) M P := by
  by_cases h : x < 0
  · exact jW.s0 (fun p e s m args below meth c H locs la R cells slots Q C hR hS hl w => lv_if_lt C.x C.b hd ht (fun _ => w) (fun q => by first | exact absurd q h | exact absurd h q)) (kt h)
  · exact jW.s0 (fun p e s m args below meth c H locs la R cells slots Q C hR hS hl w => lv_if_lt C.x C.b hd ht (fun q => absurd q h) (fun _ => w)) (kf (by first | exact h | exact Decidable.of_not_not h))
theorem jw_if_ge {x : Int32} {off : Int} {tgt : Nat} (hd : decode mi.2.1 pc = .ok (.ifCond .ge off, 3)) (ht : (pc : Int) + off = (tgt : Int)) (kt : 0 ≤ x → jW G mi d M0 tgt ls st M P) (kf : ¬ 0 ≤ x → jW G mi d M0 (pc + 3) ls st M P) : jW G mi d M0 pc ls (.int x :: st) M P := by
  by_cases h : 0 ≤ x
  · exact jW.s0 (fun p e s m args below meth c H locs la R cells slots Q C hR hS hl w => lv_if_ge C.x C.b hd ht (fun _ => w) (fun q => by first | exact absurd q h | exact absurd h q)) (kt h)
  · exact jW.s0 (fun p e s m args below meth c H locs la R cells slots Q C hR hS hl w => lv_if_ge C.x C.b hd ht (fun q => absurd q h) (fun _ => w)) (kf (by first | exact h | exact Decidable.of_not_not h))
theorem jw_if_gt {x : Int32} {off : Int} {tgt : Nat} (hd : decode mi.2.1 pc = .ok (.ifCond .gt off, 3)) (ht : (pc : Int) + off = (tgt : Int)) (kt : 0 < x → jW G mi d M0 tgt ls st M P) (kf : ¬ 0 < x → jW G mi d M0 (pc + 3) ls st M P) : jW G mi d M0 pc ls (.int x :: st) M P := by
  by_cases h : 0 < x
  · exact jW.s0 (fun p e s m args below meth c H locs la R cells slots Q C hR hS hl w => lv_if_gt C.x C.b hd ht (fun _ => w) (fun q => by first | exact absurd q h | exact absurd h q)) (kt h)
  · exact jW.s0 (fun p e s m args below meth c H locs la R cells slots Q C hR hS hl w => lv_if_gt C.x C.b hd ht (fun q => absurd q h) (fun _ => w)) (kf (by first | exact h | exact Decidable.of_not_not h))
theorem jw_if_le {x : Int32} {off : Int} {tgt : Nat} (hd : decode mi.2.1 pc = .ok (.ifCond .le off, 3)) (ht : (pc : Int) + off = (tgt : Int)) (kt : x ≤ 0 → jW G mi d M0 tgt ls st M P) (kf : ¬ x ≤ 0 → jW G mi d M0 (pc + 3) ls st M P) : jW G mi d M0 pc ls (.int x :: st) M P := by
  by_cases h : x ≤ 0
  · exact jW.s0 (fun p e s m args below meth c H locs la R cells slots Q C hR hS hl w => lv_if_le C.x C.b hd ht (fun _ => w) (fun q => by first | exact absurd q h | exact absurd h q)) (kt h)
  · exact jW.s0 (fun p e s m args below meth c H locs la R cells slots Q C hR hS hl w => lv_if_le C.x C.b hd ht (fun q => absurd q h) (fun _ => w)) (kf (by first | exact h | exact Decidable.of_not_not h))
theorem jw_icmp_eq {x y : Int32} {off : Int} {tgt : Nat} (hd : decode mi.2.1 pc = .ok (.if_icmp .eq off, 3)) (ht : (pc : Int) + off = (tgt : Int)) (kt : x = y → jW G mi d M0 tgt ls st M P) (kf : ¬ x = y → jW G mi d M0 (pc + 3) ls st M P) : jW G mi d M0 pc ls (.int y :: .int x :: st) M P := by
  by_cases h : x = y
  · exact jW.s0 (fun p e s m args below meth c H locs la R cells slots Q C hR hS hl w => lv_icmp_eq C.x C.b hd ht (fun _ => w) (fun q => by first | exact absurd q h | exact absurd h q)) (kt h)
  · exact jW.s0 (fun p e s m args below meth c H locs la R cells slots Q C hR hS hl w => lv_icmp_eq C.x C.b hd ht (fun q => absurd q h) (fun _ => w)) (kf (by first | exact h | exact Decidable.of_not_not h))
theorem jw_icmp_ne {x y : Int32} {off : Int} {tgt : Nat} (hd : decode mi.2.1 pc = .ok (.if_icmp .ne off, 3)) (ht : (pc : Int) + off = (tgt : Int)) (kt : ¬ x = y → jW G mi d M0 tgt ls st M P) (kf : x = y → jW G mi d M0 (pc + 3) ls st M P) : jW G mi d M0 pc ls (.int y :: .int x :: st) M P := by
  by_cases h : ¬ x = y
  · exact jW.s0 (fun p e s m args below meth c H locs la R cells slots Q C hR hS hl w => lv_icmp_ne C.x C.b hd ht (fun _ => w) (fun q => by first | exact absurd q h | exact absurd h q)) (kt h)
  · exact jW.s0 (fun p e s m args below meth c H locs la R cells slots Q C hR hS hl w => lv_icmp_ne C.x C.b hd ht (fun q => absurd q h) (fun _ => w)) (kf (by first | exact h | exact Decidable.of_not_not h))
theorem jw_icmp_lt {x y : Int32} {off : Int} {tgt : Nat} (hd : decode mi.2.1 pc = .ok (.if_icmp .lt off, 3)) (ht : (pc : Int) + off = (tgt : Int)) (kt : x < y → jW G mi d M0 tgt ls st M P) (kf : ¬ x < y → jW G mi d M0 (pc + 3) ls st M P) : jW G mi d M0 pc ls (.int y :: .int x :: st) M P := by
  by_cases h : x < y
  · exact jW.s0 (fun p e s m args below meth c H locs la R cells slots Q C hR hS hl w => lv_icmp_lt C.x C.b hd ht (fun _ => w) (fun q => by first | exact absurd q h | exact absurd h q)) (kt h)
  · exact jW.s0 (fun p e s m args below meth c H locs la R cells slots Q C hR hS hl w => lv_icmp_lt C.x C.b hd ht (fun q => absurd q h) (fun _ => w)) (kf (by first | exact h | exact Decidable.of_not_not h))
theorem jw_icmp_ge {x y : Int32} {off : Int} {tgt : Nat} (hd : decode mi.2.1 pc = .ok (.if_icmp .ge off, 3)) (ht : (pc : Int) + off = (tgt : Int)) (kt : y ≤ x → jW G mi d M0 tgt ls st M P) (kf : ¬ y ≤ x → jW G mi d M0 (pc + 3) ls st M P) : jW G mi d M0 pc ls (.int y :: .int x :: st) M P := by
  by_cases h : y ≤ x
  · exact jW.s0 (fun p e s m args below meth c H locs la R cells slots Q C hR hS hl w => lv_icmp_ge C.x C.b hd ht (fun _ => w) (fun q => by first | exact absurd q h | exact absurd h q)) (kt h)
  · exact jW.s0 (fun p e s m args below meth c H locs la R cells slots Q C hR hS hl w => lv_icmp_ge C.x C.b hd ht (fun q => absurd q h) (fun _ => w)) (kf (by first | exact h | exact Decidable.of_not_not h))
theorem jw_icmp_gt {x y : Int32} {off : Int} {tgt : Nat} (hd : decode mi.2.1 pc = .ok (.if_icmp .gt off, 3)) (ht : (pc : Int) + off = (tgt : Int)) (kt : y < x → jW G mi d M0 tgt ls st M P) (kf : ¬ y < x → jW G mi d M0 (pc + 3) ls st M P) : jW G mi d M0 pc ls (.int y :: .int x :: st) M P := by
  by_cases h : y < x
  · exact jW.s0 (fun p e s m args below meth c H locs la R cells slots Q C hR hS hl w => lv_icmp_gt C.x C.b hd ht (fun _ => w) (fun q => by first | exact absurd q h | exact absurd h q)) (kt h)
  · exact jW.s0 (fun p e s m args below meth c H locs la R cells slots Q C hR hS hl w => lv_icmp_gt C.x C.b hd ht (fun q => absurd q h) (fun _ => w)) (kf (by first | exact h | exact Decidable.of_not_not h))
theorem jw_icmp_le {x y : Int32} {off : Int} {tgt : Nat} (hd : decode mi.2.1 pc = .ok (.if_icmp .le off, 3)) (ht : (pc : Int) + off = (tgt : Int)) (kt : x ≤ y → jW G mi d M0 tgt ls st M P) (kf : ¬ x ≤ y → jW G mi d M0 (pc + 3) ls st M P) : jW G mi d M0 pc ls (.int y :: .int x :: st) M P := by
  by_cases h : x ≤ y
  · exact jW.s0 (fun p e s m args below meth c H locs la R cells slots Q C hR hS hl w => lv_icmp_le C.x C.b hd ht (fun _ => w) (fun q => by first | exact absurd q h | exact absurd h q)) (kt h)
  · exact jW.s0 (fun p e s m args below meth c H locs la R cells slots Q C hR hS hl w => lv_icmp_le C.x C.b hd ht (fun q => absurd q h) (fun _ => w)) (kf (by first | exact h | exact Decidable.of_not_not h))
theorem jw_goto {off : Int} {tgt : Nat} (hd : decode mi.2.1 pc = .ok (.goto off, 3)) (ht : (pc : Int) + off = (tgt : Int)) (k : jW G mi d M0 tgt ls st M P) : jW G mi d M0 pc ls st M P :=
  jW.s0 (fun p e s m args below meth c H locs la R cells slots Q C hR hS hl w => lv_goto C.x C.b hd ht w) k
theorem jw_ifnull {o : Option Nat} {off : Int} {tgt : Nat} (hd : decode mi.2.1 pc = .ok (.ifnull off, 3)) (ht : (pc : Int) + off = (tgt : Int)) (kt : o = none → jW G mi d M0 tgt ls st M P) (kf : ∀ a, o = some a → jW G mi d M0 (pc + 3) ls st M P) : jW G mi d M0 pc ls (jr o :: st) M P := by
  cases o with
  | none => exact jW.s0 (fun p e s m args below meth c H locs la R cells slots Q C hR hS hl w => lv_ifnullN C.x C.b hd ht w) (kt rfl)
  | some a => exact jW.s0 (fun p e s m args below meth c H locs la R cells slots Q C hR hS hl w => lv_ifnull C.x C.b hd w) (kf a rfl)
theorem jw_ifnonnull {o : Option Nat} {off : Int} {tgt : Nat} (hd : decode mi.2.1 pc = .ok (.ifnonnull off, 3)) (ht : (pc : Int) + off = (tgt : Int)) (kt : ∀ a, o = some a → jW G mi d M0 tgt ls st M P) (kf : o = none → jW G mi d M0 (pc + 3) ls st M P) : jW G mi d M0 pc ls (jr o :: st) M P := by
  cases o with
  | none => exact jW.s0 (fun p e s m args below meth c H locs la R cells slots Q C hR hS hl w => lv_ifnonnullN C.x C.b hd w) (kf rfl)
  | some a => exact jW.s0 (fun p e s m args below meth c H locs la R cells slots Q C hR hS hl w => lv_ifnonnull C.x C.b hd ht w) (kt a rfl)
/-- two references that are plainly apart (one of them made here) or the same -/
theorem jw_acmp_ne {a b : Nat} {off : Int} {tgt : Nat} (hd : decode mi.2.1 pc = .ok (.if_acmp .ne off, 3)) (ht : (pc : Int) + off = (tgt : Int)) (ha : 1 ≤ jm_K M a) (hb : 1 ≤ jm_K M b) (h64 : 64 ≤ a ∨ 64 ≤ b) (kt : ¬ a = b → jW G mi d M0 tgt ls st M P) (kf : a = b → jW G mi d M0 (pc + 3) ls st M P) : jW G mi d M0 pc ls (jr (some b) :: jr (some a) :: st) M P := by
  by_cases h : a = b
  · exact jW.s0 (fun p e s m args below meth c H locs la R cells slots Q C hR hS hl w => lv_acmp_ne (rx := some (je G a)) (ry := some (je G b)) C.x C.b hd ht (fun q => absurd (by rw [h]) q) (fun _ => w)) (kf h)
  · refine jW.s0 (fun p e s m args below meth c H locs la R cells slots Q C hR hS hl w => lv_acmp_ne (rx := some (je G a)) (ry := some (je G b)) C.x C.b hd ht (fun _ => w) (fun q => ?_)) (kt h)
    have q := Option.some.inj q
    rcases h64 with h1 | h1
    · exact absurd q.symm (je_ne hR hb h1 (Ne.symm h))
    · exact absurd q (je_ne hR ha h1 h)
theorem jw_tableIn {dflt lo hi : Int} {offs : Array Int} {len : Nat} {x : Int32} {off : Int} {tgt : Nat} (hd : decode mi.2.1 pc = .ok (.tableswitch dflt lo hi offs, len)) (h1 : ¬ x.toInt < lo) (h2 : ¬ hi < x.toInt) (ho : offs[(x.toInt - lo).toNat]? = some off) (ht : (pc : Int) + off = (tgt : Int)) (k : jW G mi d M0 tgt ls st M P) : jW G mi d M0 pc ls (.int x :: st) M P :=
  jW.s0 (fun p e s m args below meth c H locs la R cells slots Q C hR hS hl w => lv_tableIn C.x C.b hd h1 h2 ho ht w) k
theorem jw_tableOut {dflt lo hi : Int} {offs : Array Int} {len : Nat} {x : Int32} {tgt : Nat} (hd : decode mi.2.1 pc = .ok (.tableswitch dflt lo hi offs, len)) (h : x.toInt < lo ∨ hi < x.toInt) (ht : (pc : Int) + dflt = (tgt : Int)) (k : jW G mi d M0 tgt ls st M P) : jW G mi d M0 pc ls (.int x :: st) M P :=
  jW.s0 (fun p e s m args below meth c H locs la R cells slots Q C hR hS hl w => lv_tableOut C.x C.b hd h ht w) k
theorem jw_lookup {dflt : Int} {ps : Array (Int × Int)} {len : Nat} {x : Int32} {off : Int} {tgt : Nat} (hd : decode mi.2.1 pc = .ok (.lookupswitch dflt ps, len)) (hp : (ps.toList.zip (ps.toList.drop 1)).all (fun (a, next) => a.1 < next.1) = true) (ho : Op.lookupswitch.offset ps.toList dflt x.toInt = off) (ht : (pc : Int) + off = (tgt : Int)) (k : jW G mi d M0 tgt ls st M P) : jW G mi d M0 pc ls (.int x :: st) M P :=
  jW.s0 (fun p e s m args below meth c H locs la R cells slots Q C hR hS hl w => lv_lookup C.x C.b hd hp ho ht w) k
theorem jw_ldc {own : String} {idx : Nat} {v w : Int32} (hq : Cond.constant own idx v ∈ lw_all) (ho : own = mi.1.cls) (hv : v = w) (hd : decode mi.2.1 pc = .ok (.ldc idx, 2)) (k : jW G mi d M0 (pc + 2) ls (.int w :: st) M P) : jW G mi d M0 pc ls st M P := by
  subst ho; subst hv
  exact jW.s0 (fun p e s m args below meth c H locs la R cells slots Q C hR hS hl w => lv_ldc C.x C.b C.own (C.ts _ hq) hd w) k
theorem jw_ldcw {own : String} {idx : Nat} {v w : Int32} (hq : Cond.constant own idx v ∈ lw_all) (ho : own = mi.1.cls) (hv : v = w) (hd : decode mi.2.1 pc = .ok (.ldc_w idx, 3)) (k : jW G mi d M0 (pc + 3) ls (.int w :: st) M P) : jW G mi d M0 pc ls st M P := by
  subst ho; subst hv
  exact jW.s0 (fun p e s m args below meth c H locs la R cells slots Q C hR hS hl w => lv_ldcw C.x C.b C.own (C.ts _ hq) hd w) k
theorem jw_ldc2 {own : String} {idx : Nat} {v : Int64} (hq : Cond.constantLong own idx v ∈ lw_all) (ho : own = mi.1.cls) (hd : decode mi.2.1 pc = .ok (.ldc2_w idx, 3)) (k : jW G mi d M0 (pc + 3) ls (.long v :: st) M P) : jW G mi d M0 pc ls st M P := by
  subst ho
  exact jW.s0 (fun p e s m args below meth c H locs la R cells slots Q C hR hS hl w => lv_ldc2 C.x C.b C.own (C.ts _ hq) hd w) k
theorem jw_ldcs {own tx : String} {idx a : Nat} (hq : (own, idx, tx, a) ∈ jstr) (ho : own = mi.1.cls) (ha : a < 64) (hd : decode mi.2.1 pc = .ok (.ldc idx, 2)) (k : jW G mi d M0 (pc + 2) ls (jr (some a) :: st) M P) : jW G mi d M0 pc ls st M P := by
  subst ho
  refine jW.s0 (fun p e s m args below meth c H locs la R cells slots Q C hR hS hl w => va_ldcS C.x C.b C.own (C.kn.2.2.2.1 _ hq) hd ?_) k
  have e1 : je G a = jg_c G a := by unfold je; rw [if_pos ha]
  rw [List.map_cons, jv_s, e1] at w
  exact w
theorem jw_ldcsW {own tx : String} {idx a : Nat} (hq : (own, idx, tx, a) ∈ jstr) (ho : own = mi.1.cls) (ha : a < 64) (hd : decode mi.2.1 pc = .ok (.ldc_w idx, 3)) (k : jW G mi d M0 (pc + 3) ls (jr (some a) :: st) M P) : jW G mi d M0 pc ls st M P := by
  subst ho
  refine jW.s0 (fun p e s m args below meth c H locs la R cells slots Q C hR hS hl w => ?_) k
  have e1 : je G a = jg_c G a := by unfold je; rw [if_pos ha]
  rw [List.map_cons, jv_s, e1] at w
  have hz := C.kn.2.2.2.1 _ hq
  intro T hT X
  obtain ⟨t, a1, b1⟩ := w T hT X
  exact ⟨t, X.ldcStringW C.x C.own (text := tx) (a := jg_c G a) hz.1 hz.2 (g := F0 m pc la (st.map (jv G))) rfl (by rw [C.b]; exact hd) t a1, b1⟩
/-! fields -/
theorem jlink {own : String} {c k idx : Nat} {C : String} {T : u_T} {N : Nat} {ty : Nat → FieldType} (hc : jCl c C T N ty) (hk : k < N) {s : State} (hK : jKn G s) : ∃ (cf : Nat) (kf : Class) (fi : Nat) (f : Field), s.fieldFound? (T k).1 (T k).2.1 (T k).2.2.1 = some (cf, kf, fi, f) ∧ f.slot = (jg_D G).2 c k := by
  obtain ⟨hS, -⟩ := hK.1 c _ hc.1
  obtain ⟨cf, kf, fi, f, hi, hsl⟩ := hS k hk
  exact ⟨cf, kf, fi, f, hi, hsl⟩
theorem jsame {ref : String} {T : u_T} {k : Nat} {s : State} {args : Array Value} (hts : ∀ w ∈ lw_all, w.before args s = true) (h : ref = (T k).1 ∨ Cond.sameField ref (T k).1 (T k).2.1 (T k).2.2.1 ∈ lw_all) : ∀ x, s.fieldFound? (T k).1 (T k).2.1 (T k).2.2.1 = some x → s.fieldFound? ref (T k).2.1 (T k).2.2.1 = some x := by
  intro x hx
  rcases h with h | h
  · rw [h]; exact hx
  · exact u_same (hts _ h) x hx
theorem jmap_stack (v : Value) (st : List Value) : (v :: st).map (jv G) = jv G v :: st.map (jv G) := rfl
/-- getfield -/
theorem jw_get {own : String} {idx c kk : Nat} (hf : jFr own idx c kk) (ho : own = mi.1.cls) (hd : decode mi.2.1 pc = .ok (.getfield idx, 3)) {q : Nat × Nat} (hq : (jlay.getD c [])[kk]? = some q) {o : Option Nat} {a : Nat} (hoa : o = some a) (hK : jm_K M a = c + 1) (hlt : c < 99) (haz : a < jm_Z M) (k : jW G mi d M0 (pc + 3) ls (jfv M a q :: st) M P) : jW G mi d M0 pc ls (jr o :: st) M P := by
  subst hoa; subst ho
  obtain ⟨C, T, N, ty, ref, hc, hkN, hlk, hsm⟩ := hf
  refine jW.s0 (fun p e s m args below meth c1 H locs la R cells slots Q X hR hS hl w => ?_) k
  obtain ⟨cf, kf, fi, f, hi, hsl⟩ := jlink (own := mi.1.cls) (idx := idx) hc hkN X.kn
  have hS1 := X.kn.1 c _ hc.1
  obtain ⟨-, hfc, kC, hkC, hkind⟩ := hS1
  have hst := (u_facts hfc hkC (u_lays X.ts hc.2.1 hkN) hi).1
  obtain ⟨r, cell, g1, g2, g3, g4, g5, g6, g7⟩ := (hR.2.2.2.2 a haz).1 (by omega) (by omega)
  have hKc : jm_K M a - 1 = c := by omega
  rw [hKc] at g1 g3 g7
  have hv := g7 kk q hq
  rw [← hsl] at hv
  rcases hlk with h1 | ⟨host, h1⟩
  · exact W.getf X.x X.b X.own (X.ts _ h1) (jsame X.ts hsm _ hi) hst g2 g5 hv rfl rfl hd w
  · exact va_Wgetf X.x X.b X.own (va_Nw.use rfl (X.kn.2.2.2.2.1 _ h1 rfl)) (jsame X.ts hsm _ hi) hst g2 g5 hv rfl rfl hd w
theorem jw_getI {own : String} {idx c kk key : Nat} (hf : jFr own idx c kk) (ho : own = mi.1.cls) (hd : decode mi.2.1 pc = .ok (.getfield idx, 3)) (hq : (jlay.getD c [])[kk]? = some (key, 0)) {o : Option Nat} {a : Nat} (hoa : o = some a) (hK : jm_K M a = c + 1) (hlt : c < 99) (haz : a < jm_Z M) (k : jW G mi d M0 (pc + 3) ls (.int (jm_I M a key) :: st) M P) : jW G mi d M0 pc ls (jr o :: st) M P := jw_get hf ho hd hq hoa hK hlt haz k
theorem jw_getL {own : String} {idx c kk key : Nat} (hf : jFr own idx c kk) (ho : own = mi.1.cls) (hd : decode mi.2.1 pc = .ok (.getfield idx, 3)) (hq : (jlay.getD c [])[kk]? = some (key, 1)) {o : Option Nat} {a : Nat} (hoa : o = some a) (hK : jm_K M a = c + 1) (hlt : c < 99) (haz : a < jm_Z M) (k : jW G mi d M0 (pc + 3) ls (.long (jm_L M a key) :: st) M P) : jW G mi d M0 pc ls (jr o :: st) M P := jw_get hf ho hd hq hoa hK hlt haz k
theorem jw_getR {own : String} {idx c kk key : Nat} (hf : jFr own idx c kk) (ho : own = mi.1.cls) (hd : decode mi.2.1 pc = .ok (.getfield idx, 3)) (hq : (jlay.getD c [])[kk]? = some (key, 2)) {o : Option Nat} {a : Nat} (hoa : o = some a) (hK : jm_K M a = c + 1) (hlt : c < 99) (haz : a < jm_Z M) (k : jW G mi d M0 (pc + 3) ls (jr (jm_R M a key) :: st) M P) : jW G mi d M0 pc ls (jr o :: st) M P := jw_get hf ho hd hq hoa hK hlt haz k
def jdesc (c k : Nat) : String := match jcls[c]? with
  | some (_, T, _) => (T k).2.2.1
  | none => ""
theorem jdesc_eq {c k : Nat} {C : String} {T : u_T} {N : Nat} (h : jcls[c]? = some (C, T, N)) : jdesc c k = (T k).2.2.1 := by unfold jdesc; rw [h]
theorem lay_keys {c : Nat} {C : String} {T : u_T} {N : Nat} {ty : Nat → FieldType} (hc : jCl c C T N ty) {k j : Nat} {q q1 : Nat × Nat} (h1 : (jlay.getD c [])[k]? = some q) (h2 : (jlay.getD c [])[j]? = some q1) (hne : j ≠ k) : q1.1 ≠ q.1 := by
  obtain ⟨-, -, -, -, hl, -, hap⟩ := hc
  have a1 := (List.getElem?_eq_some_iff.mp h1).1
  have a2 := (List.getElem?_eq_some_iff.mp h2).1
  have e1 : (jlay.getD c []).getD k (0, 9) = q := by rw [List.getD_eq_getElem?_getD, h1]; rfl
  have e2 : (jlay.getD c []).getD j (0, 9) = q1 := by rw [List.getD_eq_getElem?_getD, h2]; rfl
  have := hap j (by omega) k (by omega) hne
  rw [e1, e2] at this
  exact this
/-- what a written field leaves: the other fields, and the new one -/
theorem jobj_put {c kk : Nat} {C : String} {T : u_T} {N : Nat} {ty : Nat → FieldType} (hc : jCl c C T N ty) {s : State} {args : Array Value} {mcls : ClassId} {own : String} (hts : ∀ w ∈ lw_all, w.before args s = true) (hKn : jKn G s) {a : Nat} {v : Value} {cell : Cell} {H1 : Heap} {M1 : Mm} {q : Nat × Nat} (hq : (jlay.getD c [])[kk]? = some q) (hkN : kk < N) (hK : jm_K M a = c + 1) (hK1 : jm_K M1 a = c + 1) (hlt : c < 99)
    (g3 : cell.cls = (jg_D G).1 c) (g4 : cell.vm.isStatics = false) (g5 : cell.vm ≠ .unknown) (g6 : 64 ≤ a → cell.vm = .none) (g7 : ∀ (k : Nat) (q : Nat × Nat), (jlay.getD c [])[k]? = some q → cell.slots[(jg_D G).2 c k]? = some (jv G (jfv M a q)))
    (e1 : H1[je G a]? = some (cell.setSlot ((jg_D G).2 c kk) (jv G v))) (hv : jfv M1 a q = v) (ho : ∀ q1 : Nat × Nat, q1.1 ≠ q.1 → jfv M1 a q1 = jfv M a q1) : jcell G M1 a H1 := by
  refine ⟨fun _ _ => ?_, fun h => by omega⟩
  have hKc : jm_K M1 a - 1 = c := by omega
  unfold jobj
  rw [hKc]
  refine ⟨_, _, hc.1, e1, g3, g4, g5, g6, fun j q1 hj => ?_⟩
  by_cases hjk : j = kk
  · subst hjk
    rw [hq] at hj
    cases hj
    rw [Cell.slots_setSlot_self _ (k2_hasslot (g7 j q hq)), hv]
  · have hjN : j < N := by
      have := (List.getElem?_eq_some_iff.mp hj).1
      rw [hc.2.2.2.2.1] at this
      exact this
    have hap := va_apart (D := jg_D G) (cl := jcls) (tys := []) (own := own) (ty := ty) hts hc.2.1 hc.2.2.1 hc.2.2.2.1 ⟨hKn.1, fun k q h => by cases h⟩ hc.1
    rw [slot_ne _ _ (hap kk j hkN hjN (Ne.symm hjk)), g7 j q1 hj, ho q1 (lay_keys hc hq hj hjk)]
/-- putfield, of a field that isn't final -/
theorem jw_put {own : String} {idx c kk : Nat} (hf : jFl own idx c kk false) (ho : own = mi.1.cls) (hd : decode mi.2.1 pc = .ok (.putfield idx, 3)) {q : Nat × Nat} (hq : (jlay.getD c [])[kk]? = some q) {ds : String} {ty : FieldType} {v : Value} (hds : jdesc c kk = ds) (hty : parseFieldDescriptor ds = some ty) (hn : narrow ty (jv G v) = jv G v) (hfit : fits ty (jv G v) = true) {o : Option Nat} {a : Nat} (hoa : o = some a) (h64 : 64 ≤ a) (hK : jm_K M a = c + 1) (hlt : c < 99) (haz : a < jm_Z M)
    {M1 : Mm} (hZ : jm_Z M1 = jm_Z M) (hSl : jm_S M1 = jm_S M) (hK1 : jm_K M1 a = jm_K M a) (hal : ∀ b, b ≠ a → jal M M1 b) (hv : jfv M1 a q = v) (hov : ∀ q1 : Nat × Nat, q1.1 ≠ q.1 → jfv M1 a q1 = jfv M a q1) (k : jW G mi d M0 (pc + 3) ls st M1 P) : jW G mi d M0 pc ls (v :: jr o :: st) M P := by
  subst hoa; subst ho
  obtain ⟨C, T, N, ty0, ref, hc, hkN, hfin, hlk, hsm, -⟩ := hf
  refine jW.go ⟨by omega, by omega⟩ (fun p e s m args below meth c1 H locs la M' Q X hR hS hl hle hle' kk1 => ?_) k
  rw [jdesc_eq hc.1] at hds
  rw [← hds] at hty
  obtain ⟨cf, kf, fi, f, hi, hsl⟩ := jlink (own := mi.1.cls) (idx := idx) hc hkN X.kn
  obtain ⟨-, hfc, kC, hkC, hkind⟩ := X.kn.1 c _ hc.1
  have hst := (u_facts hfc hkC (u_lays X.ts hc.2.1 hkN) hi).1
  have hlay := X.ts _ (hc.2.1 _ (u_in_lay hkN))
  unfold u_lay at hlay
  rw [if_neg (by rw [hfin]; decide)] at hlay
  have h6 := u_store hfc hkC hkind hlay hi hty hn hfit
  obtain ⟨r, cell, g1, g2, g3, g4, g5, g6, g7⟩ := (hR.2.2.2.2 a haz).1 (by omega) (by omega)
  have hKc : jm_K M a - 1 = c := by omega
  rw [hKc] at g1 g3 g7
  have fin : ∀ H' : Heap, H'[je G a]? = some (cell.setSlot f.slot (jv G v)) → H'.size = H.size → (∀ q, q ≠ je G a → H'[q]? = H[q]?) → W p (jg_l G) e (jrm d M0 M') s m args below meth c1 H' (locs ++ [⟨je G a, f.slot⟩]) (jm_Z M - jm_Z M0) (jm_S M - jm_S M0) Q { F0 m pc la ((v :: jr (some a) :: st).map (jv G)) with pc := pc + 3, stack := st.map (jv G) } := by
    intro H' e1 e2 e3
    rw [hsl] at e1
    have hc1 : jcell G M1 a H' := jobj_put (own := mi.1.cls) (mcls := m.cls) hc X.ts X.kn hq hkN hK (by omega) hlt g3 g4 g5 g6 g7 e1 hv hov
    have := kk1 H' (locs ++ [⟨je G a, f.slot⟩]) la (hR.set h64 e2 e3 hZ hal hc1) (hS.put e2 e3 (je_ge h64)) hl
    rw [hZ, hSl] at this
    exact this
  rcases hlk with h1 | ⟨-, host, h1⟩
  · exact W.putK X.x X.b (f := f) ⟨X.own, X.ts _ h1, ⟨_, _, _, jsame X.ts hsm _ hi⟩, hst⟩ (by rw [g3]; exact h6) g2 (g6 h64) (by rw [hsl]; exact k2_hasslot (g7 kk q hq)) rfl rfl hd fin
  · exact va_WputK X.x X.b X.own (va_Nw.use rfl (X.kn.2.2.2.2.1 _ h1 rfl)) (jsame X.ts hsm _ hi) hst (by rw [g3]; exact h6) g2 (g6 h64) (by rw [hsl]; exact k2_hasslot (g7 kk q hq)) rfl rfl hd fin
/-- .. of a final one, in the constructor of its declarer -/
theorem jw_putF {own : String} {idx c kk : Nat} (hf : jFl own idx c kk true) (ho : own = mi.1.cls) (hnm : mi.1.name = "<init>") (hd : decode mi.2.1 pc = .ok (.putfield idx, 3)) {q : Nat × Nat} (hq : (jlay.getD c [])[kk]? = some q) {ds : String} {ty : FieldType} {v : Value} (hds : jdesc c kk = ds) (hty : parseFieldDescriptor ds = some ty) (hn : narrow ty (jv G v) = jv G v) (hfit : fits ty (jv G v) = true) {o : Option Nat} {a : Nat} (hoa : o = some a) (h64 : 64 ≤ a) (hK : jm_K M a = c + 1) (hlt : c < 99) (haz : a < jm_Z M)
    {M1 : Mm} (hZ : jm_Z M1 = jm_Z M) (hSl : jm_S M1 = jm_S M) (hK1 : jm_K M1 a = jm_K M a) (hal : ∀ b, b ≠ a → jal M M1 b) (hv : jfv M1 a q = v) (hov : ∀ q1 : Nat × Nat, q1.1 ≠ q.1 → jfv M1 a q1 = jfv M a q1) (k : jW G mi d M0 (pc + 3) ls st M1 P) : jW G mi d M0 pc ls (v :: jr o :: st) M P := by
  subst hoa; subst ho
  obtain ⟨C, T, N, ty0, ref, hc, hkN, hfin, hlk, hsm, hdecl⟩ := hf
  refine jW.go ⟨by omega, by omega⟩ (fun p e s m args below meth c1 H locs la M' Q X hR hS hl hle hle' kk1 => ?_) k
  rw [jdesc_eq hc.1] at hds
  rw [← hds] at hty
  obtain ⟨cf, kf, fi, f, hi, hsl⟩ := jlink (own := mi.1.cls) (idx := idx) hc hkN X.kn
  obtain ⟨-, hfc, kC, hkC, hkind⟩ := X.kn.1 c _ hc.1
  have hst := (u_facts hfc hkC (u_lays X.ts hc.2.1 hkN) hi).1
  have hlay := X.ts _ (hc.2.1 _ (u_in_lay hkN))
  unfold u_lay at hlay
  rw [if_pos hfin] at hlay
  have hcf : m.cls = cf := by
    obtain ⟨_, _, c', _, _, _, -, -, hf', -, -, -, hown2, -⟩ := Cond.laysFinal_spec hlay
    have e1 : c' = cf := by have := hi.symm.trans hf'; simp at this; exact this.1.symm
    rw [hdecl rfl] at hown2
    have := X.own.symm.trans hown2
    simp at this
    rw [this, e1]
  have h6 := u_fits hfc hkC hkind (Or.inr hlay) hi hty hn hfit
  obtain ⟨r, cell, g1, g2, g3, g4, g5, g6, g7⟩ := (hR.2.2.2.2 a haz).1 (by omega) (by omega)
  have hKc : jm_K M a - 1 = c := by omega
  rw [hKc] at g1 g3 g7
  rcases hlk with h1 | ⟨hz, -⟩
  · refine W.putFinK X.x X.b (f := f) X.own (X.ts _ h1) (jsame X.ts hsm _ hi) hst hcf (by rw [X.nm]; exact hnm) (by rw [g3]; exact h6) g2 (g6 h64) (by rw [hsl]; exact k2_hasslot (g7 kk q hq)) rfl rfl hd fun H' e1 e2 e3 => ?_
    rw [hsl] at e1
    have hc1 : jcell G M1 a H' := jobj_put (own := mi.1.cls) (mcls := m.cls) hc X.ts X.kn hq hkN hK (by omega) hlt g3 g4 g5 g6 g7 e1 hv hov
    have := kk1 H' (locs ++ [⟨je G a, f.slot⟩]) la (hR.set h64 e2 e3 hZ hal hc1) (hS.put e2 e3 (je_ge h64)) hl
    rw [hZ, hSl] at this
    exact this
  · cases hz
end JR
section JA
variable {G : Gh} {mi : Mi} {d : Nat} {M0 : Mm} {pc : Nat} {ls : List (Option Value)} {st : List Value} {M : Mm} {P : Rs → Mm → Prop}
theorem jarrOf {s : State} (hK : jKn G s) {a t : Nat} {ty : FieldType} (hKa : jm_K M a = 100 + t) (ht : jtys[t]? = some ty) (hc : a < 64 → jck a = some t) {cell : Cell} (h2 : cell.cls = jac G M a) (h3 : ∀ k, cell.vm ≠ .statics k) : s.isArrayOf cell ty := by
  have hA : ArrOfT s (jac G M a) ty := by
    unfold jac
    split
    · exact hK.2.2.1 a t ty (by assumption) (hc (by assumption)) ht
    · rw [hKa, Nat.add_sub_cancel_left]
      exact (hK.2.1 t ty ht).1
  obtain ⟨-, k, hk, comp, hkind⟩ := hA 0 (fun _ => .null)
  exact ⟨h3, k, by rw [h2]; exact hk, comp, hkind⟩
theorem jidx {n N : Nat} {i : Int32} {sz : Nat} (hi : i = nI n) (hn : n < N) (hN : N < 2 ^ 31) (hz : N ≤ sz) : ¬ (i < 0 ∨ sz ≤ i.toNatClampNeg) ∧ i.toNatClampNeg = n := by
  subst hi
  have hc : (nI n).toNatClampNeg = n := nI_clamp (by omega)
  refine ⟨fun h => ?_, hc⟩
  rcases h with h | h
  · exact nI_pos (by omega) h
  · rw [hc] at h; omega
/-- arrays of the old part are not written: where a < 64, its kind is as told -/
def jok (M : Mm) (a t : Nat) : Prop := jm_K M a = 100 + t ∧ a < jm_Z M ∧ (a < 64 → jck a = some t)
theorem jarr_get {H : Heap} (hR : jRep G M H) {a t : Nat} (hk : jok M a t) : jarr G M a H := (hR.2.2.2.2 a hk.2.1).2 (by rw [hk.1]; omega)
theorem jw_iald {i : Int32} {o : Option Nat} {a n : Nat} (hd : decode mi.2.1 pc = .ok (.iaload, 1)) (ho : o = some a) (hk : jok M a 0) (hi : i = nI n) (hn : n < jm_N M a) (k : jW G mi d M0 (pc + 1) ls (.int (jm_A M a n) :: st) M P) : jW G mi d M0 pc ls (.int i :: jr o :: st) M P := by
  subst ho
  refine jW.s0 (fun p e s m args below meth c H locs la R cells slots Q X hR hS hl w => ?_) k
  obtain ⟨cell, h1, h2, h3, h4, h5, h6, h7, h8⟩ := jarr_get hR hk
  obtain ⟨q1, q2⟩ := jidx hi hn h7 h5
  have hv := h8 n hn
  rw [hk.1] at hv
  exact W.iald (v := .int (jm_A M a n)) X.x X.b h1 (jarrOf X.kn hk.1 rfl hk.2.2 h2 h3) h4 q1 (by rw [q2]; exact hv) rfl rfl hd w
theorem jw_bald {i : Int32} {o : Option Nat} {a n : Nat} (hd : decode mi.2.1 pc = .ok (.baload, 1)) (ho : o = some a) (hk : jok M a 1) (hi : i = nI n) (hn : n < jm_N M a) (k : jW G mi d M0 (pc + 1) ls (.int (jm_A M a n) :: st) M P) : jW G mi d M0 pc ls (.int i :: jr o :: st) M P := by
  subst ho
  refine jW.s0 (fun p e s m args below meth c H locs la R cells slots Q X hR hS hl w => ?_) k
  obtain ⟨cell, h1, h2, h3, h4, h5, h6, h7, h8⟩ := jarr_get hR hk
  obtain ⟨q1, q2⟩ := jidx hi hn h7 h5
  have hv := h8 n hn
  rw [hk.1] at hv
  exact W.bald (v := .int (jm_A M a n)) X.x X.b h1 (jarrOf X.kn hk.1 rfl hk.2.2 h2 h3) h4 q1 (by rw [q2]; exact hv) rfl rfl hd w
theorem jw_zald {i : Int32} {o : Option Nat} {a n : Nat} (hd : decode mi.2.1 pc = .ok (.baload, 1)) (ho : o = some a) (hk : jok M a 3) (hi : i = nI n) (hn : n < jm_N M a) (k : jW G mi d M0 (pc + 1) ls (.int (jm_A M a n) :: st) M P) : jW G mi d M0 pc ls (.int i :: jr o :: st) M P := by
  subst ho
  refine jW.s0 (fun p e s m args below meth c H locs la R cells slots Q X hR hS hl w => ?_) k
  obtain ⟨cell, h1, h2, h3, h4, h5, h6, h7, h8⟩ := jarr_get hR hk
  obtain ⟨q1, q2⟩ := jidx hi hn h7 h5
  have hv := h8 n hn
  rw [hk.1] at hv
  exact W.zald (v := .int (jm_A M a n)) X.x X.b h1 (jarrOf X.kn hk.1 rfl hk.2.2 h2 h3) h4 q1 (by rw [q2]; exact hv) rfl rfl hd w
theorem jw_cald {i : Int32} {o : Option Nat} {a n : Nat} (hd : decode mi.2.1 pc = .ok (.caload, 1)) (ho : o = some a) (hk : jok M a 2) (hi : i = nI n) (hn : n < jm_N M a) (k : jW G mi d M0 (pc + 1) ls (.int (jm_A M a n) :: st) M P) : jW G mi d M0 pc ls (.int i :: jr o :: st) M P := by
  subst ho
  refine jW.s0 (fun p e s m args below meth c H locs la R cells slots Q X hR hS hl w => ?_) k
  obtain ⟨cell, h1, h2, h3, h4, h5, h6, h7, h8⟩ := jarr_get hR hk
  obtain ⟨q1, q2⟩ := jidx hi hn h7 h5
  have hv := h8 n hn
  rw [hk.1] at hv
  exact W.cald (v := .int (jm_A M a n)) X.x X.b h1 (jarrOf X.kn hk.1 rfl hk.2.2 h2 h3) h4 q1 (by rw [q2]; exact hv) rfl rfl hd w
theorem jw_lald {i : Int32} {o : Option Nat} {a n : Nat} (hd : decode mi.2.1 pc = .ok (.laload, 1)) (ho : o = some a) (hk : jok M a 4) (hi : i = nI n) (hn : n < jm_N M a) (k : jW G mi d M0 (pc + 1) ls (.long (jm_B M a n) :: st) M P) : jW G mi d M0 pc ls (.int i :: jr o :: st) M P := by
  subst ho
  refine jW.s0 (fun p e s m args below meth c H locs la R cells slots Q X hR hS hl w => ?_) k
  obtain ⟨cell, h1, h2, h3, h4, h5, h6, h7, h8⟩ := jarr_get hR hk
  obtain ⟨q1, q2⟩ := jidx hi hn h7 h5
  have hv := h8 n hn
  rw [hk.1] at hv
  exact W.lald (v := .long (jm_B M a n)) X.x X.b h1 (jarrOf X.kn hk.1 rfl hk.2.2 h2 h3) h4 q1 (by rw [q2]; exact hv) rfl rfl hd w
theorem jev_ref {t : Nat} (h5 : 5 ≤ t) (a j : Nat) : jev M a t j = jr (jm_C M a j) := by
  unfold jev
  split <;> first | omega | rfl
theorem jtys_ref {t : Nat} {ty : FieldType} (h5 : 5 ≤ t) (h : jtys[t]? = some ty) : ∃ C, ty = .object C ∧ ty.isReference = true := by
  match t, h with
  | 5, h => cases h; exact ⟨_, rfl, rfl⟩
  | 6, h => cases h; exact ⟨_, rfl, rfl⟩
  | 7, h => cases h; exact ⟨_, rfl, rfl⟩
  | 8, h => cases h; exact ⟨_, rfl, rfl⟩
  | n + 9, h => simp [jtys] at h
theorem jw_aald {t : Nat} {i : Int32} {o : Option Nat} {a n : Nat} (h5 : 5 ≤ t) (h9 : t < 9) (hd : decode mi.2.1 pc = .ok (.aaload, 1)) (ho : o = some a) (hk : jok M a t) (hi : i = nI n) (hn : n < jm_N M a) (k : jW G mi d M0 (pc + 1) ls (jr (jm_C M a n) :: st) M P) : jW G mi d M0 pc ls (.int i :: jr o :: st) M P := by
  subst ho
  refine jW.s0 (fun p e s m args below meth c H locs la R cells slots Q X hR hS hl w => ?_) k
  obtain ⟨cell, h1, h2, h3, h4, h5', h6, h7, h8⟩ := jarr_get hR hk
  obtain ⟨q1, q2⟩ := jidx hi hn h7 h5'
  have hv := h8 n hn
  rw [hk.1, Nat.add_sub_cancel_left, jev_ref h5] at hv
  have ht : t < jtys.length := h9
  obtain ⟨C, hC, hCr⟩ := jtys_ref h5 (List.getElem?_eq_getElem ht)
  exact W.aald (v := jv G (jr (jm_C M a n))) X.x X.b h1 (jarrOf X.kn hk.1 (List.getElem?_eq_getElem ht) hk.2.2 h2 h3) hCr h4 q1 (by rw [q2]; exact hv) rfl rfl hd w
theorem jw_alen {t : Nat} {o : Option Nat} {a : Nat} (ht : t < 9) (hd : decode mi.2.1 pc = .ok (.arraylength, 1)) (ho : o = some a) (hk : jok M a t) (k : jW G mi d M0 (pc + 1) ls (.int (nI (jm_N M a)) :: st) M P) : jW G mi d M0 pc ls (jr o :: st) M P := by
  subst ho
  refine jW.s0 (fun p e s m args below meth c H locs la R cells slots Q X hR hS hl w => ?_) k
  obtain ⟨cell, h1, h2, h3, h4, h5, h6, h7, h8⟩ := jarr_get hR hk
  have ht : t < jtys.length := ht
  exact W.alen (n := nI (jm_N M a)) X.x X.b h1 (jarrOf X.kn hk.1 (List.getElem?_eq_getElem ht) hk.2.2 h2 h3) h6 rfl rfl hd w
/-! array stores -/
theorem jarr_put {H1 : Heap} {M1 : Mm} {a t n : Nat} {cell : Cell} {v : Value} (hk : jok M a t) (h64 : 64 ≤ a) (hn : n < jm_N M a) (h2 : cell.cls = jac G M a) (h3 : ∀ k, cell.vm ≠ .statics k) (h4 : cell.vm ≠ .unknown) (h5 : jm_N M a ≤ cell.slots.size) (h6 : cell.slots.size.toInt32 = nI (jm_N M a)) (h7 : jm_N M a < 2 ^ 31) (h8 : ∀ j : Nat, j < jm_N M a → cell.slots[j]? = some (jv G (jev M a (jm_K M a - 100) j)))
    (e1 : H1[je G a]? = some (cell.setSlot n (jv G v))) (hK1 : jm_K M1 a = jm_K M a) (hN1 : jm_N M1 a = jm_N M a) (hv : jev M1 a t n = v) (ho : ∀ j, j ≠ n → jev M1 a t j = jev M a t j) : jcell G M1 a H1 := by
  refine ⟨fun _ h => by rw [hK1, hk.1] at h; omega, fun _ => ?_⟩
  have hsz : (cell.setSlot n (jv G v)).slots.size = cell.slots.size := by simp [Cell.setSlot]
  refine ⟨_, e1, ?_, h3, h4, ?_, ?_, ?_, fun j hj => ?_⟩
  · show cell.cls = _
    rw [h2]
    unfold jac
    rw [hK1]
  · rw [hN1, hsz]; exact h5
  · rw [hN1, hsz]; exact h6
  · rw [hN1]; exact h7
  · rw [hN1] at hj
    rw [hK1, hk.1, Nat.add_sub_cancel_left]
    by_cases hjn : j = n
    · subst hjn
      rw [Cell.slots_setSlot_self _ (by omega), hv]
    · have h0 := h8 j hj
      rw [hk.1, Nat.add_sub_cancel_left] at h0
      rw [slot_ne _ _ (Ne.symm hjn), h0, ho j hjn]
theorem jw_iast {i : Int32} {x : Int32} {o : Option Nat} {a n : Nat} (hd : decode mi.2.1 pc = .ok (.iastore, 1)) (ho : o = some a) (h64 : 64 ≤ a) (hk : jok M a 0) (hi : i = nI n) (hn : n < jm_N M a) (k : jW G mi d M0 (pc + 1) ls st (js_A M a n x) P) : jW G mi d M0 pc ls (.int x :: .int i :: jr o :: st) M P := by
  subst ho
  refine jW.go (M1 := js_A M a n x) ⟨Nat.le_refl _, Nat.le_refl _⟩ (fun p e s m args below meth c H locs la M' Q X hR hS hl hle hle' kk1 => ?_) k
  obtain ⟨cell, h1, h2, h3, h4, h5, h6, h7, h8⟩ := jarr_get hR hk
  obtain ⟨q1, q2⟩ := jidx hi hn h7 h5
  refine W.iast X.x X.b h1 (jarrOf X.kn hk.1 rfl hk.2.2 h2 h3) h4 q1 rfl rfl hd fun H' e1 e2 e3 => ?_
  rw [q2] at e1 ⊢
  have e1 : H'[je G a]? = some (cell.setSlot n (jv G (.int x))) := e1
  have hc1 : jcell G (js_A M a n x) a H' := jarr_put hk h64 hn h2 h3 h4 h5 h6 h7 h8 e1 rfl rfl (by show Value.int (_) = _; rw [jA_A, if_pos ⟨rfl, rfl⟩]) (fun j hj => by show Value.int (_) = Value.int (_); rw [jA_A, if_neg (fun z => hj z.2)])
  exact kk1 H' (locs ++ [⟨je G a, n⟩]) la (hR.set h64 e2 e3 rfl jal_A hc1) (hS.put e2 e3 (je_ge h64)) hl
theorem jw_bast {i : Int32} {x y : Int32} {o : Option Nat} {a n : Nat} (hd : decode mi.2.1 pc = .ok (.bastore, 1)) (ho : o = some a) (h64 : 64 ≤ a) (hk : jok M a 1) (hi : i = nI n) (hn : n < jm_N M a) (hy : x.toInt8.toInt32 = y) (k : jW G mi d M0 (pc + 1) ls st (js_A M a n y) P) : jW G mi d M0 pc ls (.int x :: .int i :: jr o :: st) M P := by
  subst ho
  refine jW.go (M1 := js_A M a n y) ⟨Nat.le_refl _, Nat.le_refl _⟩ (fun p e s m args below meth c H locs la M' Q X hR hS hl hle hle' kk1 => ?_) k
  obtain ⟨cell, h1, h2, h3, h4, h5, h6, h7, h8⟩ := jarr_get hR hk
  obtain ⟨q1, q2⟩ := jidx hi hn h7 h5
  refine W.bast X.x X.b h1 (jarrOf X.kn hk.1 rfl hk.2.2 h2 h3) h4 q1 rfl rfl hd fun H' e1 e2 e3 => ?_
  rw [q2] at e1 ⊢
  have hnn : narrow .byte (.int x) = .int y := by rw [← hy]; rfl
  rw [hnn] at e1
  have e1 : H'[je G a]? = some (cell.setSlot n (jv G (.int y))) := e1
  have hc1 : jcell G (js_A M a n y) a H' := jarr_put hk h64 hn h2 h3 h4 h5 h6 h7 h8 e1 rfl rfl (by show Value.int (_) = _; rw [jA_A, if_pos ⟨rfl, rfl⟩]) (fun j hj => by show Value.int (_) = Value.int (_); rw [jA_A, if_neg (fun z => hj z.2)])
  exact kk1 H' (locs ++ [⟨je G a, n⟩]) la (hR.set h64 e2 e3 rfl jal_A hc1) (hS.put e2 e3 (je_ge h64)) hl
theorem jw_zast {i : Int32} {x : Int32} {o : Option Nat} {a n : Nat} (hd : decode mi.2.1 pc = .ok (.bastore, 1)) (ho : o = some a) (h64 : 64 ≤ a) (hk : jok M a 3) (hi : i = nI n) (hn : n < jm_N M a) (hy : narrow .boolean (.int x) = .int x) (k : jW G mi d M0 (pc + 1) ls st (js_A M a n x) P) : jW G mi d M0 pc ls (.int x :: .int i :: jr o :: st) M P := by
  subst ho
  refine jW.go (M1 := js_A M a n x) ⟨Nat.le_refl _, Nat.le_refl _⟩ (fun p e s m args below meth c H locs la M' Q X hR hS hl hle hle' kk1 => ?_) k
  obtain ⟨cell, h1, h2, h3, h4, h5, h6, h7, h8⟩ := jarr_get hR hk
  obtain ⟨q1, q2⟩ := jidx hi hn h7 h5
  refine W.zast X.x X.b h1 (jarrOf X.kn hk.1 rfl hk.2.2 h2 h3) h4 q1 rfl rfl hd fun H' e1 e2 e3 => ?_
  rw [q2] at e1 ⊢
  rw [hy] at e1
  have e1 : H'[je G a]? = some (cell.setSlot n (jv G (.int x))) := e1
  have hc1 : jcell G (js_A M a n x) a H' := jarr_put hk h64 hn h2 h3 h4 h5 h6 h7 h8 e1 rfl rfl (by show Value.int (_) = _; rw [jA_A, if_pos ⟨rfl, rfl⟩]) (fun j hj => by show Value.int (_) = Value.int (_); rw [jA_A, if_neg (fun z => hj z.2)])
  exact kk1 H' (locs ++ [⟨je G a, n⟩]) la (hR.set h64 e2 e3 rfl jal_A hc1) (hS.put e2 e3 (je_ge h64)) hl
theorem jw_cast {i : Int32} {x : Int32} {o : Option Nat} {a n : Nat} (hd : decode mi.2.1 pc = .ok (.castore, 1)) (ho : o = some a) (h64 : 64 ≤ a) (hk : jok M a 2) (hi : i = nI n) (hn : n < jm_N M a) (hy : narrow .char (.int x) = .int x) (k : jW G mi d M0 (pc + 1) ls st (js_A M a n x) P) : jW G mi d M0 pc ls (.int x :: .int i :: jr o :: st) M P := by
  subst ho
  refine jW.go (M1 := js_A M a n x) ⟨Nat.le_refl _, Nat.le_refl _⟩ (fun p e s m args below meth c H locs la M' Q X hR hS hl hle hle' kk1 => ?_) k
  obtain ⟨cell, h1, h2, h3, h4, h5, h6, h7, h8⟩ := jarr_get hR hk
  obtain ⟨q1, q2⟩ := jidx hi hn h7 h5
  refine W.cast X.x X.b h1 (jarrOf X.kn hk.1 rfl hk.2.2 h2 h3) h4 q1 rfl rfl hd fun H' e1 e2 e3 => ?_
  rw [q2] at e1 ⊢
  rw [hy] at e1
  have e1 : H'[je G a]? = some (cell.setSlot n (jv G (.int x))) := e1
  have hc1 : jcell G (js_A M a n x) a H' := jarr_put hk h64 hn h2 h3 h4 h5 h6 h7 h8 e1 rfl rfl (by show Value.int (_) = _; rw [jA_A, if_pos ⟨rfl, rfl⟩]) (fun j hj => by show Value.int (_) = Value.int (_); rw [jA_A, if_neg (fun z => hj z.2)])
  exact kk1 H' (locs ++ [⟨je G a, n⟩]) la (hR.set h64 e2 e3 rfl jal_A hc1) (hS.put e2 e3 (je_ge h64)) hl
theorem jw_last {i : Int32} {x : Int64} {o : Option Nat} {a n : Nat} (hd : decode mi.2.1 pc = .ok (.lastore, 1)) (ho : o = some a) (h64 : 64 ≤ a) (hk : jok M a 4) (hi : i = nI n) (hn : n < jm_N M a) (k : jW G mi d M0 (pc + 1) ls st (js_B M a n x) P) : jW G mi d M0 pc ls (.long x :: .int i :: jr o :: st) M P := by
  subst ho
  refine jW.go (M1 := js_B M a n x) ⟨Nat.le_refl _, Nat.le_refl _⟩ (fun p e s m args below meth c H locs la M' Q X hR hS hl hle hle' kk1 => ?_) k
  obtain ⟨cell, h1, h2, h3, h4, h5, h6, h7, h8⟩ := jarr_get hR hk
  obtain ⟨q1, q2⟩ := jidx hi hn h7 h5
  refine W.last X.x X.b h1 (jarrOf X.kn hk.1 rfl hk.2.2 h2 h3) h4 q1 rfl rfl hd fun H' e1 e2 e3 => ?_
  rw [q2] at e1 ⊢
  have e1 : H'[je G a]? = some (cell.setSlot n (jv G (.long x))) := e1
  have hc1 : jcell G (js_B M a n x) a H' := jarr_put hk h64 hn h2 h3 h4 h5 h6 h7 h8 e1 rfl rfl (by show Value.long (_) = _; rw [jB_B, if_pos ⟨rfl, rfl⟩]) (fun j hj => by show Value.long (_) = Value.long (_); rw [jB_B, if_neg (fun z => hj z.2)])
  exact kk1 H' (locs ++ [⟨je G a, n⟩]) la (hR.set h64 e2 e3 rfl jal_B hc1) (hS.put e2 e3 (je_ge h64)) hl
/-- a made object (kind c) into an array of kind t; its class is the array's own or goes into it -/
theorem jw_aast {t c : Nat} {C : String} {i : Int32} {o : Option Nat} {a n b : Nat} (h5 : 5 ≤ t) (hd : decode mi.2.1 pc = .ok (.aastore, 1)) (ho : o = some a) (h64 : 64 ≤ a) (hk : jok M a t) (ht : jtys[t]? = some (.object C)) (hKb : jm_K M b = c + 1) (hcb : c < 99) (hb64 : 64 ≤ b) (hbz : b < jm_Z M) {r : vw_C} (hr : jcls[c]? = some r) (hC : r.1 = C ∨ (Cond.castable r.1 C ∈ lw_tbl)) (hi : i = nI n) (hn : n < jm_N M a) (k : jW G mi d M0 (pc + 1) ls st (js_C M a n (some b)) P) : jW G mi d M0 pc ls (jr (some b) :: .int i :: jr o :: st) M P := by
  subst ho
  refine jW.go (M1 := js_C M a n (some b)) ⟨Nat.le_refl _, Nat.le_refl _⟩ (fun p e s m args below meth c1 H locs la M' Q X hR hS hl hle hle' kk1 => ?_) k
  obtain ⟨cell, h1, h2, h3, h4, h5', h6, h7, h8⟩ := jarr_get hR hk
  obtain ⟨q1, q2⟩ := jidx hi hn h7 h5'
  obtain ⟨r', cb, g1, g2, g3, g4, g5, g6, g7⟩ := (hR.2.2.2.2 b hbz).1 (by omega) (by omega)
  have hKc : jm_K M b - 1 = c := by omega
  rw [hKc] at g1 g3 g7
  have hcls := (X.kn.1 c r hr).2
  obtain ⟨kA, comp, k1, k2, k3, -⟩ := (X.kn.2.1 t _ ht).2
  have hac : jac G M a = jg_a G t := by
    unfold jac
    rw [if_neg (by omega), hk.1, Nat.add_sub_cancel_left]
  obtain ⟨hfc, kC, hkC, hkind⟩ := hcls
  obtain ⟨kcomp, hkcomp, hass⟩ : ∃ kcomp : Class, s.vm.classes[comp]? = some kcomp ∧ s.vm.assignable cb.cls comp = true := by
    rcases hC with e1 | e1
    · rw [e1] at hfc
      have : comp = (jg_D G).1 c := Option.some.inj (k3.symm.trans hfc)
      subst this
      exact ⟨kC, hkC, by rw [g3]; exact va_assign ⟨hfc, kC, hkC, hkind⟩⟩
    · obtain ⟨c0, t0, f1, f2, f3⟩ := Cond.castable_spec (va_Nw.use (A := args) rfl (X.kn.2.2.2.2.1 _ e1 rfl))
      have e2 : (jg_D G).1 c = c0 := Option.some.inj (hfc.symm.trans f1)
      have e3 : comp = t0 := Option.some.inj (k3.symm.trans f2)
      obtain ⟨kq, hkq, -⟩ := Vm.findClass_spec k3
      exact ⟨kq, hkq, by rw [g3, e2, e3]; exact f3⟩
  refine W.aast X.x X.b h1 h3 h4 (by rw [h2, hac]; exact k1) k2 rfl hkcomp ⟨fun z => q1 (Or.inl z), Nat.not_le.mp fun z => q1 (Or.inr z)⟩ g2 (fun q h => (by rw [h] at g4; cases g4)) (by rw [g3]; exact hkC) hass rfl rfl hd fun H' e1 e2 e3 => ?_
  rw [q2] at e1 ⊢
  have e1 : H'[je G a]? = some (cell.setSlot n (jv G (jr (some b)))) := e1
  have hc1 : jcell G (js_C M a n (some b)) a H' := jarr_put hk h64 hn h2 h3 h4 h5' h6 h7 h8 e1 rfl rfl (by rw [jev_ref h5, jC_C, if_pos ⟨rfl, rfl⟩]) (fun j hj => by rw [jev_ref h5, jev_ref h5, jC_C, if_neg (fun z => hj z.2)])
  exact kk1 H' (locs ++ [⟨je G a, n⟩]) la (hR.set h64 e2 e3 rfl jal_C hc1) (hS.put e2 e3 (je_ge h64)) hl
/-! making -/
def jdv (t : Nat) : Value := match t with
  | 0 => .int 0
  | 1 => .long 0
  | _ => .null
theorem jfv_new (c n s j : Nat) (q : Nat × Nat) (t : Nat) (hq : q.2 = t) (ht : t < 3) : jfv (js_new M c n s) (jm_Z M) q = jdv t := by
  obtain ⟨q1, q2⟩ := q
  simp only at hq
  subst hq
  match q2, ht with
  | 0, _ => show Value.int (jm_I _ _ _) = _; rw [jI_n, if_pos rfl]; rfl
  | 1, _ => show Value.long (jm_L _ _ _) = _; rw [jL_n, if_pos rfl]; rfl
  | 2, _ => show jr (jm_R _ _ _) = _; rw [jR_n, if_pos rfl]; rfl
theorem jdef (G : Gh) (t : FieldType) (h : jtg t < 3) : defaultValue t = jv G (jdv (jtg t)) := by
  cases t <;> first | rfl | (exact absurd h (by simp [jtg]))
theorem jlay_tag : ∀ r ∈ jlay, ∀ q ∈ r, q.2 < 3 := by decide +kernel
theorem jw_new {own : String} {idx c N : Nat} (hw : jNw own idx c N) (ho : own = mi.1.cls) (hc99 : c < 99) (hd : decode mi.2.1 pc = .ok (.new idx, 3)) (k : jW G mi d M0 (pc + 3) ls (jr (some (jm_Z M)) :: st) (js_new M (c + 1) 0 N) P) : jW G mi d M0 pc ls st M P := by
  subst ho
  obtain ⟨C, T, ty, hc, hlk, hins, hini⟩ := hw
  refine jW.go (M1 := js_new M (c + 1) 0 N) ⟨by rw [jZ_n]; omega, by rw [jS_n]; omega⟩ (fun p e s m args below meth c1 H locs la M' Q X hR hS hl hle hle' kk1 => ?_) k
  have hKn := X.kn.1 c _ hc.1
  have hz1 : jm_Z M + 1 ≤ jm_Z M' := hle'.1
  have hs1 : jm_S M + N ≤ jm_S M' := hle'.2
  have h0z := hle.1
  have h0s := hle.2
  refine W.newcK X.x X.b X.own (X.ts _ hlk) (X.ts _ hins) (X.ts _ hini) rfl hd (by show _ ≤ jm_Z M' - jm_Z M0; omega) (by show _ ≤ jm_S M' - jm_S M0; omega) hKn.2.1 rfl fun H1 kC hkC e1 z1 o1 => ?_
  have hborn := u_born (ws := lw_all) (args := args) ty X.ts hc.2.1 hKn hkC e1 hc.2.2.1
  obtain ⟨cell, b1, b2, b3, b4⟩ := hborn
  have hcell : jcell G (js_new M (c + 1) 0 N) (jm_Z M) H1 := by
    refine ⟨fun _ _ => ?_, fun h => by rw [jK_n, if_pos rfl] at h; omega⟩
    unfold jobj
    rw [jK_n, if_pos rfl, Nat.add_sub_cancel, je_Z hR]
    refine ⟨_, cell, hc.1, b1, b2, by rw [b3]; rfl, by rw [b3]; exact fun h => (by cases h), fun _ => b3, fun j q hj => ?_⟩
    have hjl := (List.getElem?_eq_some_iff.mp hj).1
    rw [hc.2.2.2.2.1] at hjl
    have htag := hc.2.2.2.2.2.1 j hjl
    rw [List.getD_eq_getElem?_getD, hj, Option.getD_some] at htag
    have hlt3 : q.2 < 3 := by
      have hm := List.mem_of_getElem? hj
      have hcl : c < jlay.length := by
        by_cases h : c < jlay.length
        · exact h
        · rw [List.getD_eq_getElem?_getD, List.getElem?_eq_none (by omega)] at hm
          cases hm
      rw [List.getD_eq_getElem?_getD, List.getElem?_eq_getElem hcl, Option.getD_some] at hm
      exact jlay_tag _ (List.getElem_mem hcl) q hm
    rw [b4 j hjl, jfv_new (M := M) (c + 1) 0 N j q (jtg (ty j)) htag (by rw [← htag]; exact hlt3)]
    show some (defaultValue (ty j)) = _
    rw [jdef G (ty j) (by rw [← htag]; exact hlt3)]
  have hR1 := hR.push (M1 := js_new M (c + 1) 0 N) z1 (fun q hq => o1 q hq) rfl jal_n hcell
  have := kk1 H1 locs la hR1 ⟨Nat.le_trans hS.1 (by omega), fun q h1 h2 => (o1 q (Nat.lt_of_lt_of_le h1 hS.1)).trans (hS.2.1 q h1 h2), hS.2.2⟩ hl
  rw [List.map_cons, jv_s, je_Z hR, jZ_n, jS_n, show jm_Z M + 1 - jm_Z M0 = jm_Z M - jm_Z M0 + 1 by omega, show jm_S M + N - jm_S M0 = jm_S M - jm_S M0 + N by omega] at this
  exact this
theorem jw_newa {t : Nat} {atype : ArrayType} {i : Int32} {n : Nat} (ht : jtys[t]? = some (newarray.typeOf atype)) (ht5 : t < 5) (hw : Cond.arrayClass (newarray.typeOf atype) ∈ lw_all) (hd : decode mi.2.1 pc = .ok (.newarray atype, 2)) (hi : i = nI n) (hn : n < 10000000) (k : jW G mi d M0 (pc + 2) ls (jr (some (jm_Z M)) :: st) (js_new M (100 + t) n n) P) : jW G mi d M0 pc ls (.int i :: st) M P := by
  refine jW.go (M1 := js_new M (100 + t) n n) ⟨by rw [jZ_n]; omega, by rw [jS_n]; omega⟩ (fun p e s m args below meth c1 H locs la M' Q X hR hS hl hle hle' kk1 => ?_) k
  have hz1 : jm_Z M + 1 ≤ jm_Z M' := hle'.1
  have hs1 : jm_S M + n ≤ jm_S M' := hle'.2
  have h0z := hle.1
  have h0s := hle.2
  have hcl : i.toNatClampNeg = n := by rw [hi]; exact nI_clamp (by omega)
  have hcb : componentBytes (newarray.typeOf atype) ≤ 8 := by cases atype <;> decide
  refine va_newaK (N := n) X.x X.b (X.ts _ hw) rfl hd rfl (by rw [hi]; exact nI_pos (by omega)) hcl (by have := Nat.mul_le_mul_left n hcb; omega) (by show _ ≤ jm_Z M' - jm_Z M0; omega) (by show _ ≤ jm_S M' - jm_S M0; omega) rfl fun H1 cA e1 z1 o1 hA hfc => ?_
  have hcA : cA = jg_a G t := by
    have h2 := (X.kn.2.1 t _ ht).2
    have h3 : s.vm.findClass ("[" ++ (newarray.typeOf atype).toString) = some (jg_a G t) := by
      cases atype <;> exact h2
    exact Option.some.inj (hfc.symm.trans h3)
  have hcell : jcell G (js_new M (100 + t) n n) (jm_Z M) H1 := by
    refine ⟨fun _ h => by rw [jK_n, if_pos rfl] at h; omega, fun _ => ?_⟩
    refine ⟨_, by rw [je_Z hR]; exact e1, ?_, fun k h => (by cases h), fun h => (by cases h), ?_, ?_, ?_, fun j hj => ?_⟩
    · show cA = _
      unfold jac
      rw [if_neg (by have := hR.1; omega), jK_n, if_pos rfl, Nat.add_sub_cancel_left, hcA]
    · rw [jN_n, if_pos rfl, arrV_size]; exact Nat.le_refl _
    · rw [jN_n, if_pos rfl, arrV_size]; rfl
    · rw [jN_n, if_pos rfl]; omega
    · rw [jN_n, if_pos rfl] at hj
      rw [arrV_read _ _ hj, jK_n, if_pos rfl, Nat.add_sub_cancel_left]
      congr 1
      match t, ht5, ht with
      | 0, _, ht => cases atype <;> first | (cases ht; done) | (show _ = jv G (Value.int (jm_A _ _ _)); rw [jA_n, if_pos rfl]; rfl)
      | 1, _, ht => cases atype <;> first | (cases ht; done) | (show _ = jv G (Value.int (jm_A _ _ _)); rw [jA_n, if_pos rfl]; rfl)
      | 2, _, ht => cases atype <;> first | (cases ht; done) | (show _ = jv G (Value.int (jm_A _ _ _)); rw [jA_n, if_pos rfl]; rfl)
      | 3, _, ht => cases atype <;> first | (cases ht; done) | (show _ = jv G (Value.int (jm_A _ _ _)); rw [jA_n, if_pos rfl]; rfl)
      | 4, _, ht => cases atype <;> first | (cases ht; done) | (show _ = jv G (Value.long (jm_B _ _ _)); rw [jB_n, if_pos rfl]; rfl)
  have hR1 := hR.push (M1 := js_new M (100 + t) n n) z1 (fun q hq => o1 q hq) rfl jal_n hcell
  have := kk1 H1 locs la hR1 ⟨Nat.le_trans hS.1 (by omega), fun q h1 h2 => (o1 q (Nat.lt_of_lt_of_le h1 hS.1)).trans (hS.2.1 q h1 h2), hS.2.2⟩ hl
  rw [List.map_cons, jv_s, je_Z hR, jZ_n, jS_n, show jm_Z M + 1 - jm_Z M0 = jm_Z M - jm_Z M0 + 1 by omega, show jm_S M + n - jm_S M0 = jm_S M - jm_S M0 + n by omega] at this
  exact this
theorem jw_anew {t : Nat} {C own : String} {idx : Nat} {i : Int32} {n : Nat} (ht : jtys[t]? = some (.object C)) (h5 : 5 ≤ t) (ho : own = mi.1.cls) (hlk : Cond.classLink own idx C ∈ lw_all) (hw : Cond.arrayOver (.object C) ∈ lw_tbl) (hd : decode mi.2.1 pc = .ok (.anewarray idx, 3)) (hi : i = nI n) (hn : n < 10000000) (k : jW G mi d M0 (pc + 3) ls (jr (some (jm_Z M)) :: st) (js_new M (100 + t) n n) P) : jW G mi d M0 pc ls (.int i :: st) M P := by
  subst ho
  refine jW.go (M1 := js_new M (100 + t) n n) ⟨by rw [jZ_n]; omega, by rw [jS_n]; omega⟩ (fun p e s m args below meth c1 H locs la M' Q X hR hS hl hle hle' kk1 => ?_) k
  have hz1 : jm_Z M + 1 ≤ jm_Z M' := hle'.1
  have hs1 : jm_S M + n ≤ jm_S M' := hle'.2
  have h0z := hle.1
  have h0s := hle.2
  have hcl : i.toNatClampNeg = n := by rw [hi]; exact nI_clamp (by omega)
  have hAO : va_AO C s := va_AO.of (X.kn.2.2.2.2.1 _ hw rfl)
  refine W.anew X.x X.b X.own (X.ts _ hlk) (va_AO.use hAO) rfl hd rfl (by rw [hi]; exact nI_pos (by omega)) (by rw [hcl]; omega) (by show _ ≤ jm_Z M' - jm_Z M0; omega) (by rw [hcl]; show _ ≤ jm_S M' - jm_S M0; omega) fun cA kA comp f1 f2 f3 f4 => ?_
  rw [hcl]
  generalize hH1 : H.push ({ cls := cA, slots := Array.replicate n .null, vm := .none } : Cell) = H1
  have z1 : H1.size = H.size + 1 := by rw [← hH1, Array.size_push]
  have e1 : H1[H.size]? = some (arrV cA n (fun _ => .null)) := by rw [← hH1, Array.getElem?_push_size, ← arrV_new]
  have o1 : ∀ q : Nat, q < H.size → H1[q]? = H[q]? := fun q hq => by rw [← hH1, Array.getElem?_push, if_neg (Nat.ne_of_lt hq)]
  have hcA : cA = jg_a G t := by
    obtain ⟨kA2, comp2, k1, k2, k3, k4⟩ := (X.kn.2.1 t _ ht).2
    exact Option.some.inj (f1.symm.trans k4)
  have hcell : jcell G (js_new M (100 + t) n n) (jm_Z M) H1 := by
    refine ⟨fun _ h => by rw [jK_n, if_pos rfl] at h; omega, fun _ => ?_⟩
    refine ⟨_, by rw [je_Z hR]; exact e1, ?_, fun k h => (by cases h), fun h => (by cases h), ?_, ?_, ?_, fun j hj => ?_⟩
    · show cA = _
      unfold jac
      rw [if_neg (by have := hR.1; omega), jK_n, if_pos rfl, Nat.add_sub_cancel_left, hcA]
    · rw [jN_n, if_pos rfl, arrV_size]; exact Nat.le_refl _
    · rw [jN_n, if_pos rfl, arrV_size]; rfl
    · rw [jN_n, if_pos rfl]; omega
    · rw [jN_n, if_pos rfl] at hj
      rw [arrV_read _ _ hj, jK_n, if_pos rfl, Nat.add_sub_cancel_left, jev_ref h5, jC_n, if_pos rfl]
      rfl
  have hR1 := hR.push (M1 := js_new M (100 + t) n n) z1 (fun q hq => o1 q hq) rfl jal_n hcell
  have := kk1 H1 locs la hR1 ⟨Nat.le_trans hS.1 (by omega), fun q h1 h2 => (o1 q (Nat.lt_of_lt_of_le h1 hS.1)).trans (hS.2.1 q h1 h2), hS.2.2⟩ hl
  rw [List.map_cons, jv_s, je_Z hR, jZ_n, jS_n, show jm_Z M + 1 - jm_Z M0 = jm_Z M - jm_Z M0 + 1 by omega, show jm_S M + n - jm_S M0 = jm_S M - jm_S M0 + n by omega] at this
  exact this
end JA
