/-! the plain functions of methods that may throw: .inl k (which exception) or .inr (the answer) -/
def zcls (k : Nat) : String := match k with
  | 0 => "java/lang/IllegalStateException"
  | 1 => "java/lang/IllegalArgumentException"
  | 2 => "java/lang/UnsupportedOperationException"
  | 3 => "java/util/NoSuchElementException"
  | _ => "java/lang/IndexOutOfBoundsException"
def nx {α : Type} (o : Option (α × Nat)) : Option ((Nat ⊕ α) × Nat) := o.map fun x => (.inr x.1, x.2)
def bx {α β : Type} (o : Option ((Nat ⊕ α) × Nat)) (k : α → Option ((Nat ⊕ β) × Nat)) : Option ((Nat ⊕ β) × Nat) := match o with
  | none => none
  | some (.inl j, d) => some (.inl j, d)
  | some (.inr a, d) => (k a).map fun y => (y.1, d + y.2)
def bc {α β : Type} (o : Option ((Nat ⊕ α) × Nat)) (hk : Nat → Option (β × Nat)) (k : α → Option (β × Nat)) : Option (β × Nat) := match o with
  | none => none
  | some (.inl j, d) => (hk j).map fun y => (y.1, d + y.2)
  | some (.inr a, d) => (k a).map fun y => (y.1, d + y.2)
theorem z_map {β : Type} {o : Option (β × Nat)} {d : Nat} {y : β × Nat} (h : (o.map fun y => (y.1, d + y.2)) = some y) : ∃ y', o = some y' ∧ y = (y'.1, d + y'.2) := by
  cases o with
  | none => cases h
  | some y' => exact ⟨y', rfl, (Option.some.inj h).symm⟩
theorem nx_n {α : Type} {o : Option (α × Nat)} {r0 : α} {u rc : Nat} {y : (Nat ⊕ α) × Nat} (h : nx o = some y) (hRa : Sum.inr r0 = y.1) (hRc : rc = u + y.2) : ∃ y', o = some y' ∧ r0 = y'.1 ∧ rc = u + y'.2 := by
  unfold nx at h
  cases o with
  | none => cases h
  | some y' =>
    cases h
    exact ⟨y', rfl, Sum.inr.inj hRa, hRc⟩
theorem nx_x {α : Type} {o : Option (α × Nat)} {k0 : Nat} {y : (Nat ⊕ α) × Nat} (h : nx o = some y) (hRa : Sum.inl k0 = y.1) : False := by
  unfold nx at h
  cases o with
  | none => cases h
  | some y' =>
    cases h
    cases hRa
theorem bx_n {α β : Type} {o : Option ((Nat ⊕ α) × Nat)} {k : α → Option ((Nat ⊕ β) × Nat)} {r0 : β} {u rc : Nat} {y : (Nat ⊕ β) × Nat} (h : bx o k = some y) (hRa : Sum.inr r0 = y.1) (hRc : rc = u + y.2) : ∃ (a : α) (d : Nat) (y' : (Nat ⊕ β) × Nat), o = some (.inr a, d) ∧ k a = some y' ∧ Sum.inr r0 = y'.1 ∧ rc = (u + d) + y'.2 := by
  unfold bx at h
  split at h
  · cases h
  · cases h; cases hRa
  · rename_i a d
    obtain ⟨y', h1, rfl⟩ := z_map h
    exact ⟨a, d, y', rfl, h1, hRa, by rw [hRc, Nat.add_assoc]⟩
theorem bx_x {α β : Type} {o : Option ((Nat ⊕ α) × Nat)} {k : α → Option ((Nat ⊕ β) × Nat)} {k0 u rc : Nat} {y : (Nat ⊕ β) × Nat} (h : bx o k = some y) (hRa : Sum.inl k0 = y.1) (hRc : rc = u + y.2) : (∃ d, o = some (.inl k0, d) ∧ rc = u + d) ∨ ∃ (a : α) (d : Nat) (y' : (Nat ⊕ β) × Nat), o = some (.inr a, d) ∧ k a = some y' ∧ Sum.inl k0 = y'.1 ∧ rc = (u + d) + y'.2 := by
  unfold bx at h
  split at h
  · cases h
  · rename_i j d
    cases h
    cases hRa
    exact Or.inl ⟨d, rfl, hRc⟩
  · rename_i a d
    obtain ⟨y', h1, rfl⟩ := z_map h
    exact Or.inr ⟨a, d, y', rfl, h1, hRa, by rw [hRc, Nat.add_assoc]⟩
theorem bc_k {α β : Type} {o : Option ((Nat ⊕ α) × Nat)} {hk : Nat → Option (β × Nat)} {k : α → Option (β × Nat)} {ra : β} {u rc : Nat} {y : β × Nat} (h : bc o hk k = some y) (hRa : ra = y.1) (hRc : rc = u + y.2) :
    (∃ (j d : Nat) (y' : β × Nat), o = some (.inl j, d) ∧ hk j = some y' ∧ ra = y'.1 ∧ rc = (u + d) + y'.2) ∨ ∃ (a : α) (d : Nat) (y' : β × Nat), o = some (.inr a, d) ∧ k a = some y' ∧ ra = y'.1 ∧ rc = (u + d) + y'.2 := by
  unfold bc at h
  split at h
  · cases h
  · rename_i j d
    obtain ⟨y', h1, rfl⟩ := z_map h
    exact Or.inl ⟨j, d, y', rfl, h1, hRa, by rw [hRc, Nat.add_assoc]⟩
  · rename_i a d
    obtain ⟨y', h1, rfl⟩ := z_map h
    exact Or.inr ⟨a, d, y', rfl, h1, hRa, by rw [hRc, Nat.add_assoc]⟩
theorem kt_0 : ∀ w ∈ Bundle.ownAtoms0 "BranchStore" 66 "java/lang/IllegalStateException" ["java/lang/RuntimeException", "java/lang/Exception"], zAt w := by
  unfold zAt
  decide +kernel
theorem kt_1 : ∀ w ∈ Bundle.ownAtoms0 "BranchStore" 76 "java/lang/IllegalArgumentException" ["java/lang/RuntimeException", "java/lang/Exception"], zAt w := by
  unfold zAt
  decide +kernel
theorem kt_2 : ∀ w ∈ Bundle.ownAtoms0 "BranchStore" 82 "java/lang/UnsupportedOperationException" ["java/lang/RuntimeException", "java/lang/Exception"], zAt w := by
  unfold zAt
  decide +kernel
theorem kt_3 : ∀ w ∈ Bundle.ownAtoms0 "BranchStore" 15 "java/util/NoSuchElementException" ["java/lang/RuntimeException", "java/lang/Exception"], zAt w := by
  unfold zAt
  decide +kernel
theorem kt_4 : ∀ w ∈ Bundle.ownAtoms0 "BranchStore" 121 "java/lang/IndexOutOfBoundsException" ["java/lang/RuntimeException", "java/lang/Exception"], zAt w := by
  unfold zAt
  decide +kernel
