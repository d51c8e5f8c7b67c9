/-! loops that make something -/
noncomputable def lpD {σ τ : Type} (f : σ → Option ((σ ⊕ τ) × Nat)) (s : σ) : Option (τ × Nat) :=
  lp (fun v : σ × Nat => match f v.1 with
    | none => none
    | some (.inl s', d) => some (.inl (s', v.2 + d))
    | some (.inr t, d) => some (.inr (t, v.2 + d))) (s, 0)
theorem lpD_walk {σ τ : Type} {f : σ → Option ((σ ⊕ τ) × Nat)} {y : τ} {dy : Nat} (P : σ → Nat → Prop)
    (hs : ∀ (v : σ) (x : σ ⊕ τ) (d e : Nat), f v = some (x, d) → (∀ v', x = .inl v' → ∃ e', e = d + e' ∧ P v' e') → (∀ t, x = .inr t → t = y ∧ e = d) → d ≤ e → P v e) : ∀ v, lpD f v = some (y, dy) → P v dy := by
  intro v h
  have key := lp_walk (y := (y, dy)) (fun w : σ × Nat => ∃ e, dy = w.2 + e ∧ P w.1 e) (f := fun v : σ × Nat => match f v.1 with
    | none => none
    | some (.inl s', d) => some (.inl (s', v.2 + d))
    | some (.inr t, d) => some (.inr (t, v.2 + d))) ?_ (v, 0) h
  · obtain ⟨e, h1, h2⟩ := key
    have h1 : dy = 0 + e := h1
    rw [Nat.zero_add] at h1
    rw [h1]
    exact h2
  · intro w x hx hc he
    try dsimp only at hx
    cases hf : f w.1 with
    | none => rw [hf] at hx; cases hx
    | some z =>
      obtain ⟨z1, d⟩ := z
      rw [hf] at hx
      cases z1 with
      | inl s' =>
        cases hx
        obtain ⟨e', h1, h2⟩ := hc _ rfl
        have h1 : dy = w.2 + d + e' := h1
        exact ⟨d + e', by omega, hs w.1 (.inl s') d (d + e') hf (fun v' hv => by cases hv; exact ⟨e', rfl, h2⟩) (fun t ht => by cases ht) (by omega)⟩
      | inr t =>
        cases hx
        have h1 := he _ rfl
        have h2 : t = y := congrArg Prod.fst h1
        have h3 : w.2 + d = dy := congrArg Prod.snd h1
        exact ⟨d, by omega, hs w.1 (.inr t) d d hf (fun v' hv => by cases hv) (fun t' ht => by cases ht; exact ⟨h2, rfl⟩) (Nat.le_refl _)⟩
/-- such a loop ends -/
theorem lpD_rule {σ τ : Type} {f : σ → Option ((σ ⊕ τ) × Nat)} (I : σ → Nat → Prop) (Po : τ → Nat → Prop) (μ : σ → Nat) (hs : ∀ v c, I v c → (∃ v' d, f v = some (.inl v', d) ∧ I v' (c + d) ∧ μ v' < μ v) ∨ ∃ t d, f v = some (.inr t, d) ∧ Po t (c + d)) : ∀ v, I v 0 → ∃ t d, lpD f v = some (t, d) ∧ Po t d := by
  intro v hv
  obtain ⟨t, h1, h2⟩ := lp_rule (f := fun v : σ × Nat => match f v.1 with
    | none => none
    | some (.inl s', d) => some (.inl (s', v.2 + d))
    | some (.inr t, d) => some (.inr (t, v.2 + d))) (fun w => I w.1 w.2) (fun t => Po t.1 t.2) (fun w => μ w.1) (fun w hw => by
      rcases hs w.1 w.2 hw with ⟨v', d, e1, e2, e3⟩ | ⟨t, d, e1, e2⟩
      · exact Or.inl ⟨(v', w.2 + d), by rw [e1], e2, e3⟩
      · exact Or.inr ⟨(t, w.2 + d), by rw [e1], e2⟩) (v, 0) hv
  exact ⟨t.1, t.2, h1, h2⟩
