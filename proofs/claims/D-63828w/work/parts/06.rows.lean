/-! loops and answers of the plain functions -/
def nm {α β : Type} (a : α) (k : α → β) : β := k a
theorem nm_k {α β : Type} {a : α} {k : α → Option β} {r : β} (h : nm a k = some r) (x : α) (e : x = a) : k x = some r := by subst e; exact h
theorem ob {α β : Type} {o : Option α} {k : α → Option β} {r : β} (h : o.bind k = some r) : ∃ a, o = some a ∧ k a = some r := by
  cases o with
  | none => cases h
  | some a => exact ⟨a, rfl, h⟩
def gi {α : Type} (i : Int32) (n : Nat) (k : Option α) : Option α := if i < 0 ∨ n ≤ i.toNatClampNeg then none else k
theorem gi_k {α : Type} {i : Int32} {n : Nat} {k : Option α} {r : α} (h : gi i n k = some r) : vp_in i n ∧ k = some r := by
  unfold gi at h
  split at h
  · cases h
  · rename_i c
    exact ⟨c, h⟩
theorem gi_in {α : Type} {i : Int32} {n : Nat} {k : Option α} (h : vp_in i n) : gi i n k = k := if_neg h
def gz {α : Type} (i : Int64) (k : Option α) : Option α := if i = 0 then none else k
theorem gz_k {α : Type} {i : Int64} {k : Option α} {r : α} (h : gz i k = some r) : ¬ i = 0 ∧ k = some r := by
  unfold gz at h
  split at h
  · cases h
  · rename_i c
    exact ⟨c, h⟩
theorem it {α : Type} {c : Prop} {d : Decidable c} {a b r : α} (h : (@ite α c d a b) = r) (hc : c) : a = r := by rw [if_pos hc] at h; exact h
theorem ie {α : Type} {c : Prop} {d : Decidable c} {a b r : α} (h : (@ite α c d a b) = r) (hc : ¬ c) : b = r := by rw [if_neg hc] at h; exact h
def lpI {σ τ : Type} (f : σ → Option (σ ⊕ τ)) : Nat → σ → Option τ
  | 0, _ => none
  | n + 1, s => match f s with
    | none => none
    | some (.inl s') => lpI f n s'
    | some (.inr t) => some t
noncomputable def lp {σ τ : Type} (f : σ → Option (σ ⊕ τ)) (s : σ) : Option τ := lpI f (Classical.epsilon (fun n => ∃ t, lpI f n s = some t)) s
theorem lpI_mono {σ τ : Type} {f : σ → Option (σ ⊕ τ)} : ∀ (n k : Nat) (s : σ) (t : τ), lpI f n s = some t → lpI f (n + k) s = some t
  | 0, _, _, _, h => by cases h
  | n + 1, k, s, t, h => by
    rw [Nat.add_right_comm]
    unfold lpI at h ⊢
    split at h
    · cases h
    · rename_i s' e
      exact lpI_mono n k s' t h
    · rename_i t' e
      exact h
theorem lp_of {σ τ : Type} {f : σ → Option (σ ⊕ τ)} {s : σ} {t : τ} {n : Nat} (h : lpI f n s = some t) : lp f s = some t := by
  have hs : ∃ t, lpI f (Classical.epsilon (fun n => ∃ t, lpI f n s = some t)) s = some t := Classical.epsilon_spec (p := fun n => ∃ t, lpI f n s = some t) ⟨n, t, h⟩
  obtain ⟨t', h'⟩ := hs
  have e1 := lpI_mono _ n s t' h'
  have e2 := lpI_mono n (Classical.epsilon (fun n => ∃ t, lpI f n s = some t)) s t h
  rw [Nat.add_comm] at e2
  rw [e1] at e2
  unfold lp
  rw [h', e2]
theorem lp_inl {σ τ : Type} {f : σ → Option (σ ⊕ τ)} {s s' : σ} (h : f s = some (.inl s')) : lp f s = lp f s' := by
  cases e : lp f s' with
  | some t =>
    have h' : lpI f _ s' = some t := e
    refine lp_of (n := Classical.epsilon (fun n => ∃ t, lpI f n s' = some t) + 1) (t := t) ?_
    unfold lpI
    rw [h]
    exact h'
  | none =>
    cases e2 : lp f s with
    | none => rfl
    | some t =>
      exfalso
      have h' : lpI f _ s = some t := e2
      generalize Classical.epsilon (fun n => ∃ t, lpI f n s = some t) = n at h'
      cases n with
      | zero => cases h'
      | succ n =>
        unfold lpI at h'
        rw [h] at h'
        rw [lp_of h'] at e
        cases e
theorem lp_inr {σ τ : Type} {f : σ → Option (σ ⊕ τ)} {s : σ} {t : τ} (h : f s = some (.inr t)) : lp f s = some t := by
  refine lp_of (n := 1) ?_
  unfold lpI
  rw [h]
/-- what a loop that ends says of its start, by what one turn says -/
theorem lp_walk {σ τ : Type} {f : σ → Option (σ ⊕ τ)} {y : τ} (P : σ → Prop) (hs : ∀ (v : σ) (x : σ ⊕ τ), f v = some x → (∀ v', x = .inl v' → P v') → (∀ t, x = .inr t → t = y) → P v) : ∀ v, lp f v = some y → P v := by
  intro v h
  have h' : lpI f _ v = some y := h
  generalize Classical.epsilon (fun n => ∃ t, lpI f n v = some t) = n at h'
  clear h
  induction n generalizing v with
  | zero => cases h'
  | succ n ih =>
    unfold lpI at h'
    split at h'
    · cases h'
    · rename_i s' e
      exact hs v _ e (fun v' e' => by cases e'; exact ih _ h') (fun t e' => by cases e')
    · rename_i t' e
      exact hs v _ e (fun v' e' => by cases e') (fun t e' => by cases e'; cases h'; rfl)
/-- a loop ends: what holds at each turn, and what falls -/
theorem lp_rule {σ τ : Type} {f : σ → Option (σ ⊕ τ)} (I : σ → Prop) (Po : τ → Prop) (μ : σ → Nat) (hs : ∀ v, I v → (∃ v', f v = some (.inl v') ∧ I v' ∧ μ v' < μ v) ∨ ∃ t, f v = some (.inr t) ∧ Po t) : ∀ v, I v → ∃ t, lp f v = some t ∧ Po t := by
  have key : ∀ (n : Nat) (v : σ), μ v < n → I v → ∃ t, lp f v = some t ∧ Po t := by
    intro n
    induction n with
    | zero => intro v h; exact absurd h (Nat.not_lt_zero _)
    | succ n ih =>
      intro v hn hI
      rcases hs v hI with ⟨v', e, hI', hm⟩ | ⟨t, e, hp⟩
      · obtain ⟨t, h1, h2⟩ := ih v' (by omega) hI'
        exact ⟨t, by rw [lp_inl e]; exact h1, h2⟩
      · exact ⟨t, lp_inr e, hp⟩
  exact fun v hI => key _ v (Nat.lt_succ_self _) hI
/-! what every contract says of its start and end -/
abbrev zG : Type := va_G × ClassId × ClassId × ClassId
abbrev zty (G : zG) : List (ClassId × FieldType) := [(G.2.1, .int), (G.2.2.1, .byte), (G.2.2.2, .long)]
def zbad : Cond → Bool
  | .declares _ => true
  | .castable .. => true
  | .methodLinkNest .. => true
  | _ => false
def zN (U : State) : Prop := ∀ w ∈ lw_tbl, zbad w = true → va_Nw w U
theorem zN.vm {u U : State} (h : u.vm = U.vm) (hz : zN u) : zN U := by
  intro w hw hb
  have h1 := hz w hw hb
  cases w <;> first | (cases hb; done) | exact va_Nw.same rfl h h1
theorem zN.warm {s U : State} (hW : s.WarmedH U.vm) (h : zN s) : zN U := by
  intro w hw hb
  have h1 := h w hw hb
  cases w <;> first | (cases hb; done) | exact va_Nw.warmD hW h1 | exact va_Nw.warmM hW h1 | exact va_tabs rfl (rfl : (s.setVm U.vm).vm = U.vm) (by rw [Cond.castable_setVm hW.alike]; exact h1)
def zPc (G : zG) (sz : Nat) (av : List Value) (ws : va_W) : Array Value → State → Prop := va_Pc av (fun U => U.heap.size = sz ∧ zN U ∧ va_P G.1 classes ws U.heap ∧ va_K G.1 classes (zty G) U ∧ va_D (fun _ => True) ws)
def zB (G : zG) (A : Nat → Prop) (ws : va_W) (t : State) : Prop := va_P G.1 classes ws t.heap ∧ va_D A ws
theorem zPc.blind {G : zG} {sz : Nat} {av : List Value} {ws : va_W} : FrameBlind (zPc G sz av ws) := by
  intro a U g mk h
  obtain ⟨h1, h2, h3, h4, h5, h6⟩ := h
  exact ⟨h1, h2, zN.vm (u := U) (U := U.calling g mk a) rfl h3, h4, va_K.moved (u := U) (U := U.calling g mk a) (Vm.Alike.refl U.vm) h5, h6⟩
def zC (p : Program) (s : State) (m : MethodId) (args : Array Value) (meth : Method) (c : Code) (y : MethodName) (cc : ByteArray) (nL : Nat) (ret : Option FieldType) : Prop :=
  p.tables.exec = Jvm.exec ∧ c.code = cc ∧ meth.sig.returnType = ret ∧ (∀ w ∈ lw_ok, w.before args s = true) ∧ s.vm.findClass y.cls = some m.cls ∧ meth.locks = false ∧ c.maxLocals = nL ∧ meth.name = y.name
theorem zMet {l : Launch} {G : zG} {y : MethodName} {cc : ByteArray} {maxL : Nat} {ret : Option FieldType} {rm : Room} {sz : Nat} {av : List Value} {ws : va_W} {Qc : (Nat → Prop) → Array Value → State → Outcome → State → Prop} {mc ms : Nat}
    (hy : plainName y.cls = true) (hav : (lg_sl av).length ≤ maxL)
    (body : ∀ (p : Program) (e : Env) (s : State) (m : MethodId) (below : List Frame) (meth : Method) (c : Code) (A : Nat → Prop) (ls : Array Slot) (Q : State → Prop) (H : Heap) (locs : List Loc), zC p s m av.toArray meth c y cc maxL ret → zN s → va_K G.1 classes (zty G) s → va_P G.1 classes ws H → va_D A ws → va_S A s.heap H locs → (∀ q, s.heap.size ≤ q → A q) →
      lv_has ls maxL (lv_args 0 av) → Q = MQ below (Qc A) av.toArray s mc ms A → W p l e rm s m av.toArray below meth c H locs 0 0 Q (F0 m 0 ls [])) :
    Met l y (Cond.code y cc maxL ret :: lw_ok) rm (zPc G sz av ws) (Qc (va_A ws sz)) mc ms (va_A ws sz) := by
  refine Met.ofW (cc := cc) (maxL := maxL) (ret := ret) hy rfl ?_
  intro p e s m args below meth c s₁ B hml hv
  obtain ⟨rfl, hsz, hN, hP, hK, hD0⟩ := hv
  subst hsz
  have hts := atoms_spec (ws := Cond.code y cc maxL ret :: lw_ok) B.pre
  have hl := lv_entry av (n := maxL) hav
  rw [lg_entry_eq]
  exact body p e s m below meth c _ _ _ _ _ ⟨B.exec, B.bytes, B.returns, fun w h => hts w (List.mem_cons_of_mem _ h), findClass_of_methodNamed B.named, B.notSynchronized, hml, (name_of_methodNamed B.named B.method).1⟩ hN hK hP (hD0.self (sz := s.heap.size)) va_S.rf (fun q h => Or.inr h) hl rfl
/-- the same, of a method that writes nothing: what is written in it is new -/
theorem zMetR {l : Launch} {G : zG} {y : MethodName} {cc : ByteArray} {maxL : Nat} {ret : Option FieldType} {rm : Room} {sz : Nat} {av : List Value} {ws : va_W} {Qc : (Nat → Prop) → Array Value → State → Outcome → State → Prop} {mc ms : Nat}
    (hy : plainName y.cls = true) (hav : (lg_sl av).length ≤ maxL)
    (body : ∀ (p : Program) (e : Env) (s : State) (m : MethodId) (below : List Frame) (meth : Method) (c : Code) (A : Nat → Prop) (ls : Array Slot) (Q : State → Prop) (H : Heap) (locs : List Loc), zC p s m av.toArray meth c y cc maxL ret → zN s → va_K G.1 classes (zty G) s → va_P G.1 classes ws H → va_D A ws → va_S A s.heap H locs → (∀ q ∈ locs, s.heap.size ≤ q.base) → (∀ q, s.heap.size ≤ q → A q) →
      lv_has ls maxL (lv_args 0 av) → Q = MQ below (Qc A) av.toArray s mc ms (fun q => s.heap.size ≤ q) → W p l e rm s m av.toArray below meth c H locs 0 0 Q (F0 m 0 ls [])) :
    Met l y (Cond.code y cc maxL ret :: lw_ok) rm (zPc G sz av ws) (Qc (va_A ws sz)) mc ms (fun q => sz ≤ q) := by
  refine Met.ofW (cc := cc) (maxL := maxL) (ret := ret) hy rfl ?_
  intro p e s m args below meth c s₁ B hml hv
  obtain ⟨rfl, hsz, hN, hP, hK, hD0⟩ := hv
  subst hsz
  have hts := atoms_spec (ws := Cond.code y cc maxL ret :: lw_ok) B.pre
  have hl := lv_entry av (n := maxL) hav
  rw [lg_entry_eq]
  exact body p e s m below meth c _ _ _ _ _ ⟨B.exec, B.bytes, B.returns, fun w h => hts w (List.mem_cons_of_mem _ h), findClass_of_methodNamed B.named, B.notSynchronized, hml, (name_of_methodNamed B.named B.method).1⟩ hN hK hP (hD0.self (sz := s.heap.size)) va_S.rf (fun _ h => absurd h List.not_mem_nil) (fun q h => Or.inr h) hl rfl
section ZRET
variable {p : Program} {l : Launch} {e : Env} {R : Room} {s : State} {m : MethodId} {args : Array Value} {below : List Frame} {meth : Method} {c : Code} {H : Heap} {locs : List Loc} {cells slots mc ms : Nat} {Q : State → Prop} {cc : ByteArray} {pc : Nat} {ls : Array Slot} {G : zG} {A : Nat → Prop} {free : Nat → Prop} {S : Type} {w : S → va_W} (u : S)
theorem zreti {post : Int32 → S → Prop} {v : Int32} (hQ : Q = MQ below (va_Qi post (fun u t => zB G A (w u) t) A) args s mc ms free) (hfr : ∀ q ∈ locs, free q.base) (hx : p.tables.exec = Jvm.exec) (hb : c.code = cc) (hr : meth.sig.returnType = some .int) (hlk : meth.locks = false)
    (hP : va_P G.1 classes (w u) H) (hD : va_D A (w u)) (hS : va_S A s.heap H locs) (hp : post v u) (hc : cells ≤ mc) (hs : slots ≤ ms) (hd : decode cc pc = .ok (.ireturn, 1)) : W p l e R s m args below meth c H locs cells slots Q (F0 m pc ls [.int v]) := by
  subst hQ
  refine W.widen hc hs ?_
  exact W.iret hx hb hr (fun t ht hW => ⟨⟨v, u, rfl, hp, by rw [ht]; exact hP, hD⟩, hS.F ht⟩) hfr hd hlk
theorem zretz {post : Int32 → S → Prop} {v : Int32} (hQ : Q = MQ below (va_Qi post (fun u t => zB G A (w u) t) A) args s mc ms free) (hfr : ∀ q ∈ locs, free q.base) (hx : p.tables.exec = Jvm.exec) (hb : c.code = cc) (hr : meth.sig.returnType = some .boolean) (hlk : meth.locks = false)
    (hP : va_P G.1 classes (w u) H) (hD : va_D A (w u)) (hS : va_S A s.heap H locs) (hp : post v u) (hc : cells ≤ mc) (hs : slots ≤ ms) (hd : decode cc pc = .ok (.ireturn, 1)) (hz : narrow .boolean (.int v) = .int v) : W p l e R s m args below meth c H locs cells slots Q (F0 m pc ls [.int v]) := by
  subst hQ
  refine W.widen hc hs ?_
  exact W.zret hx hb hr hz (fun t ht hW => ⟨⟨v, u, rfl, hp, by rw [ht]; exact hP, hD⟩, hS.F ht⟩) hfr hd hlk
theorem zretl {post : Int64 → S → Prop} {v : Int64} (hQ : Q = MQ below (va_Ql post (fun u t => zB G A (w u) t) A) args s mc ms free) (hfr : ∀ q ∈ locs, free q.base) (hx : p.tables.exec = Jvm.exec) (hb : c.code = cc) (hr : meth.sig.returnType = some .long) (hlk : meth.locks = false)
    (hP : va_P G.1 classes (w u) H) (hD : va_D A (w u)) (hS : va_S A s.heap H locs) (hp : post v u) (hc : cells ≤ mc) (hs : slots ≤ ms) (hd : decode cc pc = .ok (.lreturn, 1)) : W p l e R s m args below meth c H locs cells slots Q (F0 m pc ls [.long v]) := by
  subst hQ
  refine W.widen hc hs ?_
  exact W.lret hx hb hr (fun t ht hW => ⟨⟨v, u, rfl, hp, by rw [ht]; exact hP, hD⟩, hS.F ht⟩) hfr hd hlk
theorem zretv {post : S → Prop} (hQ : Q = MQ below (va_Qv post (fun u t => zB G A (w u) t) A) args s mc ms free) (hfr : ∀ q ∈ locs, free q.base) (hx : p.tables.exec = Jvm.exec) (hb : c.code = cc) (hr : meth.sig.returnType = none) (hlk : meth.locks = false)
    (hP : va_P G.1 classes (w u) H) (hD : va_D A (w u)) (hS : va_S A s.heap H locs) (hp : post u) (hc : cells ≤ mc) (hs : slots ≤ ms) (hd : decode cc pc = .ok (.return_, 1)) : W p l e R s m args below meth c H locs cells slots Q (F0 m pc ls []) := by
  subst hQ
  refine W.widen hc hs ?_
  exact W.vret hx hb hr (fun t ht hW => ⟨⟨u, rfl, hp, by rw [ht]; exact hP, hD⟩, hS.F ht⟩) hfr hd hlk
theorem zretr {post : S → Nat → Prop} {a : Nat} {rt : FieldType} (hQ : Q = MQ below (va_Qr (fun _ : S => True) (fun u a t => post u a ∧ zB G A (w u) t) A) args s mc ms free) (hfr : ∀ q ∈ locs, free q.base) (hx : p.tables.exec = Jvm.exec) (hb : c.code = cc) (hr : meth.sig.returnType = some rt) (hrt : (∃ n, rt = .object n) ∨ ∃ t, rt = .array t) (hlk : meth.locks = false)
    (hP : va_P G.1 classes (w u) H) (hD : va_D A (w u)) (hS : va_S A s.heap H locs) (hp : post u a) (hc : cells ≤ mc) (hs : slots ≤ ms) (hd : decode cc pc = .ok (.areturn, 1)) : W p l e R s m args below meth c H locs cells slots Q (F0 m pc ls [.ref a]) := by
  subst hQ
  refine W.widen hc hs ?_
  exact W.aret hx hb hr hrt (Or.inr ⟨a, rfl⟩) (fun t ht hW => ⟨⟨u, a, rfl, trivial, hp, by rw [ht]; exact hP, hD⟩, hS.F ht⟩) hfr hd hlk
end ZRET
