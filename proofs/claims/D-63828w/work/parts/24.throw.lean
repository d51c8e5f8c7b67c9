/-! exceptions: a method that throws, having changed nothing -/
def zFT (s : State) (o : Outcome) (t : State) (L : List Loc) (k n : Nat) : Prop := (∃ x : Addr, o = .threw x) ∧ s.WarmedH t.vm ∧ s.sameButNew ({ t with vm := s.vm } : State) L k n
def MetX (l : Launch) (y : MethodName) (ws : List Cond) (rm : Room) (Pc : Array Value → State → Prop) (Qc : Array Value → State → Outcome → State → Prop) (mc ms : Nat) (free : Addr → Prop) : Prop :=
  MetFree l y (headSpec ws rm) Pc (fun _ _ _ _ _ => True) (fun a st o t => Qc a st o t ∧ ∃ L, zFT st o t L mc ms ∧ ∀ q ∈ L, free q.base)
def MQX (below : List Frame) (Qc : Array Value → State → Outcome → State → Prop) (a : Array Value) (s : State) (mc ms : Nat) (free : Addr → Prop) : State → Prop := fun t =>
  ∃ o, t.status = .running ∧ Ended t below o ∧ Qc a s o t ∧ ∃ L, zFT s o t L mc ms ∧ ∀ q ∈ L, free q.base
def zX (cls : String) (a : Addr) (t : State) : Prop := ∃ cell : Cell, t.heap[a]? = some cell ∧ cell.vm.isStatics = false ∧ t.vm.findClass cls = some cell.cls ∧ ∃ k, t.vm.classes[cell.cls]? = some k
def zQx (cls : String) : Array Value → State → Outcome → State → Prop := fun _ st o t => ∃ a : Addr, o = .threw a ∧ zX cls a t ∧ st.heap.size ≤ t.heap.size ∧ ∀ q : Nat, q < st.heap.size → t.heap[q]? = st.heap[q]?
abbrev z_un : Term := .static "java/lang/Throwable" "UNASSIGNED_STACK" "[Ljava/lang/StackTraceElement;"
abbrev z_se : Term := .static "java/lang/Throwable" "SUPPRESSED_SENTINEL" "Ljava/util/List;"
def zNc (U : State) : Prop := va_Nc "java/lang/IllegalArgumentException" "java/lang/IllegalStateException" U ∧ va_Nc "java/lang/UnsupportedOperationException" "java/lang/IllegalStateException" U ∧ va_Nc "java/lang/UnsupportedOperationException" "java/lang/IllegalArgumentException" U ∧ va_Nc "java/lang/IndexOutOfBoundsException" "java/util/NoSuchElementException" U
def zTs (U : State) : Prop := (Cond.laysStatic "java/lang/Throwable" "UNASSIGNED_STACK" "[Ljava/lang/StackTraceElement;").before #[] U = true ∧ (Cond.laysStatic "java/lang/Throwable" "SUPPRESSED_SENTINEL" "Ljava/util/List;").before #[] U = true ∧ (Cond.isRef z_un).before #[] U = true ∧ (Cond.isRef z_se).before #[] U = true ∧ zNc U
theorem z_lays {C n d : String} {s U : State} (hvm : s.vm.Alike U.vm) (hk : ∀ (a : Nat) (cell : Cell), s.heap[a]? = some cell → cell.vm.isStatics = true → U.heap[a]? = some cell) (h : (Cond.laysStatic C n d).before #[] s = true) : (Cond.laysStatic C n d).before #[] U = true := by
  obtain ⟨c, k, i, f, a, cell, hc, hi, hst, ha, hcell, hs, hcls, hlt, hty⟩ := Cond.laysStatic_spec h
  obtain ⟨k', hi', he⟩ := State.fieldFound?_setVm hvm hi
  have hi2 : U.fieldFound? C n d = some (c, k', i, f) := hi'
  have e1 : k'.statics = k.statics := by rw [he]
  have e2 : k'.staticTypes = k.staticTypes := by rw [he]
  exact Cond.laysStatic_of (s := U) (by rw [hvm.findClass]; exact hc) hi2 hst (by rw [e1]; exact ha) (hk a cell hcell hs) hs hcls hlt (by rw [e2]; exact hty)
theorem z_isref {C n d : String} {s U : State} (hvm : s.vm.Alike U.vm) (hk : ∀ (a : Nat) (cell : Cell), s.heap[a]? = some cell → cell.vm.isStatics = true → U.heap[a]? = some cell) (hl : (Cond.laysStatic C n d).before #[] s = true) (h : (Cond.isRef (.static C n d)).before #[] s = true) : (Cond.isRef (.static C n d)).before #[] U = true := by
  obtain ⟨v, hv, hr⟩ := Cond.isRef_spec h
  obtain ⟨c, k, i, f, a, cell, hc, hi, hst, ha, hcell, hs, hcls, hlt, hty⟩ := Cond.laysStatic_spec hl
  obtain ⟨hst', a', cell', ha', hcell', -, hslot⟩ := Term.static_spec hi hv
  cases ha.symm.trans ha'
  cases hcell.symm.trans hcell'
  obtain ⟨k', hi', he⟩ := State.fieldFound?_setVm hvm hi
  have hi2 : U.fieldFound? C n d = some (c, k', i, f) := hi'
  have e1 : k'.statics = some a := by rw [he]; exact ha
  have ev : (Term.static C n d).eval #[] U none [] U = some v := by
    simp [Term.eval, State.fieldNamed?, hi2, hst, e1, hk a cell hcell hs, hs, hslot]
  simp only [Cond.before, Cond.holds, Cond.value, ev]
  clear ev hslot hv
  cases v <;> first | rfl | (cases hr; done)
theorem zTs.go {s U : State} (hvm : s.vm.Alike U.vm) (hk : ∀ (a : Nat) (cell : Cell), s.heap[a]? = some cell → cell.vm.isStatics = true → U.heap[a]? = some cell) (h : zTs s) : zTs U :=
  ⟨z_lays hvm hk h.1, z_lays hvm hk h.2.1, z_isref hvm hk h.1 h.2.2.1, z_isref hvm hk h.2.1 h.2.2.2.1, h.2.2.2.2.1.moved hvm, h.2.2.2.2.2.1.moved hvm, h.2.2.2.2.2.2.1.moved hvm, h.2.2.2.2.2.2.2.moved hvm⟩
def zPcX (G : zG) (sz : Nat) (av : List Value) (ws : va_W) : Array Value → State → Prop := va_Pc av (fun U => U.heap.size = sz ∧ zN U ∧ zTs U ∧ va_P G.1 classes ws U.heap ∧ va_K G.1 classes (zty G) U ∧ va_D (fun _ => True) ws)
theorem zPcX.blind {G : zG} {sz : Nat} {av : List Value} {ws : va_W} : FrameBlind (zPcX G sz av ws) := by
  intro a U g mk h
  obtain ⟨h1, h2, h3, h7, h4, h5, h6⟩ := h
  exact ⟨h1, h2, zN.vm (u := U) (U := U.calling g mk a) rfl h3, zTs.go (s := U) (U := U.calling g mk a) (Vm.Alike.refl U.vm) (fun _ _ h _ => h) h7, h4, va_K.moved (u := U) (U := U.calling g mk a) (Vm.Alike.refl U.vm) h5, h6⟩
/-- no cell of a world is one of statics -/
theorem z_nstat {G : zG} {ws : va_W} {H : Heap} {sz : Nat} (hP : va_P G.1 classes ws H) (hsz : H.size = sz) : ∀ (a : Nat) (cell : Cell), H[a]? = some cell → cell.vm.isStatics = true → ¬ va_A ws sz a := by
  rintro a cell hc hs (⟨k, e, hk⟩ | h)
  · have h1 := hP k (a, e) hk
    cases e with
    | inl x =>
      have h2 : H[a]? = some (vp_cell x.1 x.2) := h1
      cases hc.symm.trans h2
      obtain ⟨x1, n, x2⟩ := x
      rcases x2 with f | f | f | f | f <;> cases hs
    | inr o =>
      obtain ⟨r, -, cell', g1, -, g3, -⟩ := h1
      cases hc.symm.trans g1
      rw [g3] at hs
      cases hs
  · have := (Array.getElem?_eq_some_iff.mp hc).1
    omega
theorem MetX.ofW {l : Launch} {y : MethodName} {ws ws' : List Cond} {rm : Room} {Pc : Array Value → State → Prop} {Qc : Array Value → State → Outcome → State → Prop} {mc ms : Nat} {free : Addr → Prop} {cc : ByteArray} {maxL : Nat} {ret : Option FieldType}
    (hy : plainName y.cls = true) (hw : ws = Cond.code y cc maxL ret :: ws')
    (body : ∀ p e s m args below meth c s₁, BodyLoose p l y (headSpec ws rm) cc maxL ret e s m args below meth c s₁ → c.maxLocals = maxL → Pc args s →
      W p l e (headSpec ws rm).room s m args below meth c s.heap [] 0 0 (MQX below Qc args s mc ms free) (entryFrame m args maxL)) : MetX l y ws rm Pc Qc mc ms free := by
  refine MetFree.of_bodyS (code := cc) (maxLocals := maxL) (ret := ret) hy ?_ ?_
  · intro args s m h hn
    obtain ⟨meth, c, h1, h2, h3, h4, h5, h6, -, -⟩ := Cond.code_spec hn (atoms_spec (ws := ws) h _ (by rw [hw]; exact List.mem_cons_self))
    exact ⟨meth, c, h1, h2, h3, h4, h5, h6⟩
  · intro p e s m args below meth c s₁ B hml hP _
    have hh0 : s₁.heap = s.heap := by rw [B.state]; rfl
    obtain ⟨t, a1, o, b1, b2, b3⟩ := body p e s m args below meth c s₁ B hml hP s₁ hh0 (Stand.of_body B)
    exact ⟨t, o, a1, b1, b2, ⟨b3.1, b3.2⟩⟩
theorem z_traces {l : Launch} {e : Env} (hf : l.flags = flags0) (ha : l.admits e) : e.platform.stackTraces = false := by
  rw [ha.platform]
  show l.stackTraces = false
  unfold Launch.stackTraces
  rw [hf]
  decide
theorem zMetX {l : Launch} {G : zG} {y : MethodName} {cc : ByteArray} {maxL : Nat} {ret : Option FieldType} {rm : Room} {sz : Nat} {av : List Value} {ws : va_W} {cls : String} {mc ms : Nat} (hfl : l.flags = flags0)
    (hy : plainName y.cls = true) (hav : (lg_sl av).length ≤ maxL)
    (body : ∀ (p : Program) (e : Env) (s : State) (m : MethodId) (below : List Frame) (meth : Method) (c : Code) (A : Nat → Prop) (ls : Array Slot) (Q : State → Prop) (H : Heap) (locs : List Loc), zC p s m av.toArray meth c y cc maxL ret → e.platform.stackTraces = false → c.exceptionTable.toList = [] → zTs s → (∀ (a : Nat) (cell : Cell), s.heap[a]? = some cell → cell.vm.isStatics = true → ¬ A a) →
      zN s → va_K G.1 classes (zty G) s → va_P G.1 classes ws H → va_D A ws → va_S A s.heap H locs → (∀ q ∈ locs, s.heap.size ≤ q.base) → (∀ q, s.heap.size ≤ q → A q) →
      lv_has ls maxL (lv_args 0 av) → Q = MQX below (zQx cls) av.toArray s mc ms (fun q => s.heap.size ≤ q) → W p l e rm s m av.toArray below meth c H locs 0 0 Q (F0 m 0 ls [])) :
    MetX l y (Cond.code y cc maxL ret :: lw_ok) rm (zPcX G sz av ws) (zQx cls) mc ms (fun q => sz ≤ q) := by
  refine MetX.ofW (cc := cc) (maxL := maxL) (ret := ret) hy rfl ?_
  intro p e s m args below meth c s₁ B hml hv
  obtain ⟨rfl, hsz, hN, hTs, hP, hK, hD0⟩ := hv
  have hts := atoms_spec (ws := Cond.code y cc maxL ret :: lw_ok) B.pre
  have hl := lv_entry av (n := maxL) hav
  have hnh := B.noHandlers (hts _ List.mem_cons_self)
  have hns := z_nstat hP hsz
  subst hsz
  rw [lg_entry_eq]
  exact body p e s m below meth c _ _ _ _ _ ⟨B.exec, B.bytes, B.returns, fun w h => hts w (List.mem_cons_of_mem _ h), findClass_of_methodNamed B.named, B.notSynchronized, hml, (name_of_methodNamed B.named B.method).1⟩ (z_traces hfl B.admits) (by simpa using hnh) hTs hns hN hK hP (hD0.self (sz := s.heap.size)) va_S.rf (fun _ h => absurd h List.not_mem_nil) (fun q h => Or.inr h) hl rfl
/-- what old cells hold, behind a run that wrote none of them -/
theorem z_old {s t : State} {k n : Nat} (h : s.sameButNew ({ t with vm := s.vm } : State) [] k n) : s.heap.size ≤ t.heap.size ∧ ∀ q : Nat, q < s.heap.size → t.heap[q]? = s.heap[q]? := by
  obtain ⟨-, h1, -, -, -, h2⟩ := h
  refine ⟨h1, fun q hq => ?_⟩
  obtain ⟨c', e1, e2, e3, e4⟩ := h2 q s.heap[q] (Array.getElem?_eq_getElem hq)
  have e5 : c'.slots = s.heap[q].slots := Array.ext_getElem? (fun i => e4 i List.not_mem_nil)
  rw [Array.getElem?_eq_getElem hq]
  have e6 : t.heap[q]? = some c' := e1
  rw [e6, e2, e5]
def zAt (w : Cond) : Prop := w ∈ lw_ok ∨ (w ∈ lw_tbl ∧ zbad w = true) ∨ w = .laysStatic "java/lang/Throwable" "UNASSIGNED_STACK" "[Ljava/lang/StackTraceElement;" ∨ w = .laysStatic "java/lang/Throwable" "SUPPRESSED_SENTINEL" "Ljava/util/List;" ∨ w = .isRef z_un ∨ w = .isRef z_se
theorem zAt.use {w : Cond} (h : zAt w) {s : State} {args : Array Value} (hts : ∀ w ∈ lw_ok, w.before args s = true) (hN : zN s) (hTs : zTs s) : w.before args s = true := by
  rcases h with h | ⟨h1, h2⟩ | rfl | rfl | rfl | rfl
  · exact hts w h
  · have := hN w h1 h2
    cases w <;> first | (cases h2; done) | exact va_Nw.use rfl this
  · exact hTs.1
  · exact hTs.2.1
  · exact hTs.2.2.1
  · exact hTs.2.2.2.1
section ZTHROW
variable {p : Program} {l : Launch} {e : Env} {R : Room} {s : State} {m : MethodId} {args : Array Value} {below : List Frame} {meth : Method} {c : Code} {H : Heap} {locs : List Loc} {cells slots mc ms : Nat} {Q : State → Prop} {cc : ByteArray} {pc : Nat} {ls : Array Slot} {rest : List Value} {A : Nat → Prop} {own cls : String} {ia ic : Nat}
set_option maxHeartbeats 1000000 in
theorem zthrow (hQ : Q = MQX below (zQx cls) args s mc ms (fun q => s.heap.size ≤ q)) (hx : p.tables.exec = Jvm.exec) (hb : c.code = cc) (hlk : meth.locks = false) (htr : e.platform.stackTraces = false) (hnh : c.exceptionTable.toList = []) (hts : ∀ w ∈ lw_ok, w.before args s = true) (hN : zN s) (hTs : zTs s) (hown : s.vm.findClass own = some m.cls) (hml : c.maxLocals = ls.size) (hS : va_S A s.heap H locs) (hL : ∀ q ∈ locs, s.heap.size ≤ q.base)
    (k1 : Cond.classLink own ia cls ∈ lw_ok) (k2 : Cond.instantiable cls 6 ∈ lw_ok) (k3 : Cond.initialized cls ∈ lw_ok) (k4 : ∀ w ∈ Bundle.ownAtoms0 own ic cls ["java/lang/RuntimeException", "java/lang/Exception"], zAt w) (hfit : Bundle.fit cls = true)
    (hcells : cells + 1 ≤ R.cells) (hslots : slots + 6 ≤ R.slots) (hc : cells + 1 ≤ mc) (hs : slots + 6 ≤ ms) (hRf : 5 < R.frames) (hRl : (rest.map fun v => v.category).sum + 81 ≤ R.locals)
    (hd0 : decode cc pc = .ok (.new ia, 3)) (hd3 : decode cc (pc + 3) = .ok (.dup, 1)) (hd4 : decode cc (pc + 4) = .ok (.invokespecial ic, 3)) (hd7 : decode cc (pc + 7) = .ok (.athrow, 1)) :
    W p l e R s m args below meth c H locs cells slots Q (F0 m pc ls rest) := by
  subst hQ
  refine va_forget hL ?_
  refine W.newc hx hb hown (hts _ k1) (hts _ k2) (hts _ k3) rfl hd0 hcells hslots (fun cC kC h1 h2 h3 h4 => ?_)
  refine W.widen (k := mc) (n := ms) hc hs ?_
  refine lv_dup hx hb hd3 rfl ?_
  intro T hT X
  obtain ⟨U, st, hrun, hend, hWU, hsame, ce, hce, hoc⟩ := X.ctorThrow0 hx htr (own := own) (cls := cls) (names := ["java/lang/RuntimeException", "java/lang/Exception"]) (ic := ic) hown hfit (by decide) (fun w hw => (k4 w hw).use hts hN hTs) (fun x h => absurd h List.not_mem_nil) (a := H.size) h1 h2 (by rw [hT]; simp) hS.1 (g := F0 m (pc + 3 + 1) ls (.ref H.size :: .ref H.size :: rest)) rfl (by rw [hml]) rfl rfl (rest := rest) rfl (by rw [hb]; exact hd4) (by rw [hb]; exact hd7) (by rw [hnh]; exact fun x h => absurd h List.not_mem_nil) hRf (by
      show 2 * 0 + (((Value.ref H.size :: rest).map fun v => v.category).sum) + (13 * (2 + 1) + 41) ≤ R.locals
      rw [List.map_cons, List.sum_cons]
      show 2 * 0 + (1 + _) + _ ≤ _
      omega) hlk
  obtain ⟨z1, z2⟩ := z_old hsame
  obtain ⟨k', hk', -⟩ := hWU.alike.2.2 _ _ h2
  have hcls : ce.cls = cC := Option.some.inj (hoc.cls.symm.trans h1)
  exact ⟨U, st, .threw H.size, hrun, hend, ⟨H.size, rfl, ⟨ce, hce, by rw [hoc.vm]; rfl, by rw [hWU.alike.findClass]; exact hoc.cls, k', by rw [hcls]; exact hk'⟩, z1, z2⟩, [], ⟨⟨_, rfl⟩, hWU, hsame⟩, fun _ h => absurd h List.not_mem_nil⟩
end ZTHROW
