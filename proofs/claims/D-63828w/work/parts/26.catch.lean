/-! an exception that is caught: the rows of the table are asked in their order, their classes by their links -/
theorem zgo1 {Q : Handler → Pre} {E : CtlPost} {e : Env} {d : Bool} {acts : List Action} {S : State} {f : JFrame} {a : Addr} {x : ExceptionTableEntry} {t : List ExceptionTableEntry} {c : ClassId} {cell : Cell} (hx : covers x f.pc = true) (h0 : x.catchType ≠ 0)
    (hl : S.vm.ClassLinks e.platform f.method.cls x.catchType c) (hcell : S.heap[a]? = some cell) (hobj : ∀ k, cell.vm ≠ .statics k) (hk : ∃ k, S.vm.classes[cell.cls]? = some k) (hc : ∃ k, S.vm.classes[c]? = some k) :
    wp (findHandler.go f a (x :: t)) Q E e d acts S ↔ if S.vm.assignable cell.cls c = true then Q (.found x.handlerPc) d acts (S.setVm (S.vm.noted f.method.cls x.catchType (.cls c))) else wp (findHandler.go f a t) Q E e d acts (S.setVm (S.vm.noted f.method.cls x.catchType (.cls c))) := by
  simp only [covers] at hx
  obtain ⟨ha, ht⟩ := (resolveClass_links e.toSetting hl).op (op := VmOp.resolveClass f.method.cls x.catchType) rfl
  have al : S.vm.Alike (S.vm.noted f.method.cls x.catchType (.cls c)) := (Vm.Alike.refl S.vm).noted _ _ _
  obtain ⟨k1, hk1⟩ := hk
  obtain ⟨k2, hk2⟩ := hc
  obtain ⟨k3, hk3, -⟩ := al.2.2 _ _ hk1
  obtain ⟨k4, hk4, -⟩ := al.2.2 _ _ hk2
  cases hfit : S.vm.assignable cell.cls c with
  | true =>
    have hf2 : (S.vm.noted f.method.cls x.catchType (.cls c)).assignable cell.cls c = true := by rw [al.assignable]; exact hfit
    simp [findHandler.go, hx, h0, ha, ht, hcell, hobj, hk3, hk4, hf2, VmOp.dirties, VmOp.acts]
  | false =>
    have hf2 : (S.vm.noted f.method.cls x.catchType (.cls c)).assignable cell.cls c = false := by rw [al.assignable]; exact hfit
    simp [findHandler.go, hx, h0, ha, ht, hcell, hobj, hk3, hk4, hf2, VmOp.dirties, VmOp.acts]
/-- rows ahead that aren't of its class, then one that is -/
def zPass (s : State) (pl : Platform) (d : ClassId) (pc : Nat) (th : ClassId) (b : Bool) (x : ExceptionTableEntry) : Prop := covers x pc = true ∧ x.catchType ≠ 0 ∧ ∃ c, s.vm.ClassLinks pl d x.catchType c ∧ s.vm.assignable th c = b
theorem zgo {e : Env} {s : State} {f : JFrame} {a : Addr} {cell : Cell} (hobj : ∀ k, cell.vm ≠ .statics k) (hk0 : ∃ k, s.vm.classes[cell.cls]? = some k) {x : ExceptionTableEntry} {rest : List ExceptionTableEntry} (hx : zPass s e.platform f.method.cls f.pc cell.cls true x) :
    ∀ (pre : List ExceptionTableEntry) (S : State), s.WarmedH S.vm → S.heap[a]? = some cell → (∀ y ∈ pre, zPass s e.platform f.method.cls f.pc cell.cls false y) →
      ∃ vm', s.WarmedH vm' ∧ ∀ (Q : Handler → Pre) (E : CtlPost) (d : Bool) (acts : List Action), wp (findHandler.go f a (pre ++ x :: rest)) Q E e d acts S ↔ Q (.found x.handlerPc) d acts (S.setVm vm') := by
  have step : ∀ (y : ExceptionTableEntry) (b : Bool) (S : State), s.WarmedH S.vm → S.heap[a]? = some cell → zPass s e.platform f.method.cls f.pc cell.cls b y →
      ∃ vm', s.WarmedH vm' ∧ ∀ (t : List ExceptionTableEntry) (Q : Handler → Pre) (E : CtlPost) (d : Bool) (acts : List Action), wp (findHandler.go f a (y :: t)) Q E e d acts S ↔ if b = true then Q (.found y.handlerPc) d acts (S.setVm vm') else wp (findHandler.go f a t) Q E e d acts (S.setVm vm') := by
    intro y b S hW hcell hy
    obtain ⟨h1, h2, c, hl, hfit⟩ := hy
    obtain ⟨k0, hk0⟩ := hk0
    obtain ⟨k0', hk0', -⟩ := hW.alike.2.2 _ _ hk0
    obtain ⟨dk, _, _, kt, hd, _, _, _, _, hkt, _, hopen⟩ := hl.here
    obtain ⟨kt', hkt', -⟩ := hW.alike.2.2 _ _ hkt
    refine ⟨_, hW.noted hd hopen (State.rightAt_cls hl), fun t Q E d acts => ?_⟩
    rw [zgo1 h1 h2 (hW.classLinks hl) hcell hobj ⟨k0', hk0'⟩ ⟨kt', hkt'⟩, hW.alike.assignable, hfit]
  intro pre
  induction pre with
  | nil =>
    intro S hW hcell _
    obtain ⟨vm', h1, h2⟩ := step x true S hW hcell hx
    exact ⟨vm', h1, fun Q E d acts => by rw [List.nil_append, h2]; simp⟩
  | cons y ys ih =>
    intro S hW hcell hp
    obtain ⟨vm1, h1, h2⟩ := step y false S hW hcell (hp y List.mem_cons_self)
    obtain ⟨vm2, h3, h4⟩ := ih (S.setVm vm1) h1 hcell (fun z hz => hp z (List.mem_cons_of_mem _ hz))
    exact ⟨vm2, h3, fun Q E d acts => by rw [List.cons_append, h2, if_neg (by decide), h4]; rfl⟩
theorem z_sfv (u : State) (vm' : Vm) (F K : List Frame) : ((u.setFrames F).setVm vm').setFrames K = (u.setVm vm').setFrames K := by
  rw [show (u.setFrames F).setVm vm' = (u.setVm vm').setFrames F from rfl, State.setFrames_setFrames]
/-- caught: the walk goes on at the handler, the reference alone on the stack -/
theorem zcaught {p : Program} {l : Launch} {e : Env} {R : Room} {s : State} {m : MethodId} {args : Array Value} {below : List Frame} {meth : Method} {c : Code} {T : State} {locs : List Loc} {cells slots : Nat} (X : Stand p l e R s m args below meth c T locs cells slots) (a : Addr) {g : JFrame} (hg : g.method = m) {cell : Cell} (hcell : T.heap[a]? = some cell) (hobj : cell.vm.isStatics = false) (hk0 : ∃ k, s.vm.classes[cell.cls]? = some k)
    (pre : List ExceptionTableEntry) {x : ExceptionTableEntry} {rest : List ExceptionTableEntry} (hsplit : c.exceptionTable.toList = pre ++ x :: rest) (hp : ∀ y ∈ pre, zPass s e.platform m.cls g.pc cell.cls false y) (hx : zPass s e.platform m.cls g.pc cell.cls true x) :
    ∃ vm', Stand p l e R s m args below meth c (T.setVm vm') locs cells slots ∧ ∀ target, Steps p.tables e below ((T.setVm vm').setTop { g with pc := x.handlerPc, stack := [.ref a] }) target → Steps p.tables e below ((T.setTop g).pushFrame (.throwing a)) target := by
  subst hg
  have hS1 : ((T.setTop g).pushFrame (.throwing a)).vm = T.vm := Stand.throwing_vm T g a
  have hS2 : ((T.setTop g).pushFrame (.throwing a)).heap = T.heap := Stand.throwing_heap T g a
  obtain ⟨vm', hW', hf⟩ := zgo (e := e) (s := s) (f := g) (a := a) (rest := rest) (fun k h => by rw [h] at hobj; cases hobj) hk0 hx pre ((T.setTop g).pushFrame (.throwing a)) (by rw [hS1]; exact X.warmed) (by rw [hS2]; exact hcell) hp
  refine ⟨vm', X.noted hW', fun target hrest => ?_⟩
  have hm' : ((T.setTop g).pushFrame (.throwing a)).vm.method? g.method = some meth := by rw [hS1]; exact X.method'
  have hfind : ∀ (Q : Handler → Pre) (E : CtlPost) (d : Bool) (acts : List Action), wp (findHandler g a) Q E e d acts ((T.setTop g).pushFrame (.throwing a)) ↔ Q (.found x.handlerPc) d acts (((T.setTop g).pushFrame (.throwing a)).setVm vm') := by
    intro Q E d acts
    rw [_root_.Jvm.W.findHandler_eq hm' X.code, hsplit]
    exact hf Q E d acts
  obtain ⟨hgo, hw⟩ := X.here.throwing a
  refine Steps.head hgo hw ?_
  obtain ⟨g₀, hg0⟩ := Option.isSome_iff_exists.mp X.here.top
  obtain ⟨r, hr⟩ := State.topJava?_eq_some.mp hg0
  have hst : (stepThrowing e ((T.setTop g).pushFrame (.throwing a)) a (.java g :: T.frames.tail)).Is ((((T.setTop g).pushFrame (.throwing a)).setVm vm').setFrames (.java { g with pc := x.handlerPc, stack := [.ref a] } :: T.frames.tail)) [] := by
    simp only [stepThrowing, searchFrame, vmDo]
    generalize hres : Sem.go _ e false [] _ = res
    obtain ⟨as, rfl, ha⟩ := Sem.eq_ok_of hres (a := Handler.found x.handlerPc) (s' := ((T.setTop g).pushFrame (.throwing a)).setVm vm') (acts' := []) (by simp [hfind _ _ _ _])
    exact ⟨rfl, ha⟩
  rw [stepThread_throwing (frames_entered X.here.top _), hst.1]
  have hr' : (T.setVm vm').frames = .java g₀ :: r := hr
  rw [State.setTop_of_frames _ hr'] at hrest
  rw [hr, List.tail_cons, State.pushFrame, z_sfv, State.setTop_of_frames _ hr, z_sfv]
  exact hrest
