/-! methods with handlers -/
def zKW (own : String) (index : Nat) (y : MethodName) (bytes : ByteArray) (maxL : Nat) (ret : Option FieldType) (hh : List (Nat × Nat × Nat × Nat)) (n : Nat) : Prop :=
  Cond.methodLink own index y ∈ lw_ok ∧ Cond.static y ∈ lw_ok ∧ Cond.initialized y.cls ∈ lw_ok ∧ Cond.codeWith y bytes maxL ret hh ∈ lw_ok ∧ zMH y n
theorem zMetW {l : Launch} {G : zG} {y : MethodName} {cc : ByteArray} {maxL : Nat} {ret : Option FieldType} {hh : List (Nat × Nat × Nat × Nat)} {rm : Room} {sz : Nat} {av : List Value} {ws : va_W} {Qc : (Nat → Prop) → Array Value → State → Outcome → State → Prop} {mc ms : Nat}
    (hy : plainName y.cls = true) (hav : (lg_sl av).length ≤ maxL)
    (body : ∀ (p : Program) (e : Env) (s : State) (m : MethodId) (below : List Frame) (meth : Method) (c : Code) (A : Nat → Prop) (ls : Array Slot) (Q : State → Prop) (H : Heap) (locs : List Loc), zC p s m av.toArray meth c y cc maxL ret → c.exceptionTable.toList = hh.map (fun h => ⟨h.1, h.2.1, h.2.2.1, h.2.2.2⟩) → zTs s → (∀ (a : Nat) (cell : Cell), s.heap[a]? = some cell → cell.vm.isStatics = true → ¬ A a) →
      zN s → va_K G.1 classes (zty G) s → va_P G.1 classes ws H → va_D A ws → va_S A s.heap H locs → (∀ q, s.heap.size ≤ q → A q) →
      lv_has ls maxL (lv_args 0 av) → Q = MQ below (Qc A) av.toArray s mc ms A → W p l e rm s m av.toArray below meth c H locs 0 0 Q (F0 m 0 ls [])) :
    Met l y (Cond.codeWith y cc maxL ret hh :: lw_ok) rm (zPcX G sz av ws) (Qc (va_A ws sz)) mc ms (va_A ws sz) := by
  refine va_MetW (cc := cc) (maxL := maxL) (ret := ret) (hh := hh) hy rfl ?_
  intro p e s m args below meth c s₁ B hml hv
  obtain ⟨rfl, hsz, hN, hTs, hP, hK, hD0⟩ := hv
  have hts := atoms_spec (ws := Cond.codeWith y cc maxL ret hh :: lw_ok) B.pre
  have hl := lv_entry av (n := maxL) hav
  have hns := z_nstat hP hsz
  obtain ⟨m9, meth9, c9, q1, q2, q3, -, -, q4, -, -, -⟩ := Cond.codeWith_spec (hts _ List.mem_cons_self)
  cases B.named.symm.trans q1
  cases B.method.symm.trans q2
  cases (Stand.of_body B).code.symm.trans q3
  have hex : c.exceptionTable.toList = hh.map (fun h => ⟨h.1, h.2.1, h.2.2.1, h.2.2.2⟩) := by
    rw [← q4, List.map_map]
    exact (List.map_id _).symm
  subst hsz
  rw [lg_entry_eq]
  exact body p e s m below meth c _ _ _ _ _ ⟨B.exec, B.bytes, B.returns, fun w h => hts w (List.mem_cons_of_mem _ h), findClass_of_methodNamed B.named, B.notSynchronized, hml, (name_of_methodNamed B.named B.method).1⟩ hex hTs hns hN hK hP (hD0.self (sz := s.heap.size)) va_S.rf (fun q h => Or.inr h) hl rfl
section ZCATCH
variable {p : Program} {l : Launch} {e : Env} {R : Room} {s : State} {m : MethodId} {args : Array Value} {below : List Frame} {meth : Method} {c : Code} {H : Heap} {locs : List Loc} {cells slots mc ms : Nat} {Q : State → Prop}
  {cc bytes : ByteArray} {nL maxL index n pc : Nat} {own cls : String} {y : MethodName} {ret : Option FieldType} {rm : Room} {b : Addr} {As rest : List Value} {ls : Array Slot} {G : zG} {ws wc : va_W} {A : Nat → Prop}
theorem zcatch (hts : ∀ w ∈ lw_ok, w.before args s = true) (hN : zN s) (hown : s.vm.findClass own = some m.cls) (hP : va_P G.1 classes ws H) (hS : va_S A s.heap H locs)
    (hr : ∀ T : State, T.heap = H → Stand p l e R s m args below meth c T locs cells slots → ∃ (x : Addr) (T' : State), Stand p l e R s m args below meth c T' locs (cells + mc) (slots + ms) ∧ zX cls x T' ∧ H.size ≤ T'.heap.size ∧ (∀ q : Nat, q < H.size → T'.heap[q]? = H[q]?) ∧
      ∀ target, Steps p.tables e below ((T'.setTop (F0 m pc ls rest)).pushFrame (.throwing x)) target → Steps p.tables e below (T.setTop (F0 m pc ls (As.reverse ++ .ref b :: rest))) target)
    (pre : List ExceptionTableEntry) {x : ExceptionTableEntry} {post : List ExceptionTableEntry} (hsplit : c.exceptionTable.toList = pre ++ x :: post)
    (hpre : ∀ z ∈ pre, covers z pc = true ∧ z.catchType ≠ 0 ∧ ∃ nm, Cond.classLink own z.catchType nm ∈ lw_ok ∧ va_Nc cls nm s) (hx1 : covers x pc = true) (hx2 : x.catchType ≠ 0) (hx3 : Cond.classLink own x.catchType cls ∈ lw_ok) (hcast : Cond.castable cls cls ∈ lw_tbl) (hins : Cond.instantiable cls 6 ∈ lw_ok)
    (kk : ∀ (a : Nat) (H1 : Heap), va_P G.1 classes ws H1 → va_S A s.heap H1 locs → W p l e R s m args below meth c H1 locs (cells + mc) (slots + ms) Q (F0 m x.handlerPc ls [.ref a])) :
    W p l e R s m args below meth c H locs cells slots Q (F0 m pc ls (As.reverse ++ .ref b :: rest)) := by
  intro T hT X
  obtain ⟨a, T', X', ⟨cell, g1, g2, g3, g4⟩, h1, h2, st⟩ := hr T hT X
  have hpl : e.platform.magicAccessors = ({} : Platform).magicAccessors := by rw [X.admits.platform]
  have gs : s.vm.findClass cls = some cell.cls := by rw [← X'.warmed.alike.findClass]; exact g3
  obtain ⟨c1, k1, hc1, hk1, -⟩ := Cond.instantiable_spec (hts _ hins)
  cases hc1.symm.trans gs
  obtain ⟨c3, c4, hc3, hc4, hasg⟩ := Cond.castable_spec (hN _ hcast rfl)
  cases hc3.symm.trans gs
  cases hc4.symm.trans gs
  obtain ⟨c5, hc5, hl5⟩ := Cond.classLink_spec hown (hts _ hx3) e.platform hpl
  cases hc5.symm.trans gs
  obtain ⟨vm', X2, st2⟩ := zcaught X' a (g := F0 m pc ls rest) rfl g1 g2 ⟨k1, hk1⟩ pre hsplit (fun z hz => by
    obtain ⟨z1, z2, nm, z3, ci, ti, n1, n2, n3⟩ := hpre z hz
    cases n1.symm.trans gs
    obtain ⟨c6, hc6, hl6⟩ := Cond.classLink_spec hown (hts _ z3) e.platform hpl
    cases hc6.symm.trans n2
    exact ⟨z1, z2, _, hl6, n3⟩) ⟨hx1, hx2, cell.cls, hl5, hasg⟩
  have hH : (T'.setVm vm').heap = T'.heap := rfl
  obtain ⟨t, a1, b1⟩ := kk a T'.heap (hP.kept (fun k q hk => h2 q.1 ((hP k q hk).lt))) ⟨Nat.le_trans hS.1 h1, fun q q1 q2 => by rw [h2 q (Nat.lt_of_lt_of_le q1 hS.1)]; exact hS.2.1 q q1 q2, hS.2.2⟩ (T'.setVm vm') hH X2
  exact ⟨t, st t (st2 t a1), b1⟩
theorem zrunSW {hh : List (Nat × Nat × Nat × Nat)} {Qc : Array Value → State → Outcome → State → Prop} {free : Addr → Prop} (S : CallFix p m c cc nL s args lw_ok own) (hN : zN s) (hTs : zTs s) (hnA : ∀ (a : Nat) (cell : Cell), s.heap[a]? = some cell → cell.vm.isStatics = true → ¬ A a) (hS : va_S A s.heap H locs) (hK : va_K G.1 classes (zty G) s)
    (hM : Met l y (Cond.codeWith y bytes maxL ret hh :: lw_ok) rm (zPcX G H.size As wc) Qc mc ms free)
    (hrm : rm.cells = mc ∧ rm.slots = ms) (kv : zKW own index y bytes maxL ret hh n) (hR : rm.frames + 1 ≤ R.frames ∧ 8 + (maxL + 11) + rm.locals ≤ R.locals)
    (hn : As.length = n) (hsize : ls.size = nL) (hroom : (rest.map fun v => v.category).sum ≤ 8) (hd : decode cc pc = .ok (.invokestatic index, 3)) (hf : cells + mc ≤ R.cells ∧ slots + ms ≤ R.slots) (hPc : va_P G.1 classes wc H) {A1 : Nat → Prop} (hDc : va_D A1 wc) :
    va_Run p l e R s m args below meth c H locs cells slots mc ms (F0 m pc ls (As.reverse ++ rest)) rest (Qc As.toArray) free := by
  obtain ⟨k1, k2, k4, k5, k6, k7, k8⟩ := kv
  obtain ⟨hx, hb, hml, hown, hts⟩ := S
  have hK0 : Back l R p e below s args y 3 8 (PreOf R mc ms (zPcX G H.size As wc)) (PostOf Qc mc ms free) :=
    va_backW (bytes := bytes) (maxL := maxL) (ret := ret) (hh := hh) hM zPcX.blind hrm.1 hrm.2 hR.1 hR.2 (z_words hts k5) List.mem_cons_self (fun a' U hW => word_at hW (Or.inl (by first | rfl | simp [Cond.onTables, Cond.keeps, Cond.steady])) (hts _ k4))
  intro T hT X
  obtain ⟨m9, meth9, c9, hnamed, hmethM, -, -, -, -, -, -, hsigM⟩ := Cond.codeWith_spec (hts _ k5)
  have hstatic : meth9.isStatic = true := Cond.static_spec hnamed hmethM (hts _ k2)
  obtain ⟨kP, hkP, -⟩ := className_of_methodNamed hnamed
  have hinitP : kP.init = .initialized := Cond.initialized_spec (findClass_of_methodNamed hnamed) hkP (hts _ k4)
  have hlen : As.length = meth9.sig.parameters.length := by
    have h9 := k8
    rw [hsigM] at h9
    rw [hn]
    exact (Option.some.inj h9).symm
  obtain ⟨vm₁, X₁, hstep₁⟩ := X.invokestatic hx hown (hts _ k1) hnamed hmethM hstatic hkP hinitP ⟨k6, k7⟩ (g := F0 m pc ls (As.reverse ++ rest)) rfl (argsL := As) (rest := rest) hlen rfl (by rw [hb]; exact hd)
  have hU1 : (T.setVm vm₁).heap = H := hT
  have hTs1 : zTs (T.setVm vm₁) := zTs.go (s := s) (U := T.setVm vm₁) X₁.warmed.alike (fun a cell hc hst => by
    rw [hU1, hS.2.1 a (Array.getElem?_eq_some_iff.mp hc).1 (hnA a cell hc hst)]; exact hc) hTs
  obtain ⟨v, ⟨U', l2, c2, s2⟩, X', ⟨g', mk, t, L, e1, e2, hq, h1, hL, h2, h3⟩, hsteps⟩ := hK0 m meth c ⟨T.setVm vm₁, locs, cells, slots⟩ (F0 m pc ls rest) (.invokestatic index) m9 As.toArray X₁ rfl (hsize.trans hml.symm) (by rw [hb]; exact hd) (lv_room hroom) (X₁.named hnamed)
    ⟨hf.1, hf.2, rfl, by rw [hU1], zN.warm X₁.warmed hN, hTs1, by rw [hU1]; exact hPc, va_K.moved X₁.warmed.alike hK, hDc.weaken (fun _ _ _ _ => trivial)⟩
  dsimp only [Pt.U, Pt.locs, Pt.cells, Pt.slots] at X' e1 e2 h1 h2 h3 hsteps
  subst h1; subst h2; subst h3
  exact ⟨v, (T.setVm vm₁).calling g' mk As.toArray, t, U', L, hT, X', hL, e1, e2, hq, fun target h => hstep₁ _ fun acts => by rw [doInvoke_state]; exact hsteps.trans h⟩
end ZCATCH
