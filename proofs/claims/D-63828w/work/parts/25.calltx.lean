/-! calls of methods that throw -/
section ZBX
variable {l : Launch} {R : Room} {p : Program} {e : Env} {below : List Frame} {s : State} {sargs : Array Value} {y : MethodName} {W : Nat}
theorem zbackX {ws : List Cond} {rm : Room} {Pc : Array Value → State → Prop} {Qc : Array Value → State → Outcome → State → Prop} {mc ms : Nat} {free : Addr → Prop} {bytes : ByteArray} {maxL : Nat} {ret : Option FieldType}
    (hM : MetX l y ws rm Pc Qc mc ms free) (hblind : FrameBlind Pc) (hrc : rm.cells = mc) (hrs : rm.slots = ms)
    (hframes : rm.frames + 1 ≤ R.frames) (hlocals : W + (maxL + 11) + rm.locals ≤ R.locals)
    (hws : ∀ w ∈ ws, ∀ a' U, s.WarmedH U.vm → w.before a' U = true) (hcode : Cond.code y bytes maxL ret ∈ ws) (hinit : ∀ a' U, s.WarmedH U.vm → (Cond.initialized y.cls).before a' U = true)
    {m : MethodId} {meth : Method} {c : Code} {U : State} {Ls : List Loc} {c0 s0 : Nat} {g : JFrame} {ig : Instr} {len : Nat} {mk : MethodId} {a : Array Value}
    (X : Stand p l e R s m sargs below meth c U Ls c0 s0) (hg : g.method = m) (hsize : g.locals.size = c.maxLocals) (hdg : decode c.code g.pc = .ok (ig, len)) (hW : 2 * g.monitorRoom + (g.stack.map fun v => v.category).sum ≤ W) (hn : U.methodNamed? y = some mk)
    (hcells : c0 + mc ≤ R.cells) (hslots : s0 + ms ≤ R.slots) (hPc : Pc a U) :
    ∃ (x : Addr) (t T' : State) (L : List Loc), Stand p l e R s m sargs below meth c T' (Ls ++ L) (c0 + mc) (s0 + ms) ∧ T'.heap = t.heap ∧ T'.vm = t.vm ∧ Qc a (U.calling g mk a) (.threw x) t ∧ (∀ q ∈ L, free q.base) ∧
      Steps p.tables e below (doInvoke e (U.setTop g) [] mk a).1 ((T'.setTop g).pushFrame (.throwing x)) := by
  have h1 : (headSpec ws rm).pre.before a U = true := atoms_intro fun w hw => hws w hw _ _ X.warmed
  have h2 := hws _ hcode a U X.warmed
  have h3 := hinit a U X.warmed
  obtain ⟨methY, cY, hmY, hcY, -, hlY, -, -, -, -⟩ := Cond.code_spec hn h2
  obtain ⟨kY, hkY, -⟩ := className_of_methodNamed hn
  have hinitY : kY.init = .initialized := Cond.initialized_spec (findClass_of_methodNamed hn) hkY h3
  have h : At U g.method c below := by rw [hg]; exact X.here
  have happ : (headSpec ws rm).appliesLoose y e.platform (U.calling g mk a) = true :=
    Spec.appliesLoose_calling (g := g) h hdg hn hkY hinitY
      (X.room_calling (g := g) (R' := (headSpec ws rm).room) hsize hmY hcY hframes (by rw [hlY]; show 2 * g.monitorRoom + _ + _ + rm.locals ≤ _; omega) (by show c0 + rm.cells ≤ _; rw [hrc]; exact hcells) (by show s0 + rm.slots ≤ _; rw [hrs]; exact hslots)) h1
  obtain ⟨mid, hmid⟩ := h.above
  have hfr : (U.setTop g).frames = (.java g :: mid) ++ below := by rw [State.frames_setTop' g h.top, hmid]; rfl
  obtain ⟨o, s₂, hsteps, -, hend, hq⟩ := Steps.callFree hM p X.admits X.cas X.clock (acts := []) hfr happ (hblind a U g mk hPc) trivial
  rw [State.frames_setTop' g h.top, X.tail] at hend
  obtain ⟨hq, L, ⟨⟨x, rfl⟩, hW2, hsame⟩, hL⟩ := hq
  obtain ⟨T', X', -, -, ht⟩ := X.outOfThrown hg hend hW2 hsame
  refine ⟨x, s₂, T', L, X', ?_, ?_, hq, hL, ?_⟩
  · rw [ht]; exact (Stand.throwing_heap T' g x).symm
  · rw [ht]; exact (Stand.throwing_vm T' g x).symm
  · rw [← ht]; exact hsteps
end ZBX
section ZCX
variable {p : Program} {l : Launch} {e : Env} {R : Room} {s : State} {m : MethodId} {args : Array Value} {below : List Frame} {meth : Method} {c : Code} {H : Heap} {locs : List Loc} {cells slots mc ms : Nat}
  {cc bytes : ByteArray} {nL maxL index n pc : Nat} {own cls : String} {y : MethodName} {ret : Option FieldType} {rm : Room} {b : Addr} {As rest : List Value} {ls : Array Slot} {G : zG} {wc : va_W} {A : Nat → Prop}
/-- a virtual call that throws: the frame stands, the note above it; nothing old has changed -/
theorem zrunX (S : CallFix p m c cc nL s args lw_ok own) (hN : zN s) (hTs : zTs s) (hnA : ∀ (a : Nat) (cell : Cell), s.heap[a]? = some cell → cell.vm.isStatics = true → ¬ A a) (hS : va_S A s.heap H locs) (hK : va_K G.1 classes (zty G) s)
    (hM : MetX l y (Cond.code y bytes maxL ret :: lw_ok) rm (zPcX G H.size (.ref b :: As) wc) (zQx cls) mc ms (fun q => H.size ≤ q))
    (hrm : rm.cells = mc ∧ rm.slots = ms) (kv : zKV own index y bytes maxL ret n) (hR : rm.frames + 1 ≤ R.frames ∧ 8 + (maxL + 11) + rm.locals ≤ R.locals) (q0 : Nat) {ci : Nat} {fs : List Value} (hrecv : wc[q0]? = some (b, .inr (ci, fs))) {T : u_T} {N : Nat} (hci : classes[ci]? = some (y.cls, T, N))
    (hn : As.length = n) (hsize : ls.size = nL) (hroom : (rest.map fun v => v.category).sum ≤ 8) (hd : decode cc pc = .ok (.invokevirtual index, 3)) (hf : cells + mc ≤ R.cells ∧ slots + ms ≤ R.slots) (hPc : va_P G.1 classes wc H) {A1 : Nat → Prop} (hDc : va_D A1 wc) :
    ∀ T : State, T.heap = H → Stand p l e R s m args below meth c T locs cells slots → ∃ (x : Addr) (T' : State), Stand p l e R s m args below meth c T' locs (cells + mc) (slots + ms) ∧ zX cls x T' ∧ H.size ≤ T'.heap.size ∧ (∀ q : Nat, q < H.size → T'.heap[q]? = H[q]?) ∧
      ∀ target, Steps p.tables e below ((T'.setTop (F0 m pc ls rest)).pushFrame (.throwing x)) target → Steps p.tables e below (T.setTop (F0 m pc ls (As.reverse ++ .ref b :: rest))) target := by
  obtain ⟨k1, k2, k3, k4, k5, k6, k7, k8⟩ := kv
  obtain ⟨hx, hb, hml, hown, hts⟩ := S
  intro T hT X
  obtain ⟨cellB, hcB, hoB, hclB⟩ := va_recv (q := (y.cls, _, _)) hK hPc hci hrecv
  obtain ⟨mk, methM, hnamed, hmethM, hstM, habM⟩ := Cond.instanceMethod_spec (hts _ k2)
  obtain ⟨methM', cM, hmethM', -, -, -, -, -, -, hsigM⟩ := Cond.code_spec hnamed (hts _ k5)
  cases hmethM.symm.trans hmethM'
  obtain ⟨c2, r2, m2, q1, q2, q3, q4, kP, hkP, hkPi⟩ := Cond.selects_spec (hts _ k3)
  cases hclB.symm.trans q1
  cases (State.methodFound?_of_named hnamed ⟨k6, k7⟩).symm.trans q2
  cases hnamed.symm.trans q3
  have hselP : selectMethod e.platform s.vm cellB.cls mk = .method mk := by rw [Launch.admits_selectMethod X.admits]; exact q4
  have hlen : As.length = methM.sig.parameters.length := by
    have h9 := k8
    rw [hsigM] at h9
    rw [hn]
    exact (Option.some.inj h9).symm
  obtain ⟨vm₁, X₁, hstep₁⟩ := X.invokevirtual hx hown (hts _ k1) hnamed hmethM hstM hkP hkPi ⟨k6, k7⟩ (a := b) (cell := cellB) (by rw [hT]; exact hcB)
    (fun z h => by rw [h] at hoB; cases hoB) hselP hmethM habM hkP hkPi (g := F0 m pc ls (As.reverse ++ .ref b :: rest)) rfl (argsL := As) (rest := rest) hlen rfl (by rw [hb]; exact hd)
  have hU1 : (T.setVm vm₁).heap = H := hT
  have hTs1 : zTs (T.setVm vm₁) := zTs.go (s := s) (U := T.setVm vm₁) X₁.warmed.alike (fun a cell hc hst => by
    rw [hU1, hS.2.1 a (Array.getElem?_eq_some_iff.mp hc).1 (hnA a cell hc hst)]; exact hc) hTs
  obtain ⟨x, t, T', L, X', e1, e2, ⟨a, ha, hzx, hz1, hz2⟩, hL, hst⟩ := zbackX (W := 8) hM zPcX.blind hrm.1 hrm.2 hR.1 hR.2 (z_words hts k5) List.mem_cons_self (fun a' U hW => word_at hW (Or.inl (by first | rfl | simp [Cond.onTables, Cond.keeps, Cond.steady])) (hts _ k4))
    (g := F0 m pc ls rest) (a := (Value.ref b :: As).toArray) X₁ rfl (hsize.trans hml.symm) (by rw [hb]; exact hd) (lv_room hroom) (X₁.named hnamed) hf.1 hf.2
    ⟨rfl, by rw [hU1], zN.warm X₁.warmed hN, hTs1, by rw [hU1]; exact hPc, va_K.moved X₁.warmed.alike hK, hDc.weaken (fun _ _ _ _ => trivial)⟩
  cases ha
  have hU2 : ((T.setVm vm₁).calling (F0 m pc ls rest) mk (Value.ref b :: As).toArray).heap = H := hT
  rw [hU2] at hz1 hz2
  obtain ⟨cell, g1, g2, g3, g4⟩ := hzx
  exact ⟨x, T', Stand.forget (extra := L) X' (fun q hq => Nat.le_trans hS.1 (hL q hq)), ⟨cell, by rw [e1]; exact g1, g2, by rw [e2]; exact g3, by rw [e2]; exact g4⟩, by rw [e1]; exact hz1, fun q hq => by rw [e1]; exact hz2 q hq,
    fun target h => hstep₁ _ fun acts => by rw [doInvoke_state]; exact hst.trans h⟩
/-- .. and the caller, that has no handler, throws on -/
theorem zprop {Q : State → Prop} {mq mqs : Nat} (hQ : Q = MQX below (zQx cls) args s mq mqs (fun q => s.heap.size ≤ q)) (hqc : cells + mc ≤ mq) (hqs : slots + ms ≤ mqs) (hlk : meth.locks = false) (hnh : c.exceptionTable.toList = []) (hS : va_S A s.heap H locs) (hL : ∀ q ∈ locs, s.heap.size ≤ q.base)
    (hr : ∀ T : State, T.heap = H → Stand p l e R s m args below meth c T locs cells slots → ∃ (x : Addr) (T' : State), Stand p l e R s m args below meth c T' locs (cells + mc) (slots + ms) ∧ zX cls x T' ∧ H.size ≤ T'.heap.size ∧ (∀ q : Nat, q < H.size → T'.heap[q]? = H[q]?) ∧
      ∀ target, Steps p.tables e below ((T'.setTop (F0 m pc ls rest)).pushFrame (.throwing x)) target → Steps p.tables e below (T.setTop (F0 m pc ls (As.reverse ++ .ref b :: rest))) target) :
    W p l e R s m args below meth c H locs cells slots Q (F0 m pc ls (As.reverse ++ .ref b :: rest)) := by
  subst hQ
  refine va_forget hL ?_
  intro T hT X0
  have X : Stand p l e R s m args below meth c T locs cells slots := { X0 with same := X0.same.weaken (fun y hy _ => absurd hy List.not_mem_nil) (Nat.le_refl _) (Nat.le_refl _) }
  obtain ⟨x, T', X', ⟨cell, g1, g2, g3, g4⟩, h1, h2, st⟩ := hr T hT X
  have X2 : Stand p l e R s m args below meth c T' [] mq mqs := stand_widen (Stand.forget (locs := []) X' hL) hqc hqs
  obtain ⟨w1, w2, w3, w4, w5⟩ := X2.leaveThrown x (g := F0 m pc ls rest) rfl rfl rfl (by rw [hnh]; exact fun x h => absurd h List.not_mem_nil) hlk
  obtain ⟨z1, z2⟩ := z_old w5
  exact ⟨_, st _ w1, .threw x, w2, w3, ⟨x, rfl, ⟨cell, g1, g2, g3, g4⟩, z1, z2⟩, [], ⟨⟨_, rfl⟩, w4, w5⟩, fun _ h => absurd h List.not_mem_nil⟩
end ZCX
