/-! calls -/
abbrev zMH (y : MethodName) (n : Nat) : Prop := y.cls ≠ "java/lang/invoke/MethodHandle" ∧ y.cls ≠ "java/lang/invoke/VarHandle" ∧ (parseMethodDescriptor y.desc).map (fun d => d.parameters.length) = some n
def zKV (own : String) (index : Nat) (y : MethodName) (bytes : ByteArray) (maxL : Nat) (ret : Option FieldType) (n : Nat) : Prop :=
  Cond.methodLink own index y ∈ lw_ok ∧ Cond.instanceMethod y ∈ lw_ok ∧ Cond.selects y.cls y y ∈ lw_ok ∧ Cond.initialized y.cls ∈ lw_ok ∧ Cond.code y bytes maxL ret ∈ lw_ok ∧ zMH y n
def zKS (own : String) (index : Nat) (y : MethodName) (bytes : ByteArray) (maxL : Nat) (ret : Option FieldType) (n : Nat) : Prop :=
  Cond.methodLink own index y ∈ lw_ok ∧ Cond.static y ∈ lw_ok ∧ Cond.initialized y.cls ∈ lw_ok ∧ Cond.code y bytes maxL ret ∈ lw_ok ∧ zMH y n
def zKI (own : String) (index : Nat) (y : MethodName) (bytes : ByteArray) (maxL : Nat) (n : Nat) : Prop :=
  Cond.methodLink own index y ∈ lw_ok ∧ Cond.instanceMethod y ∈ lw_ok ∧ Cond.initialized y.cls ∈ lw_ok ∧ Cond.code y bytes maxL none ∈ lw_ok ∧ y.name = "<init>" ∧ zMH y n
def zKA (own : String) (index : Nat) (x y : MethodName) (bytes : ByteArray) (maxL : Nat) (ret : Option FieldType) (n : Nat) : Prop :=
  Cond.methodLink own index x ∈ lw_ok ∧ Cond.sameMethod x.cls x.cls x.name x.desc ∈ lw_ok ∧ Cond.selects y.cls x y ∈ lw_ok ∧ Cond.instanceMethod y ∈ lw_ok ∧ Cond.initialized y.cls ∈ lw_ok ∧ Cond.code y bytes maxL ret ∈ lw_ok ∧ Cond.declares x ∈ lw_tbl ∧ zMH x n
theorem z_words {s : State} {args : Array Value} (hts : ∀ w ∈ lw_ok, w.before args s = true) {cw : Cond} (hc : cw ∈ lw_ok) : ∀ w ∈ cw :: lw_ok, ∀ (a' : Array Value) (U : State), s.WarmedH U.vm → w.before a' U = true := by
  intro w hw a' U hW
  have hm : w ∈ lw_ok := by
    rcases List.mem_cons.mp hw with rfl | h
    · exact hc
    · exact h
  exact word_at hW (good_of_word (z_good hm).2) (hts w hm)
section ZRUN
variable {p : Program} {l : Launch} {e : Env} {R : Room} {s : State} {m : MethodId} {args : Array Value} {below : List Frame} {meth : Method} {c : Code} {H : Heap} {locs : List Loc} {cells slots mc ms : Nat}
  {cc bytes : ByteArray} {nL maxL index n pc : Nat} {own : String} {y : MethodName} {ret : Option FieldType} {rm : Room} {Qc : Array Value → State → Outcome → State → Prop} {b : Addr} {As rest : List Value} {ls : Array Slot} {G : zG} {wc : va_W} {A : Nat → Prop} {free : Addr → Prop}
theorem zrunV (S : CallFix p m c cc nL s args lw_ok own) (hN : zN s) (hK : va_K G.1 classes (zty G) s) (hM : Met l y (Cond.code y bytes maxL ret :: lw_ok) rm (zPc G H.size (.ref b :: As) wc) Qc mc ms free)
    (hrm : rm.cells = mc ∧ rm.slots = ms) (kv : zKV own index y bytes maxL ret n) (hR : rm.frames + 1 ≤ R.frames ∧ 8 + (maxL + 11) + rm.locals ≤ R.locals) (q0 : Nat) {ci : Nat} {fs : List Value} (hrecv : wc[q0]? = some (b, .inr (ci, fs))) {T : u_T} {N : Nat} (hci : classes[ci]? = some (y.cls, T, N))
    (hn : As.length = n) (hsize : ls.size = nL) (hroom : (rest.map fun v => v.category).sum ≤ 8) (hd : decode cc pc = .ok (.invokevirtual index, 3)) (hf : cells + mc ≤ R.cells ∧ slots + ms ≤ R.slots) (hPc : va_P G.1 classes wc H) (hDc : va_D A wc) :
    va_Run p l e R s m args below meth c H locs cells slots mc ms (F0 m pc ls (As.reverse ++ .ref b :: rest)) rest (Qc (Value.ref b :: As).toArray) free := by
  obtain ⟨k1, k2, k3, k4, k5, k6, k7, k8⟩ := kv
  obtain ⟨hx, hb, hml, hown, hts⟩ := S
  have cb : CallB R s args own index y bytes maxL ret (Cond.code y bytes maxL ret :: lw_ok) rm mc ms n := ⟨hrm.1, hrm.2, hR.1, hR.2, z_words hts k5, List.mem_cons_self, hts _ k5, hts _ k4, ⟨k6, k7⟩, fun sig h => by rw [h] at k8; exact (Option.some.inj k8).symm, hts _ k1⟩
  refine va_runV (As := As) (rest := rest) ⟨hx, hb, hml, hown, hts⟩ hM (C := y.cls) ⟨cb, hts _ k2, hts _ k3⟩ ⟨zPc.blind, va_recv (q := (y.cls, T, N)) hK hPc hci hrecv, fun U hU hW => ⟨rfl, by rw [hU], zN.warm hW hN, by rw [hU]; exact hPc, va_K.moved hW.alike hK, hDc.weaken (fun _ _ _ _ => trivial)⟩⟩ rfl hn hsize rfl (lv_room hroom) hd hf
theorem zrunS (S : CallFix p m c cc nL s args lw_ok own) (hN : zN s) (hK : va_K G.1 classes (zty G) s) (hM : Met l y (Cond.code y bytes maxL ret :: lw_ok) rm (zPc G H.size As wc) Qc mc ms free)
    (hrm : rm.cells = mc ∧ rm.slots = ms) (kv : zKS own index y bytes maxL ret n) (hR : rm.frames + 1 ≤ R.frames ∧ 8 + (maxL + 11) + rm.locals ≤ R.locals)
    (hn : As.length = n) (hsize : ls.size = nL) (hroom : (rest.map fun v => v.category).sum ≤ 8) (hd : decode cc pc = .ok (.invokestatic index, 3)) (hf : cells + mc ≤ R.cells ∧ slots + ms ≤ R.slots) (hPc : va_P G.1 classes wc H) (hDc : va_D A wc) :
    va_Run p l e R s m args below meth c H locs cells slots mc ms (F0 m pc ls (As.reverse ++ rest)) rest (Qc As.toArray) free := by
  obtain ⟨k1, k2, k4, k5, k6, k7, k8⟩ := kv
  obtain ⟨hx, hb, hml, hown, hts⟩ := S
  have cb : CallB R s args own index y bytes maxL ret (Cond.code y bytes maxL ret :: lw_ok) rm mc ms n := ⟨hrm.1, hrm.2, hR.1, hR.2, z_words hts k5, List.mem_cons_self, hts _ k5, hts _ k4, ⟨k6, k7⟩, fun sig h => by rw [h] at k8; exact (Option.some.inj k8).symm, hts _ k1⟩
  refine va_runS (As := As) (rest := rest) ⟨hx, hb, hml, hown, hts⟩ hM ⟨cb, hts _ k2⟩ ⟨zPc.blind, fun U hU hW => ⟨rfl, by rw [hU], zN.warm hW hN, by rw [hU]; exact hPc, va_K.moved hW.alike hK, hDc.weaken (fun _ _ _ _ => trivial)⟩⟩ rfl hn hsize rfl (lv_room hroom) hd hf
theorem zrunI (S : CallFix p m c cc nL s args lw_ok own) (hN : zN s) (hK : va_K G.1 classes (zty G) s) (hM : Met l y (Cond.code y bytes maxL none :: lw_ok) rm (zPc G H.size (.ref b :: As) wc) Qc mc ms free)
    (hrm : rm.cells = mc ∧ rm.slots = ms) (kv : zKI own index y bytes maxL n) (hR : rm.frames + 1 ≤ R.frames ∧ 8 + (maxL + 11) + rm.locals ≤ R.locals)
    (hn : As.length = n) (hsize : ls.size = nL) (hroom : (rest.map fun v => v.category).sum ≤ 8) (hd : decode cc pc = .ok (.invokespecial index, 3)) (hf : cells + mc ≤ R.cells ∧ slots + ms ≤ R.slots) (hPc : va_P G.1 classes wc H) (hDc : va_D A wc) :
    va_Run p l e R s m args below meth c H locs cells slots mc ms (F0 m pc ls (As.reverse ++ .ref b :: rest)) rest (Qc (Value.ref b :: As).toArray) free := by
  obtain ⟨k1, k2, k4, k5, k0, k6, k7, k8⟩ := kv
  obtain ⟨hx, hb, hml, hown, hts⟩ := S
  have cb : CallB R s args own index y bytes maxL none (Cond.code y bytes maxL none :: lw_ok) rm mc ms n := ⟨hrm.1, hrm.2, hR.1, hR.2, z_words hts k5, List.mem_cons_self, hts _ k5, hts _ k4, ⟨k6, k7⟩, fun sig h => by rw [h] at k8; exact (Option.some.inj k8).symm, hts _ k1⟩
  refine va_runI (As := As) (rest := rest) ⟨hx, hb, hml, hown, hts⟩ hM ⟨cb, k0, hts _ k2⟩ ⟨zPc.blind, fun U hU hW => ⟨rfl, by rw [hU], zN.warm hW hN, by rw [hU]; exact hPc, va_K.moved hW.alike hK, hDc.weaken (fun _ _ _ _ => trivial)⟩⟩ rfl hn hsize rfl (lv_room hroom) hd hf
theorem zrunA {x : MethodName} (S : CallFix p m c cc nL s args lw_ok own) (hN : zN s) (hK : va_K G.1 classes (zty G) s) (hM : Met l y (Cond.code y bytes maxL ret :: lw_ok) rm (zPc G H.size (.ref b :: As) wc) Qc mc ms free)
    (hrm : rm.cells = mc ∧ rm.slots = ms) (kv : zKA own index x y bytes maxL ret n) (hR : rm.frames + 1 ≤ R.frames ∧ 8 + (maxL + 11) + rm.locals ≤ R.locals) (q0 : Nat) {ci : Nat} {fs : List Value} (hrecv : wc[q0]? = some (b, .inr (ci, fs))) {T : u_T} {N : Nat} (hci : classes[ci]? = some (y.cls, T, N))
    (hn : As.length = n) (hsize : ls.size = nL) (hroom : (rest.map fun v => v.category).sum ≤ 8) (hd : decode cc pc = .ok (.invokevirtual index, 3)) (hf : cells + mc ≤ R.cells ∧ slots + ms ≤ R.slots) (hPc : va_P G.1 classes wc H) (hDc : va_D A wc) :
    va_Run p l e R s m args below meth c H locs cells slots mc ms (F0 m pc ls (As.reverse ++ .ref b :: rest)) rest (Qc (Value.ref b :: As).toArray) free := by
  obtain ⟨k1, k2, k3, k4, k5, k6, k7, k8, k9, k10⟩ := kv
  obtain ⟨hx, hb, hml, hown, hts⟩ := S
  have cu : va_CU R s args own y.cls x.cls index x y bytes maxL ret (Cond.code y bytes maxL ret :: lw_ok) rm mc ms n :=
    ⟨⟨hrm.1, hrm.2, hR.1, hR.2, z_words hts k6, List.mem_cons_self⟩, hts _ k6, hts _ k5, ⟨k8, k9⟩, fun sig h => by rw [h] at k10; exact (Option.some.inj k10).symm, hts _ k1, hts _ k2, va_Decl.abs (hN _ k7 rfl), hts _ k3, hts _ k4⟩
  refine va_runU (As := As) (rest := rest) ⟨hx, hb, hml, hown, hts⟩ hM cu ⟨zPc.blind, va_recv (q := (y.cls, T, N)) hK hPc hci hrecv, fun U hU hW => ⟨rfl, by rw [hU], zN.warm hW hN, by rw [hU]; exact hPc, va_K.moved hW.alike hK, hDc.weaken (fun _ _ _ _ => trivial)⟩⟩ rfl hn hsize rfl (lv_room hroom) hd hf
end ZRUN
theorem z_fm {α : Type} {ws ws' : List α} {is : List Nat} (h : is.map (fun i => ws[i]?) = ws'.map some) : is.filterMap (fun i => ws[i]?) = ws' := by
  have e : is.filterMap (fun i => ws[i]?) = (is.map (fun i => ws[i]?)).filterMap id := by rw [List.filterMap_map]; rfl
  rw [e, h, List.filterMap_map]
  exact List.filterMap_some
/-- behind a call: the caller's cells in their order again -/
theorem z_join {A0 : Nat → Prop} {G : zG} {ws wc wr w1 w2 : va_W} {H H1 : Heap} {t : State} (hP : va_P G.1 classes ws H) (hD : va_D A0 ws) (hF : ∀ q, va_A wc H.size q → A0 q) (isC isR isP : List Nat) (hC : isC.map (fun i => ws[i]?) = wc.map some) (hR : isR.map (fun i => ws[i]?) = wr.map some) (hn : va_nd isR = true) (hdis : ∀ i ∈ isR, i ∉ isC)
    (hM : isP.map (fun i => (wr ++ w1)[i]?) = w2.map some) (hnP : va_nd isP = true)
    (ht : t.heap = H1) (hk : ∀ q : Nat, q < H.size → ¬ va_A wc H.size q → H1[q]? = H[q]?) (hB : zB G (va_A wc H.size) w1 t) : va_P G.1 classes w2 H1 ∧ va_D A0 w2 := by
  obtain ⟨b1, b2⟩ := hB
  rw [ht] at b1
  obtain ⟨c1, c2⟩ := va_join hP hD isC isR hC hR hn hdis hk hF b1 b2
  exact ⟨c1.sub isP (z_fm hM), c2.sub isP hnP hM⟩
/-- a call that writes nothing that was there -/
theorem z_quiet {p : Program} {l : Launch} {e : Env} {R : Room} {s : State} {m : MethodId} {args : Array Value} {below : List Frame} {meth : Method} {c : Code} {H : Heap} {locs : List Loc} {cells slots mc ms : Nat} {g : JFrame} {rest : List Value} {Qa : State → Outcome → State → Prop} {A0 : Nat → Prop}
    (hS : va_S A0 s.heap H locs) (hr : va_Run p l e R s m args below meth c H locs cells slots mc ms g rest Qa (fun q => H.size ≤ q)) : ∀ T : State, T.heap = H → Stand p l e R s m args below meth c T locs cells slots → ∃ (v : Option Value) (st₀ t T' : State), st₀.heap = H ∧ Stand p l e R s m args below meth c T' locs (cells + mc) (slots + ms) ∧ T'.heap = t.heap ∧ T'.vm = t.vm ∧ Qa st₀ (.returned v) t ∧
    Goes p e below T g T' { g with pc := g.pc + 3, stack := v.toList ++ rest } := by
  intro T hT X
  obtain ⟨v, st₀, t, T', L, h0, X', hL, e1, e2, hq, st⟩ := hr T hT X
  exact ⟨v, st₀, t, T', h0, Stand.forget (extra := L) X' (fun q hq => Nat.le_trans hS.1 (hL q hq)), e1, e2, hq, st⟩
section ZCALL
variable {p : Program} {l : Launch} {e : Env} {R : Room} {s : State} {m : MethodId} {args : Array Value} {below : List Frame} {meth : Method} {c : Code} {H : Heap} {locs : List Loc} {cells slots mc ms : Nat} {Q : State → Prop}
  {pc : Nat} {ls : Array Slot} {rest st0 : List Value} {a : Array Value} {A0 : Nat → Prop} {H0 : Heap} {G : zG} {ws wc wr : va_W} {S : Type} {w1 w2 : S → va_W}
theorem zcalli {post : Int32 → S → Prop} (hr : va_P G.1 classes wc H → va_D A0 wc → va_Run p l e R s m args below meth c H locs cells slots mc ms (F0 m pc ls st0) rest (va_Qi post (fun u t => zB G (va_A wc H.size) (w1 u) t) (va_A wc H.size) a) (va_A wc H.size))
    (hP : va_P G.1 classes ws H) (hD : va_D A0 ws) (hS : va_S A0 H0 H locs) (hA : ∀ q, H0.size ≤ q → A0 q) (isC isR isP : List Nat) (hC : isC.map (fun i => ws[i]?) = wc.map some) (hR : isR.map (fun i => ws[i]?) = wr.map some) (hnC : va_nd isC = true) (hn : va_nd isR = true) (hdis : ∀ i ∈ isR, i ∉ isC) (hnP : va_nd isP = true)
    (hM : ∀ u, isP.map (fun i => (wr ++ w1 u)[i]?) = (w2 u).map some)
    (kk : ∀ (r : Int32) (u : S) (H1 : Heap) (locs1 : List Loc), post r u → va_P G.1 classes (w2 u) H1 → va_D A0 (w2 u) → va_S A0 H0 H1 locs1 → W p l e R s m args below meth c H1 locs1 (cells + mc) (slots + ms) Q (F0 m (pc + 3) ls (.int r :: rest))) : W p l e R s m args below meth c H locs cells slots Q (F0 m pc ls st0) := by
  have hF := va_free (wc := wc) hD hS hA isC hC
  refine va_calli (hr (hP.sub isC (z_fm hC)) (hD.sub isC hnC hC)) hS (fun q _ h => hF q h) hF (fun r u t H1 locs1 ht hvm hw hB hz1 hk1 hS1 => ?_)
  obtain ⟨c1, c2⟩ := z_join hP hD hF isC isR isP hC hR hn hdis (hM u) hnP ht hk1 hB
  exact kk r u H1 locs1 hw c1 c2 hS1
theorem zcalll {post : Int64 → S → Prop} (hr : va_P G.1 classes wc H → va_D A0 wc → va_Run p l e R s m args below meth c H locs cells slots mc ms (F0 m pc ls st0) rest (va_Ql post (fun u t => zB G (va_A wc H.size) (w1 u) t) (va_A wc H.size) a) (va_A wc H.size))
    (hP : va_P G.1 classes ws H) (hD : va_D A0 ws) (hS : va_S A0 H0 H locs) (hA : ∀ q, H0.size ≤ q → A0 q) (isC isR isP : List Nat) (hC : isC.map (fun i => ws[i]?) = wc.map some) (hR : isR.map (fun i => ws[i]?) = wr.map some) (hnC : va_nd isC = true) (hn : va_nd isR = true) (hdis : ∀ i ∈ isR, i ∉ isC) (hnP : va_nd isP = true)
    (hM : ∀ u, isP.map (fun i => (wr ++ w1 u)[i]?) = (w2 u).map some)
    (kk : ∀ (r : Int64) (u : S) (H1 : Heap) (locs1 : List Loc), post r u → va_P G.1 classes (w2 u) H1 → va_D A0 (w2 u) → va_S A0 H0 H1 locs1 → W p l e R s m args below meth c H1 locs1 (cells + mc) (slots + ms) Q (F0 m (pc + 3) ls (.long r :: rest))) : W p l e R s m args below meth c H locs cells slots Q (F0 m pc ls st0) := by
  have hF := va_free (wc := wc) hD hS hA isC hC
  refine va_calll (hr (hP.sub isC (z_fm hC)) (hD.sub isC hnC hC)) hS (fun q _ h => hF q h) hF (fun r u t H1 locs1 ht hvm hw hB hz1 hk1 hS1 => ?_)
  obtain ⟨c1, c2⟩ := z_join hP hD hF isC isR isP hC hR hn hdis (hM u) hnP ht hk1 hB
  exact kk r u H1 locs1 hw c1 c2 hS1
theorem zcallv {post : S → Prop} (hr : va_P G.1 classes wc H → va_D A0 wc → va_Run p l e R s m args below meth c H locs cells slots mc ms (F0 m pc ls st0) rest (va_Qv post (fun u t => zB G (va_A wc H.size) (w1 u) t) (va_A wc H.size) a) (va_A wc H.size))
    (hP : va_P G.1 classes ws H) (hD : va_D A0 ws) (hS : va_S A0 H0 H locs) (hA : ∀ q, H0.size ≤ q → A0 q) (isC isR isP : List Nat) (hC : isC.map (fun i => ws[i]?) = wc.map some) (hR : isR.map (fun i => ws[i]?) = wr.map some) (hnC : va_nd isC = true) (hn : va_nd isR = true) (hdis : ∀ i ∈ isR, i ∉ isC) (hnP : va_nd isP = true)
    (hM : ∀ u, isP.map (fun i => (wr ++ w1 u)[i]?) = (w2 u).map some)
    (kk : ∀ (u : S) (H1 : Heap) (locs1 : List Loc), post u → va_P G.1 classes (w2 u) H1 → va_D A0 (w2 u) → va_S A0 H0 H1 locs1 → W p l e R s m args below meth c H1 locs1 (cells + mc) (slots + ms) Q (F0 m (pc + 3) ls rest)) : W p l e R s m args below meth c H locs cells slots Q (F0 m pc ls st0) := by
  have hF := va_free (wc := wc) hD hS hA isC hC
  refine va_callv (hr (hP.sub isC (z_fm hC)) (hD.sub isC hnC hC)) hS (fun q _ h => hF q h) hF (fun u t H1 locs1 ht hvm hw hB hz1 hk1 hS1 => ?_)
  obtain ⟨c1, c2⟩ := z_join hP hD hF isC isR isP hC hR hn hdis (hM u) hnP ht hk1 hB
  exact kk u H1 locs1 hw c1 c2 hS1
theorem zcallr {post : S → Nat → Prop} (hr : va_P G.1 classes wc H → va_D A0 wc → va_Run p l e R s m args below meth c H locs cells slots mc ms (F0 m pc ls st0) rest (va_Qr (fun _ : S => True) (fun u a t => post u a ∧ zB G (va_A wc H.size) (w1 u) t) (va_A wc H.size) a) (va_A wc H.size))
    (hP : va_P G.1 classes ws H) (hD : va_D A0 ws) (hS : va_S A0 H0 H locs) (hA : ∀ q, H0.size ≤ q → A0 q) (isC isR isP : List Nat) (hC : isC.map (fun i => ws[i]?) = wc.map some) (hR : isR.map (fun i => ws[i]?) = wr.map some) (hnC : va_nd isC = true) (hn : va_nd isR = true) (hdis : ∀ i ∈ isR, i ∉ isC) (hnP : va_nd isP = true)
    (hM : ∀ u, isP.map (fun i => (wr ++ w1 u)[i]?) = (w2 u).map some)
    (kk : ∀ (u : S) (ra : Nat) (H1 : Heap) (locs1 : List Loc), post u ra → va_P G.1 classes (w2 u) H1 → va_D A0 (w2 u) → va_S A0 H0 H1 locs1 → W p l e R s m args below meth c H1 locs1 (cells + mc) (slots + ms) Q (F0 m (pc + 3) ls (.ref ra :: rest))) : W p l e R s m args below meth c H locs cells slots Q (F0 m pc ls st0) := by
  have hF := va_free (wc := wc) hD hS hA isC hC
  refine va_callr (hr (hP.sub isC (z_fm hC)) (hD.sub isC hnC hC)) hS (fun q _ h => hF q h) hF (fun u ra t H1 locs1 ht hvm hw hB hz1 hk1 hS1 => ?_)
  obtain ⟨c1, c2⟩ := z_join hP hD hF isC isR isP hC hR hn hdis (hM u) hnP ht hk1 hB.2
  exact kk u ra H1 locs1 hB.1 c1 c2 hS1
theorem zpcalli {post : Int32 → S → Prop} (hr : va_P G.1 classes wc H → va_D A0 wc → va_Run p l e R s m args below meth c H locs cells slots mc ms (F0 m pc ls st0) rest (va_Qi post (fun u t => zB G (va_A wc H.size) (w1 u) t) (va_A wc H.size) a) (fun q => H.size ≤ q))
    (hP : va_P G.1 classes ws H) (hD : va_D A0 ws) (hS : va_S A0 s.heap H locs) (hA : ∀ q, s.heap.size ≤ q → A0 q) (isC isR isP : List Nat) (hC : isC.map (fun i => ws[i]?) = wc.map some) (hR : isR.map (fun i => ws[i]?) = wr.map some) (hnC : va_nd isC = true) (hn : va_nd isR = true) (hdis : ∀ i ∈ isR, i ∉ isC) (hnP : va_nd isP = true)
    (hM : ∀ u, isP.map (fun i => (wr ++ w1 u)[i]?) = (w2 u).map some)
    (kk : ∀ (r : Int32) (u : S) (H1 : Heap), post r u → va_P G.1 classes (w2 u) H1 → va_D A0 (w2 u) → va_S A0 s.heap H1 locs → W p l e R s m args below meth c H1 locs (cells + mc) (slots + ms) Q (F0 m (pc + 3) ls (.int r :: rest))) : W p l e R s m args below meth c H locs cells slots Q (F0 m pc ls st0) := by
  have hF := va_free (wc := wc) hD hS hA isC hC
  intro T hT X
  obtain ⟨v, st₀, t, T', h0, X', e1, e2, ⟨⟨r, u, hv, hp, hb⟩, hz, hk⟩, st⟩ := z_quiet hS (hr (hP.sub isC (z_fm hC)) (hD.sub isC hnC hC)) T hT X
  cases hv
  rw [h0] at hz hk
  obtain ⟨c1, c2⟩ := z_join hP hD hF isC isR isP hC hR hn hdis (hM u) hnP e1.symm (fun q h1 h2 => by rw [e1]; exact hk q h1 h2) hb
  obtain ⟨t2, a1, b1⟩ := kk r u T'.heap hp c1 c2 ⟨Nat.le_trans hS.1 (by rw [e1]; exact hz), fun q h1 h2 => by rw [e1, hk q (Nat.lt_of_lt_of_le h1 hS.1) (fun z => h2 (hF q z))]; exact hS.2.1 q h1 h2, hS.2.2⟩ T' rfl X'
  exact ⟨t2, st t2 a1, b1⟩
theorem zpcalll {post : Int64 → S → Prop} (hr : va_P G.1 classes wc H → va_D A0 wc → va_Run p l e R s m args below meth c H locs cells slots mc ms (F0 m pc ls st0) rest (va_Ql post (fun u t => zB G (va_A wc H.size) (w1 u) t) (va_A wc H.size) a) (fun q => H.size ≤ q))
    (hP : va_P G.1 classes ws H) (hD : va_D A0 ws) (hS : va_S A0 s.heap H locs) (hA : ∀ q, s.heap.size ≤ q → A0 q) (isC isR isP : List Nat) (hC : isC.map (fun i => ws[i]?) = wc.map some) (hR : isR.map (fun i => ws[i]?) = wr.map some) (hnC : va_nd isC = true) (hn : va_nd isR = true) (hdis : ∀ i ∈ isR, i ∉ isC) (hnP : va_nd isP = true)
    (hM : ∀ u, isP.map (fun i => (wr ++ w1 u)[i]?) = (w2 u).map some)
    (kk : ∀ (r : Int64) (u : S) (H1 : Heap), post r u → va_P G.1 classes (w2 u) H1 → va_D A0 (w2 u) → va_S A0 s.heap H1 locs → W p l e R s m args below meth c H1 locs (cells + mc) (slots + ms) Q (F0 m (pc + 3) ls (.long r :: rest))) : W p l e R s m args below meth c H locs cells slots Q (F0 m pc ls st0) := by
  have hF := va_free (wc := wc) hD hS hA isC hC
  intro T hT X
  obtain ⟨v, st₀, t, T', h0, X', e1, e2, ⟨⟨r, u, hv, hp, hb⟩, hz, hk⟩, st⟩ := z_quiet hS (hr (hP.sub isC (z_fm hC)) (hD.sub isC hnC hC)) T hT X
  cases hv
  rw [h0] at hz hk
  obtain ⟨c1, c2⟩ := z_join hP hD hF isC isR isP hC hR hn hdis (hM u) hnP e1.symm (fun q h1 h2 => by rw [e1]; exact hk q h1 h2) hb
  obtain ⟨t2, a1, b1⟩ := kk r u T'.heap hp c1 c2 ⟨Nat.le_trans hS.1 (by rw [e1]; exact hz), fun q h1 h2 => by rw [e1, hk q (Nat.lt_of_lt_of_le h1 hS.1) (fun z => h2 (hF q z))]; exact hS.2.1 q h1 h2, hS.2.2⟩ T' rfl X'
  exact ⟨t2, st t2 a1, b1⟩
theorem zpcallr {post : S → Nat → Prop} (hr : va_P G.1 classes wc H → va_D A0 wc → va_Run p l e R s m args below meth c H locs cells slots mc ms (F0 m pc ls st0) rest (va_Qr (fun _ : S => True) (fun u a t => post u a ∧ zB G (va_A wc H.size) (w1 u) t) (va_A wc H.size) a) (fun q => H.size ≤ q))
    (hP : va_P G.1 classes ws H) (hD : va_D A0 ws) (hS : va_S A0 s.heap H locs) (hA : ∀ q, s.heap.size ≤ q → A0 q) (isC isR isP : List Nat) (hC : isC.map (fun i => ws[i]?) = wc.map some) (hR : isR.map (fun i => ws[i]?) = wr.map some) (hnC : va_nd isC = true) (hn : va_nd isR = true) (hdis : ∀ i ∈ isR, i ∉ isC) (hnP : va_nd isP = true)
    (hM : ∀ u, isP.map (fun i => (wr ++ w1 u)[i]?) = (w2 u).map some)
    (kk : ∀ (u : S) (ra : Nat) (H1 : Heap), post u ra → va_P G.1 classes (w2 u) H1 → va_D A0 (w2 u) → va_S A0 s.heap H1 locs → W p l e R s m args below meth c H1 locs (cells + mc) (slots + ms) Q (F0 m (pc + 3) ls (.ref ra :: rest))) : W p l e R s m args below meth c H locs cells slots Q (F0 m pc ls st0) := by
  have hF := va_free (wc := wc) hD hS hA isC hC
  intro T hT X
  obtain ⟨v, st₀, t, T', h0, X', e1, e2, ⟨⟨u, ra, hv, -, hp, hb⟩, hz, hk⟩, st⟩ := z_quiet hS (hr (hP.sub isC (z_fm hC)) (hD.sub isC hnC hC)) T hT X
  cases hv
  rw [h0] at hz hk
  obtain ⟨c1, c2⟩ := z_join hP hD hF isC isR isP hC hR hn hdis (hM u) hnP e1.symm (fun q h1 h2 => by rw [e1]; exact hk q h1 h2) hb
  obtain ⟨t2, a1, b1⟩ := kk u ra T'.heap hp c1 c2 ⟨Nat.le_trans hS.1 (by rw [e1]; exact hz), fun q h1 h2 => by rw [e1, hk q (Nat.lt_of_lt_of_le h1 hS.1) (fun z => h2 (hF q z))]; exact hS.2.1 q h1 h2, hS.2.2⟩ T' rfl X'
  exact ⟨t2, st t2 a1, b1⟩
end ZCALL
