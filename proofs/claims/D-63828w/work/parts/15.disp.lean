/-! the four shapes: one of them by its size -/
def zsh (e0 e1 e2 e3 : Nat) (k : Nat) : Nat := match k with
  | 0 => e0
  | 1 => e1
  | 2 => e2
  | _ => e3
def zcells (k : Nat) : Int32 := match k with
  | 0 => 9
  | 1 => 24
  | 2 => 116
  | _ => 260
def zmost (k : Nat) : Int32 := match k with
  | 0 => 4
  | 1 => 16
  | 2 => 48
  | _ => 256
noncomputable def f_place (k : Nat) (cl : Nat) (c : Nat → Int32) (p b : Int32) : Option Int32 := match k with
  | 0 => f_Few_place 5 cl c p b
  | 1 => f_Few_place 8 cl c p b
  | 2 => f_Some_place cl c p b
  | _ => f_All_place cl c p b
noncomputable def f_from (k : Nat) (cl : Nat) (c : Nat → Int32) (p b : Int32) : Option Int32 := match k with
  | 0 => f_Few_from cl c p b
  | 1 => f_Few_from cl c p b
  | 2 => f_Some_from cl c p b
  | _ => f_All_from cl c p b
noncomputable def f_add (k : Nat) (cl : Nat) (c : Nat → Int32) (p b v : Int32) : Option (Nat → Int32) := match k with
  | 0 => f_Few_add 5 cl c p b v
  | 1 => f_Few_add 8 cl c p b v
  | 2 => f_Some_add cl c p b v
  | _ => f_All_add cl c p b v
noncomputable def f_drop (k : Nat) (cl : Nat) (c : Nat → Int32) (p b : Int32) : Option (Nat → Int32) := match k with
  | 0 => f_Few_drop 5 cl c p b
  | 1 => f_Few_drop 8 cl c p b
  | 2 => f_Some_drop cl c p b
  | _ => f_All_drop cl c p b
/-- the shapes' cells in a world -/
def zE (ws : va_W) (e0 e1 e2 e3 : Nat) : Prop := ws[5]? = some (e0, .inr (1, [.int 0, .int 9, .int 4, .int 5])) ∧ ws[6]? = some (e1, .inr (1, [.int 1, .int 24, .int 16, .int 8])) ∧ ws[7]? = some (e2, .inr (2, [.int 2, .int 116, .int 48])) ∧ ws[8]? = some (e3, .inr (3, [.int 3, .int 260, .int 256]))
section ZSH
variable {p : Program} {l : Launch} {e : Env} {R : Room} {s : State} {m : MethodId} {args : Array Value} {below : List Frame} {meth : Method} {c : Code} {H : Heap} {locs : List Loc} {cells slots : Nat} {Q : State → Prop}
  {cc : ByteArray} {pc nL : Nat} {ls : Array Slot} {rest : List Value} {A0 : Nat → Prop} {H0 : Heap} {G : zG} {ws : va_W} {e0 e1 e2 e3 k : Nat}
theorem zget_cells (hx : p.tables.exec = Jvm.exec) (hb : c.code = cc) (hts : ∀ w ∈ lw_ok, w.before args s = true) (hown : s.vm.findClass "BranchStore$Tree" = some m.cls) (hK : va_K G.1 classes (zty G) s) (hP : va_P G.1 classes ws H) (hE : zE ws e0 e1 e2 e3)
    (hd : decode cc pc = .ok (.getfield 77, 3)) (kk : W p l e R s m args below meth c H locs cells slots Q (F0 m (pc + 3) ls (.int (zcells k) :: rest))) : W p l e R s m args below meth c H locs cells slots Q (F0 m pc ls (.ref (zsh e0 e1 e2 e3 k) :: rest)) := by
  obtain ⟨h0, h1, h2, h3⟩ := hE
  match k, kk with
  | 0, kk => exact va_get (D := G.1) (ci := 1) (v := .int 9) (C := "BranchStore$Few") (T := F_Few) (N := 4) hx hb hts i_Few hown hK hP 5 h0 rfl 1 (by decide) (hts _ k_47) (fun _ h9 => h9) rfl hd kk
  | 1, kk => exact va_get (D := G.1) (ci := 1) (v := .int 24) (C := "BranchStore$Few") (T := F_Few) (N := 4) hx hb hts i_Few hown hK hP 6 h1 rfl 1 (by decide) (hts _ k_47) (fun _ h9 => h9) rfl hd kk
  | 2, kk => exact va_get (D := G.1) (ci := 2) (v := .int 116) (C := "BranchStore$Some") (T := F_Some) (N := 3) hx hb hts i_Some hown hK hP 7 h2 rfl 1 (by decide) (hts _ k_47) (fun _ h9 => h9) rfl hd kk
  | n + 3, kk => exact va_get (D := G.1) (ci := 3) (v := .int 260) (C := "BranchStore$All") (T := F_All) (N := 3) hx hb hts i_All hown hK hP 8 h3 rfl 1 (by decide) (hts _ k_47) (fun _ h9 => h9) rfl hd kk
theorem zget_most (hx : p.tables.exec = Jvm.exec) (hb : c.code = cc) (hts : ∀ w ∈ lw_ok, w.before args s = true) (hown : s.vm.findClass "BranchStore$Tree" = some m.cls) (hK : va_K G.1 classes (zty G) s) (hP : va_P G.1 classes ws H) (hE : zE ws e0 e1 e2 e3)
    (hd : decode cc pc = .ok (.getfield 155, 3)) (kk : W p l e R s m args below meth c H locs cells slots Q (F0 m (pc + 3) ls (.int (zmost k) :: rest))) : W p l e R s m args below meth c H locs cells slots Q (F0 m pc ls (.ref (zsh e0 e1 e2 e3 k) :: rest)) := by
  obtain ⟨h0, h1, h2, h3⟩ := hE
  match k, kk with
  | 0, kk => exact va_get (D := G.1) (ci := 1) (v := .int 4) (C := "BranchStore$Few") (T := F_Few) (N := 4) hx hb hts i_Few hown hK hP 5 h0 rfl 2 (by decide) (hts _ k_49) (fun _ h9 => h9) rfl hd kk
  | 1, kk => exact va_get (D := G.1) (ci := 1) (v := .int 16) (C := "BranchStore$Few") (T := F_Few) (N := 4) hx hb hts i_Few hown hK hP 6 h1 rfl 2 (by decide) (hts _ k_49) (fun _ h9 => h9) rfl hd kk
  | 2, kk => exact va_get (D := G.1) (ci := 2) (v := .int 48) (C := "BranchStore$Some") (T := F_Some) (N := 3) hx hb hts i_Some hown hK hP 7 h2 rfl 2 (by decide) (hts _ k_49) (fun _ h9 => h9) rfl hd kk
  | n + 3, kk => exact va_get (D := G.1) (ci := 3) (v := .int 256) (C := "BranchStore$All") (T := F_All) (N := 3) hx hb hts i_All hown hK hP 8 h3 rfl 2 (by decide) (hts _ k_49) (fun _ h9 => h9) rfl hd kk
end ZSH
/-- behind a call that had two cells of a world, of which the second may have changed -/
theorem z_join2 {A0 : Nat → Prop} {G : zG} {ws : va_W} {H H1 : Heap} {t : State} (hP : va_P G.1 classes ws H) (hD : va_D A0 ws) {i j : Nat} {x y y' : Nat × va_E} (hi : ws[i]? = some x) (hj : ws[j]? = some y) (hij : i ≠ j) (hy : y'.1 = y.1) (ht : t.heap = H1)
    (hk : ∀ q : Nat, q < H.size → ¬ va_A [x, y] H.size q → H1[q]? = H[q]?) (hB : zB G (va_A [x, y] H.size) [x, y'] t) : va_P G.1 classes (ws.set j y') H1 ∧ va_D A0 (ws.set j y') := by
  obtain ⟨b1, b2⟩ := hB
  rw [ht] at b1
  have hjl : j < ws.length := (List.getElem?_eq_some_iff.mp hj).1
  refine ⟨fun k q hq => ?_, ⟨fun a b p q ha hb hpq => ?_, fun k q hq => ?_⟩⟩
  · by_cases hkj : k = j
    · subst hkj
      rw [List.getElem?_set_self hjl] at hq
      cases hq
      exact b1 1 y' rfl
    · rw [List.getElem?_set_ne (Ne.symm hkj)] at hq
      by_cases hki : k = i
      · subst hki
        rw [hi] at hq
        cases hq
        exact b1 0 x rfl
      · have hl := (hP k q hq).lt
        refine (hP k q hq).kept (hk q.1 hl ?_)
        rintro (⟨n, e, hn⟩ | h)
        · match n, hn with
          | 0, hn => exact hki (hD.1 k i q x hq hi (by cases hn; rfl))
          | 1, hn => exact hkj (hD.1 k j q y hq hj (by cases hn; rfl))
          | n + 2, hn => simp at hn
        · omega
  · by_cases haj : a = j
    · by_cases hbj : b = j
      · rw [haj, hbj]
      · rw [haj, List.getElem?_set_self hjl] at ha
        rw [List.getElem?_set_ne (Ne.symm hbj)] at hb
        cases ha
        exact absurd (hD.1 j b y q hj hb (by rw [← hy]; exact hpq)) (fun h => hbj h.symm)
    · rw [List.getElem?_set_ne (Ne.symm haj)] at ha
      by_cases hbj : b = j
      · rw [hbj, List.getElem?_set_self hjl] at hb
        cases hb
        exact absurd (hD.1 a j p y ha hj (by rw [← hy]; exact hpq)) haj
      · rw [List.getElem?_set_ne (Ne.symm hbj)] at hb
        exact hD.1 a b p q ha hb hpq
  · by_cases hkj : k = j
    · subst hkj
      rw [List.getElem?_set_self hjl] at hq
      cases hq
      rw [hy]
      exact hD.2 k y hj
    · rw [List.getElem?_set_ne (Ne.symm hkj)] at hq
      exact hD.2 k q hq
theorem z_set_same {α : Type} {ws : List α} {j : Nat} {y : α} (hj : ws[j]? = some y) : ws.set j y = ws := by
  apply List.ext_getElem?
  intro k
  by_cases h : k = j
  · subst h
    rw [List.getElem?_set_self (List.getElem?_eq_some_iff.mp hj).1, hj]
  · rw [List.getElem?_set_ne (Ne.symm h)]
section ZSV
variable {p : Program} {l : Launch} {e : Env} {R : Room} {s : State} {m : MethodId} {args : Array Value} {below : List Frame} {meth : Method} {c : Code} {H : Heap} {locs : List Loc} {cells slots : Nat} {Q : State → Prop}
  {cc bytes : ByteArray} {pc nL maxL n index : Nat} {ls : Array Slot} {rest As : List Value} {A0 : Nat → Prop} {H0 : Heap} {G : zG} {ws : va_W} {x y : MethodName} {ret : Option FieldType} {rm : Room} {own : String}
theorem zv1i {qx qy : Nat × va_E} {r0 : Int32} (S : CallFix p m c cc nL s args lw_ok own) (hN : zN s) (hK : va_K G.1 classes (zty G) s) (hP : va_P G.1 classes ws H) (hD : va_D A0 ws) (hS : va_S A0 s.heap H locs) (hA : ∀ q, s.heap.size ≤ q → A0 q)
    (hM : Met l y (Cond.code y bytes maxL ret :: lw_ok) rm (zPc G H.size (.ref qx.1 :: As) [qx, qy]) ((fun (A : Nat → Prop) => va_Qi (fun (r : Int32) (_ : Unit) => r = r0) (fun _ t => zB G A [qx, qy] t) A) (va_A [qx, qy] H.size)) 0 0 (fun q => H.size ≤ q))
    (hrm : rm.cells = 0 ∧ rm.slots = 0) (kv : zKA own index x y bytes maxL ret n) (hR : rm.frames + 1 ≤ R.frames ∧ 8 + (maxL + 11) + rm.locals ≤ R.locals) (i : Nat) (hi : ws[i]? = some qx) (hj : ws[1]? = some qy) (hij : i ≠ 1) {ci : Nat} {fs : List Value} (hrecv : qx.2 = .inr (ci, fs)) {T : u_T} {N : Nat} (hci : classes[ci]? = some (y.cls, T, N))
    (hn : As.length = n) (hsize : ls.size = nL) (hroom : (rest.map fun v => v.category).sum ≤ 8) (hd : decode cc pc = .ok (.invokevirtual index, 3)) (hf : cells ≤ R.cells ∧ slots ≤ R.slots)
    (kk : ∀ (H1 : Heap), va_P G.1 classes ws H1 → va_S A0 s.heap H1 locs → W p l e R s m args below meth c H1 locs cells slots Q (F0 m (pc + 3) ls (.int r0 :: rest))) :
    W p l e R s m args below meth c H locs cells slots Q (F0 m pc ls (As.reverse ++ .ref qx.1 :: rest)) := by
  have hPc : va_P G.1 classes [qx, qy] H := by
    intro k q hq
    match k, hq with
    | 0, hq => cases hq; exact hP i _ hi
    | 1, hq => cases hq; exact hP 1 _ hj
    | k + 2, hq => simp at hq
  have hDc : va_D A0 [qx, qy] := by
    refine ⟨fun a b p q ha hb hpq => ?_, fun k q hq => ?_⟩
    · match a, b, ha, hb with
      | 0, 0, _, _ => rfl
      | 1, 1, _, _ => rfl
      | 0, 1, ha, hb => cases ha; cases hb; exact absurd (hD.1 i 1 _ _ hi hj hpq) hij
      | 1, 0, ha, hb => cases ha; cases hb; exact absurd (hD.1 i 1 _ _ hi hj hpq.symm) hij
      | a + 2, _, ha, _ => simp at ha
      | _, b + 2, _, hb => simp at hb
    · match k, hq with
      | 0, hq => cases hq; exact hD.2 i _ hi
      | 1, hq => cases hq; exact hD.2 1 _ hj
      | k + 2, hq => simp at hq
  have hF : ∀ q, va_A [qx, qy] H.size q → A0 q := by
    rintro q (⟨k, e, hk⟩ | h)
    · match k, hk with
      | 0, hk => cases hk; exact hD.2 i _ hi
      | 1, hk => cases hk; exact hD.2 1 _ hj
      | k + 2, hk => simp at hk
    · exact hA q (Nat.le_trans hS.1 h)
  have hrun := zrunA (As := As) (rest := rest) (pc := pc) (ls := ls) (locs := locs) (cells := cells) (slots := slots) (R := R) (below := below) (meth := meth) (e := e) S hN hK hM hrm kv hR 0 (show [qx, qy][0]? = some (qx.1, .inr (ci, fs)) by rw [← hrecv]; rfl) hci hn hsize hroom hd hf hPc hDc
  intro T hT X
  obtain ⟨v, st₀, t, T', h0, X', e1, e2, ⟨⟨r, u, hv, hw, hB⟩, hz, hk⟩, st⟩ := z_quiet hS hrun T hT X
  cases hv
  rw [h0] at hz hk
  obtain ⟨c1, c2⟩ := z_join2 hP hD hi hj hij rfl e1.symm (fun q h1 h2 => by rw [e1]; exact hk q h1 h2) hB
  rw [z_set_same hj] at c1
  subst hw
  obtain ⟨t2, a1, b1⟩ := kk T'.heap c1 ⟨Nat.le_trans hS.1 (by rw [e1]; exact hz), fun q h1 h2 => by rw [e1, hk q (Nat.lt_of_lt_of_le h1 hS.1) (fun z => h2 (hF q z))]; exact hS.2.1 q h1 h2, hS.2.2⟩ T' rfl X'
  exact ⟨t2, st t2 a1, b1⟩
theorem zv1v {qx qy qz : Nat × va_E} (hz : qz.1 = qy.1) (S : CallFix p m c cc nL s args lw_ok own) (hN : zN s) (hK : va_K G.1 classes (zty G) s) (hP : va_P G.1 classes ws H) (hD : va_D A0 ws) (hS : va_S A0 H0 H locs) (hA : ∀ q, H0.size ≤ q → A0 q)
    (hM : Met l y (Cond.code y bytes maxL ret :: lw_ok) rm (zPc G H.size (.ref qx.1 :: As) [qx, qy]) ((fun (A : Nat → Prop) => va_Qv (fun _ : Unit => True) (fun _ t => zB G A [qx, qz] t) A) (va_A [qx, qy] H.size)) 0 0 (va_A [qx, qy] H.size))
    (hrm : rm.cells = 0 ∧ rm.slots = 0) (kv : zKA own index x y bytes maxL ret n) (hR : rm.frames + 1 ≤ R.frames ∧ 8 + (maxL + 11) + rm.locals ≤ R.locals) (i : Nat) (hi : ws[i]? = some qx) (hj : ws[1]? = some qy) (hij : i ≠ 1) {ci : Nat} {fs : List Value} (hrecv : qx.2 = .inr (ci, fs)) {T : u_T} {N : Nat} (hci : classes[ci]? = some (y.cls, T, N))
    (hn : As.length = n) (hsize : ls.size = nL) (hroom : (rest.map fun v => v.category).sum ≤ 8) (hd : decode cc pc = .ok (.invokevirtual index, 3)) (hf : cells ≤ R.cells ∧ slots ≤ R.slots)
    (kk : ∀ (H1 : Heap) (locs1 : List Loc), va_P G.1 classes (ws.set 1 qz) H1 → va_D A0 (ws.set 1 qz) → va_S A0 H0 H1 locs1 → W p l e R s m args below meth c H1 locs1 cells slots Q (F0 m (pc + 3) ls rest)) :
    W p l e R s m args below meth c H locs cells slots Q (F0 m pc ls (As.reverse ++ .ref qx.1 :: rest)) := by
  have hPc : va_P G.1 classes [qx, qy] H := by
    intro k q hq
    match k, hq with
    | 0, hq => cases hq; exact hP i _ hi
    | 1, hq => cases hq; exact hP 1 _ hj
    | k + 2, hq => simp at hq
  have hDc : va_D A0 [qx, qy] := by
    refine ⟨fun a b p q ha hb hpq => ?_, fun k q hq => ?_⟩
    · match a, b, ha, hb with
      | 0, 0, _, _ => rfl
      | 1, 1, _, _ => rfl
      | 0, 1, ha, hb => cases ha; cases hb; exact absurd (hD.1 i 1 _ _ hi hj hpq) hij
      | 1, 0, ha, hb => cases ha; cases hb; exact absurd (hD.1 i 1 _ _ hi hj hpq.symm) hij
      | a + 2, _, ha, _ => simp at ha
      | _, b + 2, _, hb => simp at hb
    · match k, hq with
      | 0, hq => cases hq; exact hD.2 i _ hi
      | 1, hq => cases hq; exact hD.2 1 _ hj
      | k + 2, hq => simp at hq
  have hF : ∀ q, va_A [qx, qy] H.size q → A0 q := by
    rintro q (⟨k, e, hk⟩ | h)
    · match k, hk with
      | 0, hk => cases hk; exact hD.2 i _ hi
      | 1, hk => cases hk; exact hD.2 1 _ hj
      | k + 2, hk => simp at hk
    · exact hA q (Nat.le_trans hS.1 h)
  have hrun := zrunA (As := As) (rest := rest) (pc := pc) (ls := ls) (locs := locs) (cells := cells) (slots := slots) (R := R) (below := below) (meth := meth) (e := e) S hN hK hM hrm kv hR 0 (show [qx, qy][0]? = some (qx.1, .inr (ci, fs)) by rw [← hrecv]; rfl) hci hn hsize hroom hd hf hPc hDc
  refine va_callv hrun hS (fun q _ h => hF q h) hF (fun u t H1 locs1 ht hvm hw hB hz1 hk1 hS1 => ?_)
  obtain ⟨c1, c2⟩ := z_join2 hP hD hi hj hij hz ht hk1 hB
  exact kk H1 locs1 c1 c2 hS1
end ZSV
