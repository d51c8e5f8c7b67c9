set_option maxHeartbeats 4000000 in
theorem c_Law_cell (l : Launch) (sz b sl : Nat) (sx : Nat → Int32) : Met l y_Law_cell (Cond.code y_Law_cell method_2_code 2 (some .int) :: lw_ok) { frames := 0, cells := 0, slots := 0, locals := 0 } (va_Pc [.ref b, .int 0] (fun U => va_X b sl sx U U.heap ∧ b < U.heap.size ∧ U.heap.size = sz)) (va_Qi (fun (r : Int32) (_ : Unit) => r = lw_v0 sl sx) (fun _ _ => True) (fun q => sz ≤ q)) 0 0 (fun q => sz ≤ q) := by
  refine Met.ofW (cc := method_2_code) (maxL := 2) (ret := some .int) (by decide) rfl ?_
  intro p e s m args below meth c s₁ B hml hv
  obtain ⟨rfl, hX, hbl, rfl⟩ := hv
  have hx := B.exec
  have hb := B.bytes
  have hr := B.returns
  have hlocks := B.notSynchronized
  have hl := lv_entry ([.ref b, .int 0]) (n := 2) (Nat.le_of_ble_eq_true rfl)
  rw [lg_entry_eq]
  generalize (lg_sl ([.ref b, .int 0]) ++ List.replicate (2 - (lg_sl ([.ref b, .int 0])).length) Slot.unset).toArray = ls at hl ⊢
  have hl : lv_has ls 2 [(0, .ref b), (1, .int 0)] := hl
  have hbA : ¬ (fun q : Nat => s.heap.size ≤ q) b := Nat.not_le.mpr hbl
  have hS : va_S (fun q : Nat => s.heap.size ≤ q) s.heap s.heap [] := va_S.rf
  refine lv_iload_n hx hb d_Law_cell_0 rfl (lv_at hl 1 rfl) ?_
  refine lv_aload_n hx hb d_Law_cell_1 rfl (lv_at hl 0 rfl) ?_
  refine va_slen hx hb hX hbl hbA hS d_Law_cell_2 ?_
  refine lv_icmp_ge (tgt := 12) hx hb d_Law_cell_3 (by decide) (fun q => ?_) (fun q => ?_)
  · refine lv_iconst (v := 0) hx hb d_Law_cell_12 (by decide) ?_
    exact W.iret (v := 0) hx hb hr (fun t ht hW => ⟨⟨0, (), rfl, (by unfold lw_v0; rw [if_pos q]), trivial⟩, hS.F ht⟩) hS.2.2 d_Law_cell_13 hlocks
  · refine lv_aload_n hx hb d_Law_cell_6 rfl (lv_at hl 0 rfl) ?_
    refine lv_iload_n hx hb d_Law_cell_7 rfl (lv_at hl 1 rfl) ?_
    refine va_sld hx hb hX hbl hbA hS (i := 0) (fun h => h.elim (fun h => absurd h (by decide)) (fun h => q (by have h0 : sl = 0 := Nat.le_zero.mp h; rw [h0]; decide))) d_Law_cell_8 ?_
    refine lv_goto (tgt := 13) hx hb d_Law_cell_9 (by decide) ?_
    exact W.iret (v := sx (0 : Int32).toNatClampNeg) hx hb hr (fun t ht hW => ⟨⟨_, (), rfl, (by unfold lw_v0; rw [if_neg q]; rfl), trivial⟩, hS.F ht⟩) hS.2.2 d_Law_cell_13 hlocks
theorem zcell {p : Program} {l : Launch} {e : Env} {R : Room} {s : State} {m : MethodId} {args : Array Value} {below : List Frame} {meth : Method} {c : Code} {H : Heap} {locs : List Loc} {cells slots : Nat} {Q : State → Prop} {cc : ByteArray} {nL pc b sl : Nat} {sx : Nat → Int32} {ls : Array Slot} {rest : List Value} {A : Nat → Prop} {G : zG} {ws : va_W}
    (S : CallFix p m c cc nL s args lw_ok "BranchStoreLaw") (hX : va_X b sl sx s s.heap) (hbl : b < s.heap.size) (hbA : ¬ A b) (hS : va_S A s.heap H locs) (hP : va_P G.1 classes ws H) (hR1 : 1 ≤ R.frames) (hR2 : 21 ≤ R.locals) (hsize : ls.size = nL) (hroom : (rest.map fun v => v.category).sum ≤ 8) (hd : decode cc pc = .ok (.invokestatic 78, 3)) (hf : cells ≤ R.cells ∧ slots ≤ R.slots)
    (kk : ∀ (H1 : Heap), va_P G.1 classes ws H1 → va_S A s.heap H1 locs → W p l e R s m args below meth c H1 locs cells slots Q (F0 m (pc + 3) ls (.int (lw_v0 sl sx) :: rest))) : W p l e R s m args below meth c H locs cells slots Q (F0 m pc ls (.int 0 :: .ref b :: rest)) := by
  have S1 := S
  obtain ⟨hx, hb, hml, hown, hts⟩ := S1
  have hmh : zMH y_Law_cell 2 := by decide +kernel
  have cb : CallB R s args "BranchStoreLaw" 78 y_Law_cell method_2_code 2 (some .int) (Cond.code y_Law_cell method_2_code 2 (some .int) :: lw_ok) { frames := 0, cells := 0, slots := 0, locals := 0 } 0 0 2 :=
    ⟨rfl, rfl, hR1, hR2, z_words hts k_424, List.mem_cons_self, hts _ k_424, hts _ k_0, ⟨hmh.1, hmh.2.1⟩, fun sig h => by have h8 := hmh.2.2; rw [h] at h8; exact (Option.some.inj h8).symm, hts _ k_422⟩
  have hXH : va_X b sl sx s H := hX.kept (hS.2.1 b hbl hbA)
  have hr := va_runS (As := [.ref b, .int 0]) (rest := rest) (g := F0 m pc ls (.int 0 :: .ref b :: rest)) (H := H) (locs := locs) (cells := cells) (slots := slots) (R := R) (below := below) (meth := meth) (e := e) S (c_Law_cell l H.size b sl sx) ⟨cb, hts _ k_423⟩ ⟨fun a U g mk h => ⟨h.1, va_X.moved (u := U) (U := U.calling g mk a) (Vm.Alike.refl U.vm) h.2.1, h.2.2.1, h.2.2.2⟩, fun U hU hW => ⟨rfl, by rw [hU]; exact hXH.moved hW.alike, by rw [hU]; exact Nat.lt_of_lt_of_le hbl hS.1, by rw [hU]⟩⟩ rfl rfl hsize rfl (lv_room hroom) hd hf
  intro T hT X
  obtain ⟨v, st₀, t, T', h0, X', e1, e2, ⟨⟨r, u, hv, hw, -⟩, hz, hk⟩, st⟩ := z_quiet hS hr T hT X
  cases hv
  rw [h0] at hz hk
  have hk' : ∀ q : Nat, q < H.size → T'.heap[q]? = H[q]? := fun q hq => by rw [e1]; exact hk q hq (Nat.not_le.mpr hq)
  subst hw
  obtain ⟨t2, a1, b1⟩ := kk T'.heap (hP.kept (fun k q hq => hk' q.1 ((hP k q hq).lt))) ⟨Nat.le_trans hS.1 (by rw [e1]; exact hz), fun q h1 h2 => by rw [hk' q (Nat.lt_of_lt_of_le h1 hS.1)]; exact hS.2.1 q h1 h2, hS.2.2⟩ T' rfl X'
  exact ⟨t2, st t2 a1, b1⟩
theorem kv_Law_84 : zKI "BranchStoreLaw" 84 y_Store_init prog_1_method_5_code 2 1 := ⟨k_23, k_24, k_1, k_25, rfl, by decide +kernel⟩
theorem kv_Law_88 : zKI "BranchStoreLaw" 88 y_Model_init prog_9_method_1_code 4 1 := ⟨k_765, k_766, k_8, k_767, rfl, by decide +kernel⟩

set_option maxHeartbeats 8000000 in
set_option maxRecDepth 100000 in
theorem whole_start {p : Program} {e : Env} {s : State} {m : MethodId} {below : List Frame} {meth : Method} {c : Code} (l : Launch) (hfl : l.flags = flags0) {b sl : Nat} {sx : Nat → Int32} (hL : sl ≤ 385) (C0 : lw_At p s m meth c b sl sx) : W p l e room_1 s m #[Value.ref b] below meth c s.heap [] 0 0 (lw_Z below #[Value.ref b] s) (entryFrame m ([Value.ref b] : List Value).toArray 8) := by
  obtain ⟨hx, hb, hr, hml, hown, hts0, hX, hbl, hlocks, hgv⟩ := C0
  have hts : ∀ w ∈ lw_ok, w.before #[Value.ref b] s = true := fun w h => hts0 w (z_good h).1
  have hN : zN s := fun w hw hb => by
    have h1 := hts0 w hw
    cases w <;> first | (cases hb; done) | exact va_Nw.of rfl h1
  have hs := flat_of_before _ hgv
  have hTs : zTs s := ⟨hts0 _ k_460, hts0 _ k_462, hs (.isRef z_un) (by decide +kernel), hs (.isRef z_se) (by decide +kernel), va_Nc.of (hs (.not (.castable "java/lang/IllegalArgumentException" "java/lang/IllegalStateException")) (by decide +kernel)), va_Nc.of (hs (.not (.castable "java/lang/UnsupportedOperationException" "java/lang/IllegalStateException")) (by decide +kernel)), va_Nc.of (hs (.not (.castable "java/lang/UnsupportedOperationException" "java/lang/IllegalArgumentException")) (by decide +kernel)), va_Nc.of (hs (.not (.castable "java/lang/IndexOutOfBoundsException" "java/util/NoSuchElementException")) (by decide +kernel))⟩
  obtain ⟨c0, iS0, hKn0⟩ := u_known (C := "BranchStore$Key") (T := F_Key) (N := 3) (n := 3) hts i_Key (hts _ k_81)
  obtain ⟨c1, iS1, hKn1⟩ := u_known (C := "BranchStore$Few") (T := F_Few) (N := 4) (n := 4) hts i_Few (hts _ k_36)
  obtain ⟨c2, iS2, hKn2⟩ := u_known (C := "BranchStore$Some") (T := F_Some) (N := 3) (n := 3) hts i_Some (hts _ k_61)
  obtain ⟨c3, iS3, hKn3⟩ := u_known (C := "BranchStore$All") (T := F_All) (N := 3) (n := 3) hts i_All (hts _ k_71)
  obtain ⟨c4, iS4, hKn4⟩ := u_known (C := "BranchStore$Tree") (T := F_Tree) (N := 15) (n := 15) hts i_Tree (hts _ k_30)
  obtain ⟨c5, iS5, hKn5⟩ := u_known (C := "BranchStore") (T := F_Store) (N := 7) (n := 7) hts i_Store (hts _ k_22)
  obtain ⟨c6, iS6, hKn6⟩ := u_known (C := "BranchStoreModel") (T := F_Model) (N := 16) (n := 16) hts i_Model (hts _ k_764)
  obtain ⟨cI, kI, compI, hI1, hI2, hI3⟩ := Cond.arrayClass_spec (hts _ k_59)
  obtain ⟨cB, kB, compB, hB1, hB2, hB3⟩ := Cond.arrayClass_spec (hts _ k_122)
  obtain ⟨cL, kL, compL, hL1, hL2, hL3⟩ := Cond.arrayClass_spec (hts _ k_819)
  obtain ⟨G, hGe, hK⟩ : ∃ G : zG, G.2 = (cI, cB, cL) ∧ va_K G.1 classes (zty G) s := by
    refine ⟨((fun k => match k with | 0 => c0 | 1 => c1 | 2 => c2 | 3 => c3 | 4 => c4 | 5 => c5 | _ => c6, fun k => match k with | 0 => iS0 | 1 => iS1 | 2 => iS2 | 3 => iS3 | 4 => iS4 | 5 => iS5 | _ => iS6), cI, cB, cL), rfl, ?_, ?_⟩
    · intro k q hq
      match k, hq with
      | 0, hq => cases hq; exact hKn0
      | 1, hq => cases hq; exact hKn1
      | 2, hq => cases hq; exact hKn2
      | 3, hq => cases hq; exact hKn3
      | 4, hq => cases hq; exact hKn4
      | 5, hq => cases hq; exact hKn5
      | 6, hq => cases hq; exact hKn6
      | k + 7, hq => simp [classes] at hq
    · intro k q hq
      match k, hq with
      | 0, hq => cases hq; exact ⟨fun n z => ⟨fun k h => (by cases h), kI, hI2, compI, hI3⟩, hI1⟩
      | 1, hq => cases hq; exact ⟨fun n z => ⟨fun k h => (by cases h), kB, hB2, compB, hB3⟩, hB1⟩
      | 2, hq => cases hq; exact ⟨fun n z => ⟨fun k h => (by cases h), kL, hL2, compL, hL3⟩, hL1⟩
      | k + 3, hq => simp [zty] at hq
  obtain ⟨r0, r1, rm, D, hf0, hf1, hfm, hfl2, hDb⟩ := law_pure sl sx hL
  have hA : ∀ q : Nat, s.heap.size ≤ q → (fun q : Nat => s.heap.size ≤ q) q := fun _ h => h
  have hbA : ¬ (fun q : Nat => s.heap.size ≤ q) b := Nat.not_le.mpr hbl
  have hS : va_S (fun q : Nat => s.heap.size ≤ q) s.heap s.heap [] := va_S.rf
  have hP : va_P G.1 classes [] s.heap := fun k q h => by simp at h
  have hD : va_D (fun q : Nat => s.heap.size ≤ q) [] := ⟨fun i j p q h => by simp at h, fun k q h => by simp at h⟩
  have hl := lv_entry ([.ref b]) (n := 8) (Nat.le_of_ble_eq_true rfl)
  rw [lg_entry_eq]
  generalize (lg_sl ([.ref b]) ++ List.replicate (8 - (lg_sl ([.ref b])).length) Slot.unset).toArray = ls at hl ⊢
  have hl : lv_has ls 8 [(0, .ref b)] := hl
  refine va_new (ci := 5) (fs := [.int 0, .null, .null, .null, .null, .int 0, .null]) (C := "BranchStore") (T := F_Store) (N := 7) hx hb hts i_Store t_Store t_Store_ok hown (hts _ k_21) (hts _ k_22) (hts _ k_1) hK hP hD hS hA rfl (fun j hj => by rcases (show j = 0 ∨ j = 1 ∨ j = 2 ∨ j = 3 ∨ j = 4 ∨ j = 5 ∨ j = 6 by omega) with rfl | rfl | rfl | rfl | rfl | rfl | rfl <;> rfl) (Nat.le_of_ble_eq_true rfl) (Nat.le_of_ble_eq_true rfl) d_law_0 (fun qs H hP hD hS => ?_)
  have hP : va_P G.1 classes [(qs, .inr (5, [.int 0, .null, .null, .null, .null, .int 0, .null]))] H := hP
  have hD : va_D (fun q : Nat => s.heap.size ≤ q) [(qs, .inr (5, [.int 0, .null, .null, .null, .null, .int 0, .null]))] := hD
  refine W.widen (k := 1) (n := 7) (Nat.le_refl _) (Nat.le_refl _) ?_
  refine lv_dup hx hb d_law_3 rfl ?_
  refine lv_aload_n hx hb d_law_4 rfl (lv_at hl 0 rfl) ?_
  refine lv_iconst (v := 0) hx hb d_law_5 (by decide) ?_
  refine zcell ⟨hx, hb, hml, hown, hts⟩ hX hbl hbA hS hP (Nat.le_of_ble_eq_true rfl) (Nat.le_of_ble_eq_true rfl) hl.1 (Nat.le_of_ble_eq_true rfl) d_law_6 ⟨Nat.le_of_ble_eq_true rfl, Nat.le_of_ble_eq_true rfl⟩ (fun H hP hS => ?_)
  refine zcallv (S := (Nat → Nat)) (wr := []) (w2 := fun u => (wB G qs (u 0) (u 13) (u 15) (u 17) (u 19) ((((lw_v0 sl sx) - (lw_v0 sl sx) / 3 * 3) + 3) - (((lw_v0 sl sx) - (lw_v0 sl sx) / 3 * 3) + 3) / 3 * 3) 0 ++ wT G (u 0) (u 1) (u 2) (u 3) (u 4) (u 5) (u 6) (u 7) (u 8) (u 9) (u 11) (fun _ => 0) 2048 (fun _ => 0) 1 1 0 (fun _ => 0) (fun _ => 0) 0 0 0 ++ wK G (u 9) (u 10) r0.1 r0.2.1 r0.2.2 ++ wK G (u 11) (u 12) r0.1 r0.2.1 r0.2.2 ++ wK G (u 13) (u 14) r1.1 r1.2.1 r1.2.2 ++ wK G (u 15) (u 16) r1.1 r1.2.1 r1.2.2 ++ wK G (u 17) (u 18) r1.1 r1.2.1 r1.2.2 ++ wK G (u 19) (u 20) r0.1 r0.2.1 r0.2.2)) (zrunI (As := [.int (lw_v0 sl sx)]) (rest := [.ref qs]) ⟨hx, hb, hml, hown, hts⟩ hN hK (c_Store_init l G H.size qs (lw_v0 sl sx) r0 hf0 r1 hf1) ⟨rfl, rfl⟩ kv_Law_84 ⟨Nat.le_of_ble_eq_true rfl, Nat.le_of_ble_eq_true rfl⟩ rfl hl.1 (Nat.le_of_ble_eq_true rfl) d_law_9 ⟨Nat.le_of_ble_eq_true rfl, Nat.le_of_ble_eq_true rfl⟩) hP hD hS hA [0] [] [0, 1, 2, 3, 4, 5, 6, 7, 8, 9, 10, 11, 12, 13, 14, 15, 16, 17, 18, 19, 20, 21] rfl rfl rfl rfl (by decide) rfl (fun _ => rfl) (fun u H locs _ hP hD hS => ?_)
  refine W.widen (k := 22) (n := 2668) (Nat.le_refl _) (Nat.le_refl _) ?_
  refine lv_astore_n (lv' := [(1, .ref qs), (0, .ref b)]) hx hb d_law_12 rfl hl (by decide) rfl (fun ls hl => ?_)
  refine va_new (ci := 6) (fs := [.int 0, .null, .null, .null, .null, .null, .null, .int 0, .null, .int 0, .int 0, .int 0, .null, .null, .null, .null]) (C := "BranchStoreModel") (T := F_Model) (N := 16) hx hb hts i_Model t_Model t_Model_ok hown (hts _ k_763) (hts _ k_764) (hts _ k_8) hK hP hD hS hA rfl (fun j hj => by rcases (show j = 0 ∨ j = 1 ∨ j = 2 ∨ j = 3 ∨ j = 4 ∨ j = 5 ∨ j = 6 ∨ j = 7 ∨ j = 8 ∨ j = 9 ∨ j = 10 ∨ j = 11 ∨ j = 12 ∨ j = 13 ∨ j = 14 ∨ j = 15 by omega) with rfl | rfl | rfl | rfl | rfl | rfl | rfl | rfl | rfl | rfl | rfl | rfl | rfl | rfl | rfl | rfl <;> rfl) (Nat.le_of_ble_eq_true rfl) (Nat.le_of_ble_eq_true rfl) d_law_13 (fun qm H hP hD hS => ?_)
  refine W.widen (k := 23) (n := 2684) (Nat.le_refl _) (Nat.le_refl _) ?_
  refine lv_dup hx hb d_law_16 rfl ?_
  refine lv_aload_n hx hb d_law_17 rfl (lv_at hl 1 rfl) ?_
  refine lv_iconst (v := 0) hx hb d_law_18 (by decide) ?_
  refine zcell ⟨hx, hb, hml, hown, hts⟩ hX hbl hbA hS hP (Nat.le_of_ble_eq_true rfl) (Nat.le_of_ble_eq_true rfl) hl.1 (Nat.le_of_ble_eq_true rfl) d_law_19 ⟨Nat.le_of_ble_eq_true rfl, Nat.le_of_ble_eq_true rfl⟩ (fun H hP hS => ?_)
  refine zcallv (S := (Nat → Nat)) (wr := (wB G qs (u 0) (u 13) (u 15) (u 17) (u 19) ((((lw_v0 sl sx) - (lw_v0 sl sx) / 3 * 3) + 3) - (((lw_v0 sl sx) - (lw_v0 sl sx) / 3 * 3) + 3) / 3 * 3) 0 ++ wT G (u 0) (u 1) (u 2) (u 3) (u 4) (u 5) (u 6) (u 7) (u 8) (u 9) (u 11) (fun _ => 0) 2048 (fun _ => 0) 1 1 0 (fun _ => 0) (fun _ => 0) 0 0 0 ++ wK G (u 9) (u 10) r0.1 r0.2.1 r0.2.2 ++ wK G (u 11) (u 12) r0.1 r0.2.1 r0.2.2 ++ wK G (u 13) (u 14) r1.1 r1.2.1 r1.2.2 ++ wK G (u 15) (u 16) r1.1 r1.2.1 r1.2.2 ++ wK G (u 17) (u 18) r1.1 r1.2.1 r1.2.2 ++ wK G (u 19) (u 20) r0.1 r0.2.1 r0.2.2)) (w2 := fun w => (wB G qs (u 0) (u 13) (u 15) (u 17) (u 19) ((((lw_v0 sl sx) - (lw_v0 sl sx) / 3 * 3) + 3) - (((lw_v0 sl sx) - (lw_v0 sl sx) / 3 * 3) + 3) / 3 * 3) 0 ++ wT G (u 0) (u 1) (u 2) (u 3) (u 4) (u 5) (u 6) (u 7) (u 8) (u 9) (u 11) (fun _ => 0) 2048 (fun _ => 0) 1 1 0 (fun _ => 0) (fun _ => 0) 0 0 0 ++ wK G (u 9) (u 10) r0.1 r0.2.1 r0.2.2 ++ wK G (u 11) (u 12) r0.1 r0.2.1 r0.2.2 ++ wK G (u 13) (u 14) r1.1 r1.2.1 r1.2.2 ++ wK G (u 15) (u 16) r1.1 r1.2.1 r1.2.2 ++ wK G (u 17) (u 18) r1.1 r1.2.1 r1.2.2 ++ wK G (u 19) (u 20) r0.1 r0.2.1 r0.2.2) ++ (wM G qm (w 0) (w 1) (w 2) (w 3) (w 4) (w 5) (w 6) (w 7) (w 8) (w 9) (w 10) rm.1 0 rm.2.1 0 0 (fun _ => 0) (fun _ => 0) (fun _ => 0) (fun _ => 0) (fun _ => 0) (fun _ => 0) rm.2.2 (fun _ => 0) (fun _ => 0) (fun _ => 0) (fun _ => 0))) (zrunI (As := [.int (lw_v0 sl sx)]) (rest := [.ref qm]) ⟨hx, hb, hml, hown, hts⟩ hN hK (c_Model_init l G H.size qm (lw_v0 sl sx) rm hfm) ⟨rfl, rfl⟩ kv_Law_88 ⟨Nat.le_of_ble_eq_true rfl, Nat.le_of_ble_eq_true rfl⟩ rfl hl.1 (Nat.le_of_ble_eq_true rfl) d_law_22 ⟨Nat.le_of_ble_eq_true rfl, Nat.le_of_ble_eq_true rfl⟩) hP hD hS hA [22] [0, 1, 2, 3, 4, 5, 6, 7, 8, 9, 10, 11, 12, 13, 14, 15, 16, 17, 18, 19, 20, 21] [0, 1, 2, 3, 4, 5, 6, 7, 8, 9, 10, 11, 12, 13, 14, 15, 16, 17, 18, 19, 20, 21, 22, 23, 24, 25, 26, 27, 28, 29, 30, 31, 32, 33] rfl rfl rfl rfl (by decide) rfl (fun _ => rfl) (fun w H locs _ hP hD hS => ?_)
  refine W.widen (k := 40) (n := 60000) (Nat.le_of_ble_eq_true rfl) (Nat.le_of_ble_eq_true rfl) ?_
  refine lv_astore_n (lv' := [(2, .ref qm), (1, .ref qs), (0, .ref b)]) hx hb d_law_25 rfl hl (by decide) rfl (fun ls hl => ?_)
  refine lv_iconst (v := 1) hx hb d_law_26 (by decide) ?_
  refine va_newa (a0 := (1, .inr (.inl (fun _ => 0)))) (N' := 1) (ty := .long) (atype := .long) hx hb (hts _ k_819) rfl hK hP hD hS hA (fun _ => rfl) (by decide) (by decide) (by decide) (Nat.le_of_ble_eq_true rfl) (Nat.le_of_ble_eq_true rfl) d_law_27 (fun qo cA H hK9 hP hD hS => ?_)
  obtain rfl := z_cI 2 rfl rfl hK9
  refine W.widen (k := 100) (n := 1024 * 100) (Nat.le_of_ble_eq_true rfl) (Nat.le_of_ble_eq_true rfl) ?_
  refine lv_astore_n (lv' := [(3, .ref qo), (2, .ref qm), (1, .ref qs), (0, .ref b)]) hx hb d_law_29 rfl hl (by decide) rfl (fun ls hl => ?_)
  refine lv_iconst (v := 1) hx hb d_law_30 (by decide) ?_
  refine lv_istore (lv' := [(4, .int 1), (3, .ref qo), (2, .ref qm), (1, .ref qs), (0, .ref b)]) hx hb d_law_31 hl (by decide) rfl (fun ls hl => ?_)
  have hw0 : va_P G.1 classes (wB G qs (u 0) (u 13) (u 15) (u 17) (u 19) ((((lw_v0 sl sx) - (lw_v0 sl sx) / 3 * 3) + 3) - (((lw_v0 sl sx) - (lw_v0 sl sx) / 3 * 3) + 3) / 3 * 3) 0 ++ wT G (u 0) (u 1) (u 2) (u 3) (u 4) (u 5) (u 6) (u 7) (u 8) (u 9) (u 11) (fun _ => 0) 2048 (fun _ => 0) 1 1 0 (fun _ => 0) (fun _ => 0) 0 0 0 ++ wK G (u 9) (u 10) r0.1 r0.2.1 r0.2.2 ++ wK G (u 11) (u 12) r0.1 r0.2.1 r0.2.2 ++ wK G (u 13) (u 14) r1.1 r1.2.1 r1.2.2 ++ wK G (u 15) (u 16) r1.1 r1.2.1 r1.2.2 ++ wK G (u 17) (u 18) r1.1 r1.2.1 r1.2.2 ++ wK G (u 19) (u 20) r0.1 r0.2.1 r0.2.2 ++ wM G qm (w 0) (w 1) (w 2) (w 3) (w 4) (w 5) (w 6) (w 7) (w 8) (w 9) (w 10) rm.1 0 rm.2.1 0 0 (fun _ => 0) (fun _ => 0) (fun _ => 0) (fun _ => 0) (fun _ => 0) (fun _ => 0) rm.2.2 (fun _ => 0) (fun _ => 0) (fun _ => 0) (fun _ => 0) ++ wO G qo (fun _ => 0)) H := hP
  have hw1 : va_D (fun q : Nat => s.heap.size ≤ q) (wB G qs (u 0) (u 13) (u 15) (u 17) (u 19) ((((lw_v0 sl sx) - (lw_v0 sl sx) / 3 * 3) + 3) - (((lw_v0 sl sx) - (lw_v0 sl sx) / 3 * 3) + 3) / 3 * 3) 0 ++ wT G (u 0) (u 1) (u 2) (u 3) (u 4) (u 5) (u 6) (u 7) (u 8) (u 9) (u 11) (fun _ => 0) 2048 (fun _ => 0) 1 1 0 (fun _ => 0) (fun _ => 0) 0 0 0 ++ wK G (u 9) (u 10) r0.1 r0.2.1 r0.2.2 ++ wK G (u 11) (u 12) r0.1 r0.2.1 r0.2.2 ++ wK G (u 13) (u 14) r1.1 r1.2.1 r1.2.2 ++ wK G (u 15) (u 16) r1.1 r1.2.1 r1.2.2 ++ wK G (u 17) (u 18) r1.1 r1.2.1 r1.2.2 ++ wK G (u 19) (u 20) r0.1 r0.2.1 r0.2.2 ++ wM G qm (w 0) (w 1) (w 2) (w 3) (w 4) (w 5) (w 6) (w 7) (w 8) (w 9) (w 10) rm.1 0 rm.2.1 0 0 (fun _ => 0) (fun _ => 0) (fun _ => 0) (fun _ => 0) (fun _ => 0) (fun _ => 0) rm.2.2 (fun _ => 0) (fun _ => 0) (fun _ => 0) (fun _ => 0) ++ wO G qo (fun _ => 0)) := hD
  exact law_loop p l e s m below meth c (lw_Z below #[Value.ref b] s) (fun q : Nat => s.heap.size ≤ q) G b (100 + D) qs (u 0) (u 13) (u 15) (u 17) (u 19) (u 3) (u 4) (u 5) (u 6) (u 7) (u 8) (u 9) (u 11) (u 10) (u 12) (u 14) (u 16) (u 18) (u 20) qm (w 0) (w 1) (w 2) (w 3) (w 4) (w 5) (w 6) (w 7) (w 8) (w 9) (w 10) qo ((((lw_v0 sl sx) - (lw_v0 sl sx) / 3 * 3) + 3) - (((lw_v0 sl sx) - (lw_v0 sl sx) / 3 * 3) + 3) / 3 * 3) rm.1 sl sx hfl (by omega) ⟨hx, hb, hts, hown, hml, hN, hTs, hK, hX, hbl, hA, fun _ h => h⟩ rfl hr hlocks D (1, 0, (fun _ => 0), 2048, (fun _ => 0), 1, 1, 0, (fun _ => 0), (fun _ => 0), 0, 0, 0, r0.1, r0.2.1, r0.2.2, r0.1, r0.2.1, r0.2.2, r1.1, r1.2.1, r1.2.2, r1.1, r1.2.1, r1.2.2, r1.1, r1.2.1, r1.2.2, r0.1, r0.2.1, r0.2.2, 0, rm.2.1, 0, 0, (fun _ => 0), (fun _ => 0), (fun _ => 0), (fun _ => 0), (fun _ => 0), (fun _ => 0), rm.2.2, (fun _ => 0), (fun _ => 0), (fun _ => 0), (fun _ => 0), (fun _ => 0)) hfl2 100 rfl (u 1) (u 2) H locs ls hw0 hw1 hS (lv_sub hl [4, 3, 2, 1, 0] rfl)
