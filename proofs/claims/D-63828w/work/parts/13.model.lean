noncomputable def f_Model_thrown (c_thr : Int32)  : Option Int32 :=
some c_thr
set_option maxHeartbeats 8000000 in
set_option maxRecDepth 100000 in
theorem c_Model_thrown (l : Launch) (G : zG) (sz : Nat) (a_m a_mfst a_msnd a_mlet a_mmany a_mval a_mord a_mfree a_mcode a_mnext a_mcom a_mmet : Nat) (c_sort : Int32) (c_cnt : Int32) (c_frees : Int32) (c_cur : Int32) (c_thr : Int32) (c_fst : (Nat → Int64)) (c_snd : (Nat → Int64)) (c_let : (Nat → Int32)) (c_many : (Nat → Int32)) (c_val : (Nat → Int64)) (c_ord : (Nat → Int32)) (c_free : (Nat → Int32)) (c_code : (Nat → Int32)) (c_next : (Nat → Int32)) (c_com : (Nat → Int32)) (c_met : (Nat → Int32)) (r0 : Int32) (hf : f_Model_thrown c_thr = some r0) :
    Met l y_Model_thrown (Cond.code y_Model_thrown prog_9_method_2_code 1 (some .int) :: lw_ok) { frames := 0, cells := 0, slots := 0, locals := 0 } (zPc G sz [.ref a_m] (wM G a_m a_mfst a_msnd a_mlet a_mmany a_mval a_mord a_mfree a_mcode a_mnext a_mcom a_mmet c_sort c_cnt c_frees c_cur c_thr c_fst c_snd c_let c_many c_val c_ord c_free c_code c_next c_com c_met))
      ((fun (A : Nat → Prop) => va_Qi (fun (r : Int32) (_ : Unit) => r = r0) (fun _ t => zB G A (wM G a_m a_mfst a_msnd a_mlet a_mmany a_mval a_mord a_mfree a_mcode a_mnext a_mcom a_mmet c_sort c_cnt c_frees c_cur c_thr c_fst c_snd c_let c_many c_val c_ord c_free c_code c_next c_com c_met) t) A) (va_A (wM G a_m a_mfst a_msnd a_mlet a_mmany a_mval a_mord a_mfree a_mcode a_mnext a_mcom a_mmet c_sort c_cnt c_frees c_cur c_thr c_fst c_snd c_let c_many c_val c_ord c_free c_code c_next c_com c_met) sz)) 0 0 (fun q => sz ≤ q) := by
  refine zMetR (Qc := fun (A : Nat → Prop) => va_Qi (fun (r : Int32) (_ : Unit) => r = r0) (fun _ t => zB G A (wM G a_m a_mfst a_msnd a_mlet a_mmany a_mval a_mord a_mfree a_mcode a_mnext a_mcom a_mmet c_sort c_cnt c_frees c_cur c_thr c_fst c_snd c_let c_many c_val c_ord c_free c_code c_next c_com c_met) t) A) (by decide) (Nat.le_of_ble_eq_true rfl) (fun xp xe xs xm xb xme xc A ls Q H locs C hN hK hP hD hS hL hA hl hQ => ?_)
  obtain ⟨hx, hb, hr, hts, hown, hlocks, hml, hin⟩ := C
  have hl : lv_has ls 1 [(0, .ref a_m)] := hl
  have h := hf
  unfold f_Model_thrown at h
  refine lv_aload_n hx hb d_Model_thrown_0 rfl (lv_at hl 0 rfl) ?_
  refine va_get (D := G.1) (ci := 6) (v := .int c_thr) (C := "BranchStoreModel") (T := F_Model) (N := 16) hx hb hts i_Model hown hK hP 0 rfl rfl 11 (by decide) (hts _ k_781) (fun _ h9 => h9) rfl d_Model_thrown_1 ?_
  obtain rfl := Option.some.inj h
  exact zreti () hQ hL hx hb hr hlocks hP hD hS rfl (Nat.le_refl _) (Nat.le_refl _) d_Model_thrown_4

noncomputable def f_Model_fails (c_thr : Int32) (p_1 : Int32) (p_2 : Int32) : Option (Int32 × Int32) :=
(if p_1 = 0 then
(some 0)
else
(some p_2)).bind fun y4 =>
some (p_1, y4)
set_option maxHeartbeats 8000000 in
set_option maxRecDepth 100000 in
theorem c_Model_fails (l : Launch) (G : zG) (sz : Nat) (a_m a_mfst a_msnd a_mlet a_mmany a_mval a_mord a_mfree a_mcode a_mnext a_mcom a_mmet : Nat) (c_sort : Int32) (c_cnt : Int32) (c_frees : Int32) (c_cur : Int32) (c_thr : Int32) (c_fst : (Nat → Int64)) (c_snd : (Nat → Int64)) (c_let : (Nat → Int32)) (c_many : (Nat → Int32)) (c_val : (Nat → Int64)) (c_ord : (Nat → Int32)) (c_free : (Nat → Int32)) (c_code : (Nat → Int32)) (c_next : (Nat → Int32)) (c_com : (Nat → Int32)) (c_met : (Nat → Int32)) (p_1 : Int32) (p_2 : Int32) (b_1 : narrow .boolean (.int p_1) = .int p_1) (r0 : (Int32 × Int32)) (hf : f_Model_fails c_thr p_1 p_2 = some r0) :
    Met l y_Model_fails (Cond.code y_Model_fails prog_9_method_3_code 3 (some .boolean) :: lw_ok) { frames := 0, cells := 0, slots := 0, locals := 0 } (zPc G sz [.ref a_m, .int p_1, .int p_2] (wM G a_m a_mfst a_msnd a_mlet a_mmany a_mval a_mord a_mfree a_mcode a_mnext a_mcom a_mmet c_sort c_cnt c_frees c_cur c_thr c_fst c_snd c_let c_many c_val c_ord c_free c_code c_next c_com c_met))
      ((fun (A : Nat → Prop) => va_Qi (fun (r : Int32) (_ : Unit) => r = r0.1 ∧ narrow .boolean (.int r) = .int r) (fun _ t => zB G A (wM G a_m a_mfst a_msnd a_mlet a_mmany a_mval a_mord a_mfree a_mcode a_mnext a_mcom a_mmet c_sort c_cnt c_frees c_cur r0.2 c_fst c_snd c_let c_many c_val c_ord c_free c_code c_next c_com c_met) t) A) (va_A (wM G a_m a_mfst a_msnd a_mlet a_mmany a_mval a_mord a_mfree a_mcode a_mnext a_mcom a_mmet c_sort c_cnt c_frees c_cur c_thr c_fst c_snd c_let c_many c_val c_ord c_free c_code c_next c_com c_met) sz)) 0 0 (va_A (wM G a_m a_mfst a_msnd a_mlet a_mmany a_mval a_mord a_mfree a_mcode a_mnext a_mcom a_mmet c_sort c_cnt c_frees c_cur c_thr c_fst c_snd c_let c_many c_val c_ord c_free c_code c_next c_com c_met) sz) := by
  refine zMet (Qc := fun (A : Nat → Prop) => va_Qi (fun (r : Int32) (_ : Unit) => r = r0.1 ∧ narrow .boolean (.int r) = .int r) (fun _ t => zB G A (wM G a_m a_mfst a_msnd a_mlet a_mmany a_mval a_mord a_mfree a_mcode a_mnext a_mcom a_mmet c_sort c_cnt c_frees c_cur r0.2 c_fst c_snd c_let c_many c_val c_ord c_free c_code c_next c_com c_met) t) A) (by decide) (Nat.le_of_ble_eq_true rfl) (fun xp xe xs xm xb xme xc A ls Q H locs C hN hK hP hD hS hA hl hQ => ?_)
  obtain ⟨hx, hb, hr, hts, hown, hlocks, hml, hin⟩ := C
  have hl : lv_has ls 3 [(0, .ref a_m), (1, .int p_1), (2, .int p_2)] := hl
  have h := hf
  unfold f_Model_fails at h
  refine lv_aload_n hx hb d_Model_fails_0 rfl (lv_at hl 0 rfl) ?_
  refine lv_iload_n hx hb d_Model_fails_1 rfl (lv_at hl 1 rfl) ?_
  obtain ⟨y3, hy3, h⟩ := ob h
  have J10 : ∀ (z5 : Int32), z5 = y3 → ∀ (H : Heap) (locs : List Loc) (ls : Array Slot), va_P G.1 classes (wM G a_m a_mfst a_msnd a_mlet a_mmany a_mval a_mord a_mfree a_mcode a_mnext a_mcom a_mmet c_sort c_cnt c_frees c_cur c_thr c_fst c_snd c_let c_many c_val c_ord c_free c_code c_next c_com c_met) H → va_D A (wM G a_m a_mfst a_msnd a_mlet a_mmany a_mval a_mord a_mfree a_mcode a_mnext a_mcom a_mmet c_sort c_cnt c_frees c_cur c_thr c_fst c_snd c_let c_many c_val c_ord c_free c_code c_next c_com c_met) → va_S A xs.heap H locs → lv_has ls 3 [(1, .int p_1)] → W xp l xe { frames := 0, cells := 0, slots := 0, locals := 0 } xs xm ([.ref a_m, .int p_1, .int p_2] : List Value).toArray xb xme xc H locs 0 0 Q (F0 xm 10 ls [.int z5, .ref a_m]) := by
    intro z5 ey H locs ls hP hD hS hl
    subst ey
    try dsimp only at h
    refine va_put (D := G.1) (ci := 6) (v := .int z5) (ty := .int) (C := "BranchStoreModel") (T := F_Model) (N := 16) hx hb hts i_Model t_Model t_Model_ok n_Model hown hK hP hD hS 0 rfl rfl 11 (by decide) (hts _ k_781) (fun _ h9 => h9) rfl (by decide +kernel) rfl rfl (Nat.le_of_ble_eq_true rfl) d_Model_fails_10 (fun H locs hP hD hS => ?_)
    have hP : va_P G.1 classes (wM G a_m a_mfst a_msnd a_mlet a_mmany a_mval a_mord a_mfree a_mcode a_mnext a_mcom a_mmet c_sort c_cnt c_frees c_cur z5 c_fst c_snd c_let c_many c_val c_ord c_free c_code c_next c_com c_met) H := hP
    have hD : va_D A (wM G a_m a_mfst a_msnd a_mlet a_mmany a_mval a_mord a_mfree a_mcode a_mnext a_mcom a_mmet c_sort c_cnt c_frees c_cur z5 c_fst c_snd c_let c_many c_val c_ord c_free c_code c_next c_com c_met) := hD
    refine lv_iload_n hx hb d_Model_fails_13 rfl (lv_at hl 0 rfl) ?_
    obtain rfl := Option.some.inj h
    exact zretz () hQ hS.2.2 hx hb hr hlocks hP hD hS ⟨rfl, b_1⟩ (Nat.le_refl _) (Nat.le_refl _) d_Model_fails_14 b_1
  have h := hy3
  refine lv_if_eq (tgt := 9) hx hb d_Model_fails_2 (by decide) (fun q2 => ?_) (fun q2 => ?_)
  · have h := it h q2
    refine lv_iconst (v := 0) hx hb d_Model_fails_9 (by decide) ?_
    exact J10 0 (Option.some.inj h) H locs ls hP hD hS (lv_sub hl [1] rfl)
  · have h := ie h q2
    refine lv_iload_n hx hb d_Model_fails_5 rfl (lv_at hl 2 rfl) ?_
    refine lv_goto (tgt := 10) hx hb d_Model_fails_6 (by decide) ?_
    exact J10 p_2 (Option.some.inj h) H locs ls hP hD hS (lv_sub hl [1] rfl)

noncomputable def f_Model_byOrder  (p_0 : Int64) (p_2 : Int64) : Option Int32 :=
if 0 ≤ (lg_cmp p_0 p_2) then
(if (lg_cmp p_0 p_2) ≤ 0 then
(some 0)
else
(some 1))
else
(some (-1))
set_option maxHeartbeats 8000000 in
set_option maxRecDepth 100000 in
theorem c_Model_byOrder (l : Launch) (G : zG) (sz : Nat) (p_0 : Int64) (p_2 : Int64) (r0 : Int32) (hf : f_Model_byOrder p_0 p_2 = some r0) :
    Met l y_Model_byOrder (Cond.code y_Model_byOrder prog_9_method_4_code 4 (some .int) :: lw_ok) { frames := 0, cells := 0, slots := 0, locals := 0 } (zPc G sz [.long p_0, .long p_2] ([] : va_W))
      ((fun (A : Nat → Prop) => va_Qi (fun (r : Int32) (_ : Unit) => r = r0) (fun _ t => zB G A ([] : va_W) t) A) (va_A ([] : va_W) sz)) 0 0 (fun q => sz ≤ q) := by
  refine zMetR (Qc := fun (A : Nat → Prop) => va_Qi (fun (r : Int32) (_ : Unit) => r = r0) (fun _ t => zB G A ([] : va_W) t) A) (by decide) (Nat.le_of_ble_eq_true rfl) (fun xp xe xs xm xb xme xc A ls Q H locs C hN hK hP hD hS hL hA hl hQ => ?_)
  obtain ⟨hx, hb, hr, hts, hown, hlocks, hml, hin⟩ := C
  have hl : lv_has ls 4 [(0, .long p_0), (2, .long p_2)] := hl
  have h := hf
  unfold f_Model_byOrder at h
  refine lv_lload_n hx hb d_Model_byOrder_0 rfl (lv_at hl 0 rfl) ?_
  refine lv_lload_n hx hb d_Model_byOrder_1 rfl (lv_at hl 1 rfl) ?_
  refine W.lcmp hx hb d_Model_byOrder_2 ?_
  refine lv_if_ge (tgt := 10) hx hb d_Model_byOrder_3 (by decide) (fun q1 => ?_) (fun q1 => ?_)
  · have h := it h q1
    refine lv_lload_n hx hb d_Model_byOrder_10 rfl (lv_at hl 0 rfl) ?_
    refine lv_lload_n hx hb d_Model_byOrder_11 rfl (lv_at hl 1 rfl) ?_
    refine W.lcmp hx hb d_Model_byOrder_12 ?_
    refine lv_if_le (tgt := 20) hx hb d_Model_byOrder_13 (by decide) (fun q2 => ?_) (fun q2 => ?_)
    · have h := it h q2
      refine lv_iconst (v := 0) hx hb d_Model_byOrder_20 (by decide) ?_
      obtain rfl := Option.some.inj h
      exact zreti () hQ hL hx hb hr hlocks hP hD hS rfl (Nat.le_refl _) (Nat.le_refl _) d_Model_byOrder_21
    · have h := ie h q2
      refine lv_iconst (v := 1) hx hb d_Model_byOrder_16 (by decide) ?_
      refine lv_goto (tgt := 21) hx hb d_Model_byOrder_17 (by decide) ?_
      obtain rfl := Option.some.inj h
      exact zreti () hQ hL hx hb hr hlocks hP hD hS rfl (Nat.le_refl _) (Nat.le_refl _) d_Model_byOrder_21
  · have h := ie h q1
    refine lv_iconst (v := (-1)) hx hb d_Model_byOrder_6 (by decide) ?_
    refine lv_goto (tgt := 21) hx hb d_Model_byOrder_7 (by decide) ?_
    obtain rfl := Option.some.inj h
    exact zreti () hQ hL hx hb hr hlocks hP hD hS rfl (Nat.le_refl _) (Nat.le_refl _) d_Model_byOrder_21

theorem kv_Model_55 : zKS "BranchStoreModel" 55 y_Model_byOrder prog_9_method_4_code 4 (some .int) 2 := ⟨k_873, k_874, k_8, k_875, by decide +kernel⟩
noncomputable def s_Model_compare_57 (c_let : (Nat → Int32)) (c_many : (Nat → Int32)) (x1 : Int32) (x2 : Int32) (x3 : Int32) : Option (Int32 ⊕ Int32) :=
gi x1 1503 <|
if (c_many x1.toNatClampNeg) ≤ x3 then
(gi x1 1503 <|
gi x2 1503 <|
if (c_many x2.toNatClampNeg) ≤ (c_many x1.toNatClampNeg) then
(gi x1 1503 <|
gi x2 1503 <|
if (c_many x1.toNatClampNeg) ≤ (c_many x2.toNatClampNeg) then
(some (.inr 0))
else
(some (.inr 1)))
else
(some (.inr (-1))))
else
(gi x2 1503 <|
if (c_many x2.toNatClampNeg) ≤ x3 then
(gi x1 1503 <|
gi x2 1503 <|
if (c_many x2.toNatClampNeg) ≤ (c_many x1.toNatClampNeg) then
(gi x1 1503 <|
gi x2 1503 <|
if (c_many x1.toNatClampNeg) ≤ (c_many x2.toNatClampNeg) then
(some (.inr 0))
else
(some (.inr 1)))
else
(some (.inr (-1))))
else
(gi ((24 * x1) + x3) 36072 <|
nm (c_let ((24 * x1) + x3).toNatClampNeg) fun v21 =>
gi ((24 * x2) + x3) 36072 <|
nm (c_let ((24 * x2) + x3).toNatClampNeg) fun v23 =>
if v21 = v23 then
(nm (x3 + 1) fun v25 =>
some (.inl v25))
else
(if v23 ≤ v21 then
(some (.inr 1))
else
(some (.inr (-1))))))
noncomputable def f_Model_compare (c_sort : Int32) (c_fst : (Nat → Int64)) (c_snd : (Nat → Int64)) (c_let : (Nat → Int32)) (c_many : (Nat → Int32)) (p_1 : Int32) (p_2 : Int32) : Option Int32 :=
if 2 ≤ c_sort then
(lp (fun v => s_Model_compare_57 c_let c_many p_1 p_2 v) 0)
else
(gi p_1 1503 <|
gi p_2 1503 <|
(f_Model_byOrder (c_fst p_1.toNatClampNeg) (c_fst p_2.toNatClampNeg)).bind fun r29 =>
if r29 = 0 then
(if c_sort = 0 then
(some r29)
else
(gi p_1 1503 <|
gi p_2 1503 <|
(f_Model_byOrder (c_snd p_1.toNatClampNeg) (c_snd p_2.toNatClampNeg)).bind fun r34 =>
some r34))
else
(some r29))
set_option maxHeartbeats 8000000 in
set_option maxRecDepth 100000 in
theorem c_Model_compare (l : Launch) (G : zG) (sz : Nat) (a_m a_mfst a_msnd a_mlet a_mmany a_mval a_mord a_mfree a_mcode a_mnext a_mcom a_mmet : Nat) (c_sort : Int32) (c_cnt : Int32) (c_frees : Int32) (c_cur : Int32) (c_thr : Int32) (c_fst : (Nat → Int64)) (c_snd : (Nat → Int64)) (c_let : (Nat → Int32)) (c_many : (Nat → Int32)) (c_val : (Nat → Int64)) (c_ord : (Nat → Int32)) (c_free : (Nat → Int32)) (c_code : (Nat → Int32)) (c_next : (Nat → Int32)) (c_com : (Nat → Int32)) (c_met : (Nat → Int32)) (p_1 : Int32) (p_2 : Int32) (r0 : Int32) (hf : f_Model_compare c_sort c_fst c_snd c_let c_many p_1 p_2 = some r0) :
    Met l y_Model_compare (Cond.code y_Model_compare prog_9_method_5_code 6 (some .int) :: lw_ok) { frames := 1, cells := 0, slots := 0, locals := 23 } (zPc G sz [.ref a_m, .int p_1, .int p_2] (wM G a_m a_mfst a_msnd a_mlet a_mmany a_mval a_mord a_mfree a_mcode a_mnext a_mcom a_mmet c_sort c_cnt c_frees c_cur c_thr c_fst c_snd c_let c_many c_val c_ord c_free c_code c_next c_com c_met))
      ((fun (A : Nat → Prop) => va_Qi (fun (r : Int32) (_ : Unit) => r = r0) (fun _ t => zB G A (wM G a_m a_mfst a_msnd a_mlet a_mmany a_mval a_mord a_mfree a_mcode a_mnext a_mcom a_mmet c_sort c_cnt c_frees c_cur c_thr c_fst c_snd c_let c_many c_val c_ord c_free c_code c_next c_com c_met) t) A) (va_A (wM G a_m a_mfst a_msnd a_mlet a_mmany a_mval a_mord a_mfree a_mcode a_mnext a_mcom a_mmet c_sort c_cnt c_frees c_cur c_thr c_fst c_snd c_let c_many c_val c_ord c_free c_code c_next c_com c_met) sz)) 0 0 (fun q => sz ≤ q) := by
  refine zMetR (Qc := fun (A : Nat → Prop) => va_Qi (fun (r : Int32) (_ : Unit) => r = r0) (fun _ t => zB G A (wM G a_m a_mfst a_msnd a_mlet a_mmany a_mval a_mord a_mfree a_mcode a_mnext a_mcom a_mmet c_sort c_cnt c_frees c_cur c_thr c_fst c_snd c_let c_many c_val c_ord c_free c_code c_next c_com c_met) t) A) (by decide) (Nat.le_of_ble_eq_true rfl) (fun xp xe xs xm xb xme xc A ls Q H locs C hN hK hP hD hS hL hA hl hQ => ?_)
  obtain ⟨hx, hb, hr, hts, hown, hlocks, hml, hin⟩ := C
  have hl : lv_has ls 6 [(0, .ref a_m), (1, .int p_1), (2, .int p_2)] := hl
  have h := hf
  unfold f_Model_compare at h
  refine lv_aload_n hx hb d_Model_compare_0 rfl (lv_at hl 0 rfl) ?_
  refine va_get (D := G.1) (ci := 6) (v := .int c_sort) (C := "BranchStoreModel") (T := F_Model) (N := 16) hx hb hts i_Model hown hK hP 0 rfl rfl 0 (by decide) (hts _ k_770) (fun _ h9 => h9) rfl d_Model_compare_1 ?_
  refine lv_iconst (v := 2) hx hb d_Model_compare_4 (by decide) ?_
  refine lv_icmp_ge (tgt := 55) hx hb d_Model_compare_5 (by decide) (fun q1 => ?_) (fun q1 => ?_)
  · have h := it h q1
    refine lv_iconst (v := 0) hx hb d_Model_compare_55 (by decide) ?_
    refine lv_istore_n (lv' := [(3, .int 0), (0, .ref a_m), (1, .int p_1), (2, .int p_2)]) hx hb d_Model_compare_56 rfl hl (by decide) rfl (fun ls hl => ?_)
    have L57 : ∀ v : Int32, lp (fun v => s_Model_compare_57 c_let c_many p_1 p_2 v) v = some r0 → ∀ (H : Heap) (locs : List Loc) (ls : Array Slot), va_P G.1 classes (wM G a_m a_mfst a_msnd a_mlet a_mmany a_mval a_mord a_mfree a_mcode a_mnext a_mcom a_mmet c_sort c_cnt c_frees c_cur c_thr c_fst c_snd c_let c_many c_val c_ord c_free c_code c_next c_com c_met) H → va_D A (wM G a_m a_mfst a_msnd a_mlet a_mmany a_mval a_mord a_mfree a_mcode a_mnext a_mcom a_mmet c_sort c_cnt c_frees c_cur c_thr c_fst c_snd c_let c_many c_val c_ord c_free c_code c_next c_com c_met) → va_S A xs.heap H locs → (∀ q ∈ locs, xs.heap.size ≤ q.base) → lv_has ls 6 [(0, .ref a_m), (1, .int p_1), (2, .int p_2), (3, .int v)] → W xp l xe { frames := 1, cells := 0, slots := 0, locals := 23 } xs xm ([.ref a_m, .int p_1, .int p_2] : List Value).toArray xb xme xc H locs 0 0 Q (F0 xm 57 ls []) := by
      refine lp_walk _ (fun v x h hc he => ?_)
      obtain ⟨x3_2, rfl⟩ : ∃ z, z = v := ⟨_, rfl⟩
      intro H locs ls hP hD hS hL hl
      have h : s_Model_compare_57 c_let c_many p_1 p_2 x3_2 = some x := h
      unfold s_Model_compare_57 at h
      refine lv_iload_n hx hb d_Model_compare_57 rfl (lv_at hl 3 rfl) ?_
      refine lv_aload_n hx hb d_Model_compare_58 rfl (lv_at hl 0 rfl) ?_
      refine va_get (D := G.1) (ci := 6) (v := .ref a_mmany) (C := "BranchStoreModel") (T := F_Model) (N := 16) hx hb hts i_Model hown hK hP 0 rfl rfl 4 (by decide) (hts _ k_774) (fun _ h9 => h9) rfl d_Model_compare_59 ?_
      refine lv_iload_n hx hb d_Model_compare_62 rfl (lv_at hl 1 rfl) ?_
      obtain ⟨h4, h⟩ := gi_k h
      refine va_iald hx hb hK hP 4 0 rfl rfl h4 d_Model_compare_63 ?_
      refine lv_icmp_ge (tgt := 129) hx hb d_Model_compare_64 (by decide) (fun q5 => ?_) (fun q5 => ?_)
      · have h := it h q5
        refine lv_aload_n hx hb d_Model_compare_129 rfl (lv_at hl 0 rfl) ?_
        refine va_get (D := G.1) (ci := 6) (v := .ref a_mmany) (C := "BranchStoreModel") (T := F_Model) (N := 16) hx hb hts i_Model hown hK hP 0 rfl rfl 4 (by decide) (hts _ k_774) (fun _ h9 => h9) rfl d_Model_compare_130 ?_
        refine lv_iload_n hx hb d_Model_compare_133 rfl (lv_at hl 1 rfl) ?_
        obtain ⟨h6, h⟩ := gi_k h
        refine va_iald hx hb hK hP 4 0 rfl rfl h6 d_Model_compare_134 ?_
        refine lv_aload_n hx hb d_Model_compare_135 rfl (lv_at hl 0 rfl) ?_
        refine va_get (D := G.1) (ci := 6) (v := .ref a_mmany) (C := "BranchStoreModel") (T := F_Model) (N := 16) hx hb hts i_Model hown hK hP 0 rfl rfl 4 (by decide) (hts _ k_774) (fun _ h9 => h9) rfl d_Model_compare_136 ?_
        refine lv_iload_n hx hb d_Model_compare_139 rfl (lv_at hl 2 rfl) ?_
        obtain ⟨h7, h⟩ := gi_k h
        refine va_iald hx hb hK hP 4 0 rfl rfl h7 d_Model_compare_140 ?_
        refine lv_icmp_ge (tgt := 148) hx hb d_Model_compare_141 (by decide) (fun q8 => ?_) (fun q8 => ?_)
        · have h := it h q8
          refine lv_aload_n hx hb d_Model_compare_148 rfl (lv_at hl 0 rfl) ?_
          refine va_get (D := G.1) (ci := 6) (v := .ref a_mmany) (C := "BranchStoreModel") (T := F_Model) (N := 16) hx hb hts i_Model hown hK hP 0 rfl rfl 4 (by decide) (hts _ k_774) (fun _ h9 => h9) rfl d_Model_compare_149 ?_
          refine lv_iload_n hx hb d_Model_compare_152 rfl (lv_at hl 1 rfl) ?_
          obtain ⟨h9, h⟩ := gi_k h
          refine va_iald hx hb hK hP 4 0 rfl rfl h9 d_Model_compare_153 ?_
          refine lv_aload_n hx hb d_Model_compare_154 rfl (lv_at hl 0 rfl) ?_
          refine va_get (D := G.1) (ci := 6) (v := .ref a_mmany) (C := "BranchStoreModel") (T := F_Model) (N := 16) hx hb hts i_Model hown hK hP 0 rfl rfl 4 (by decide) (hts _ k_774) (fun _ h9 => h9) rfl d_Model_compare_155 ?_
          refine lv_iload_n hx hb d_Model_compare_158 rfl (lv_at hl 2 rfl) ?_
          obtain ⟨h10, h⟩ := gi_k h
          refine va_iald hx hb hK hP 4 0 rfl rfl h10 d_Model_compare_159 ?_
          refine lv_icmp_le (tgt := 167) hx hb d_Model_compare_160 (by decide) (fun q11 => ?_) (fun q11 => ?_)
          · have h := it h q11
            refine lv_iconst (v := 0) hx hb d_Model_compare_167 (by decide) ?_
            obtain rfl := he _ (Option.some.inj h).symm
            exact zreti () hQ hL hx hb hr hlocks hP hD hS rfl (Nat.le_refl _) (Nat.le_refl _) d_Model_compare_168
          · have h := ie h q11
            refine lv_iconst (v := 1) hx hb d_Model_compare_163 (by decide) ?_
            refine lv_goto (tgt := 168) hx hb d_Model_compare_164 (by decide) ?_
            obtain rfl := he _ (Option.some.inj h).symm
            exact zreti () hQ hL hx hb hr hlocks hP hD hS rfl (Nat.le_refl _) (Nat.le_refl _) d_Model_compare_168
        · have h := ie h q8
          refine lv_iconst (v := (-1)) hx hb d_Model_compare_144 (by decide) ?_
          refine lv_goto (tgt := 168) hx hb d_Model_compare_145 (by decide) ?_
          obtain rfl := he _ (Option.some.inj h).symm
          exact zreti () hQ hL hx hb hr hlocks hP hD hS rfl (Nat.le_refl _) (Nat.le_refl _) d_Model_compare_168
      · have h := ie h q5
        refine lv_iload_n hx hb d_Model_compare_67 rfl (lv_at hl 3 rfl) ?_
        refine lv_aload_n hx hb d_Model_compare_68 rfl (lv_at hl 0 rfl) ?_
        refine va_get (D := G.1) (ci := 6) (v := .ref a_mmany) (C := "BranchStoreModel") (T := F_Model) (N := 16) hx hb hts i_Model hown hK hP 0 rfl rfl 4 (by decide) (hts _ k_774) (fun _ h9 => h9) rfl d_Model_compare_69 ?_
        refine lv_iload_n hx hb d_Model_compare_72 rfl (lv_at hl 2 rfl) ?_
        obtain ⟨h12, h⟩ := gi_k h
        refine va_iald hx hb hK hP 4 0 rfl rfl h12 d_Model_compare_73 ?_
        refine lv_icmp_ge (tgt := 129) hx hb d_Model_compare_74 (by decide) (fun q13 => ?_) (fun q13 => ?_)
        · have h := it h q13
          refine lv_aload_n hx hb d_Model_compare_129 rfl (lv_at hl 0 rfl) ?_
          refine va_get (D := G.1) (ci := 6) (v := .ref a_mmany) (C := "BranchStoreModel") (T := F_Model) (N := 16) hx hb hts i_Model hown hK hP 0 rfl rfl 4 (by decide) (hts _ k_774) (fun _ h9 => h9) rfl d_Model_compare_130 ?_
          refine lv_iload_n hx hb d_Model_compare_133 rfl (lv_at hl 1 rfl) ?_
          obtain ⟨h14, h⟩ := gi_k h
          refine va_iald hx hb hK hP 4 0 rfl rfl h14 d_Model_compare_134 ?_
          refine lv_aload_n hx hb d_Model_compare_135 rfl (lv_at hl 0 rfl) ?_
          refine va_get (D := G.1) (ci := 6) (v := .ref a_mmany) (C := "BranchStoreModel") (T := F_Model) (N := 16) hx hb hts i_Model hown hK hP 0 rfl rfl 4 (by decide) (hts _ k_774) (fun _ h9 => h9) rfl d_Model_compare_136 ?_
          refine lv_iload_n hx hb d_Model_compare_139 rfl (lv_at hl 2 rfl) ?_
          obtain ⟨h15, h⟩ := gi_k h
          refine va_iald hx hb hK hP 4 0 rfl rfl h15 d_Model_compare_140 ?_
          refine lv_icmp_ge (tgt := 148) hx hb d_Model_compare_141 (by decide) (fun q16 => ?_) (fun q16 => ?_)
          · have h := it h q16
            refine lv_aload_n hx hb d_Model_compare_148 rfl (lv_at hl 0 rfl) ?_
            refine va_get (D := G.1) (ci := 6) (v := .ref a_mmany) (C := "BranchStoreModel") (T := F_Model) (N := 16) hx hb hts i_Model hown hK hP 0 rfl rfl 4 (by decide) (hts _ k_774) (fun _ h9 => h9) rfl d_Model_compare_149 ?_
            refine lv_iload_n hx hb d_Model_compare_152 rfl (lv_at hl 1 rfl) ?_
            obtain ⟨h17, h⟩ := gi_k h
            refine va_iald hx hb hK hP 4 0 rfl rfl h17 d_Model_compare_153 ?_
            refine lv_aload_n hx hb d_Model_compare_154 rfl (lv_at hl 0 rfl) ?_
            refine va_get (D := G.1) (ci := 6) (v := .ref a_mmany) (C := "BranchStoreModel") (T := F_Model) (N := 16) hx hb hts i_Model hown hK hP 0 rfl rfl 4 (by decide) (hts _ k_774) (fun _ h9 => h9) rfl d_Model_compare_155 ?_
            refine lv_iload_n hx hb d_Model_compare_158 rfl (lv_at hl 2 rfl) ?_
            obtain ⟨h18, h⟩ := gi_k h
            refine va_iald hx hb hK hP 4 0 rfl rfl h18 d_Model_compare_159 ?_
            refine lv_icmp_le (tgt := 167) hx hb d_Model_compare_160 (by decide) (fun q19 => ?_) (fun q19 => ?_)
            · have h := it h q19
              refine lv_iconst (v := 0) hx hb d_Model_compare_167 (by decide) ?_
              obtain rfl := he _ (Option.some.inj h).symm
              exact zreti () hQ hL hx hb hr hlocks hP hD hS rfl (Nat.le_refl _) (Nat.le_refl _) d_Model_compare_168
            · have h := ie h q19
              refine lv_iconst (v := 1) hx hb d_Model_compare_163 (by decide) ?_
              refine lv_goto (tgt := 168) hx hb d_Model_compare_164 (by decide) ?_
              obtain rfl := he _ (Option.some.inj h).symm
              exact zreti () hQ hL hx hb hr hlocks hP hD hS rfl (Nat.le_refl _) (Nat.le_refl _) d_Model_compare_168
          · have h := ie h q16
            refine lv_iconst (v := (-1)) hx hb d_Model_compare_144 (by decide) ?_
            refine lv_goto (tgt := 168) hx hb d_Model_compare_145 (by decide) ?_
            obtain rfl := he _ (Option.some.inj h).symm
            exact zreti () hQ hL hx hb hr hlocks hP hD hS rfl (Nat.le_refl _) (Nat.le_refl _) d_Model_compare_168
        · have h := ie h q13
          refine lv_aload_n hx hb d_Model_compare_77 rfl (lv_at hl 0 rfl) ?_
          refine va_get (D := G.1) (ci := 6) (v := .ref a_mlet) (C := "BranchStoreModel") (T := F_Model) (N := 16) hx hb hts i_Model hown hK hP 0 rfl rfl 3 (by decide) (hts _ k_773) (fun _ h9 => h9) rfl d_Model_compare_78 ?_
          refine lv_bipush (v := 24) hx hb d_Model_compare_81 (by decide) ?_
          refine lv_iload_n hx hb d_Model_compare_83 rfl (lv_at hl 1 rfl) ?_
          refine lv_imul hx hb d_Model_compare_84 ?_
          refine lv_iload_n hx hb d_Model_compare_85 rfl (lv_at hl 3 rfl) ?_
          refine lv_iadd hx hb d_Model_compare_86 ?_
          obtain ⟨h20, h⟩ := gi_k h
          refine va_iald hx hb hK hP 3 0 rfl rfl h20 d_Model_compare_87 ?_
          refine lv_topi (fun v21 ev21 => ?_)
          have h := nm_k h v21 ev21
          refine lv_istore (lv' := [(4, .int v21), (0, .ref a_m), (1, .int p_1), (2, .int p_2), (3, .int x3_2)]) hx hb d_Model_compare_88 hl (by decide) rfl (fun ls hl => ?_)
          refine lv_aload_n hx hb d_Model_compare_90 rfl (lv_at hl 1 rfl) ?_
          refine va_get (D := G.1) (ci := 6) (v := .ref a_mlet) (C := "BranchStoreModel") (T := F_Model) (N := 16) hx hb hts i_Model hown hK hP 0 rfl rfl 3 (by decide) (hts _ k_773) (fun _ h9 => h9) rfl d_Model_compare_91 ?_
          refine lv_bipush (v := 24) hx hb d_Model_compare_94 (by decide) ?_
          refine lv_iload_n hx hb d_Model_compare_96 rfl (lv_at hl 3 rfl) ?_
          refine lv_imul hx hb d_Model_compare_97 ?_
          refine lv_iload_n hx hb d_Model_compare_98 rfl (lv_at hl 4 rfl) ?_
          refine lv_iadd hx hb d_Model_compare_99 ?_
          obtain ⟨h22, h⟩ := gi_k h
          refine va_iald hx hb hK hP 3 0 rfl rfl h22 d_Model_compare_100 ?_
          refine lv_topi (fun v23 ev23 => ?_)
          have h := nm_k h v23 ev23
          refine lv_istore (lv' := [(5, .int v23), (4, .int v21), (0, .ref a_m), (1, .int p_1), (2, .int p_2), (3, .int x3_2)]) hx hb d_Model_compare_101 hl (by decide) rfl (fun ls hl => ?_)
          refine lv_iload hx hb d_Model_compare_103 (lv_at hl 1 rfl) ?_
          refine lv_iload hx hb d_Model_compare_105 (lv_at hl 0 rfl) ?_
          refine lv_icmp_eq (tgt := 123) hx hb d_Model_compare_107 (by decide) (fun q24 => ?_) (fun q24 => ?_)
          · have h := it h q24
            obtain ⟨v25, ev25⟩ : ∃ y : Int32, y = x3_2 + 1 := ⟨_, rfl⟩
            have h := nm_k h v25 ev25
            refine lv_iinc (v := v25) (lv' := [(3, .int v25), (5, .int v23), (4, .int v21), (0, .ref a_m), (1, .int p_1), (2, .int p_2)]) hx hb d_Model_compare_123 hl (k := 5) rfl (by rw [ev25]; rfl) (by decide) rfl (fun ls hl => ?_)
            refine lv_goto (tgt := 57) hx hb d_Model_compare_126 (by decide) ?_
            exact hc _ (Option.some.inj h).symm H locs ls hP hD hS hL (lv_sub hl [3, 4, 5, 0] rfl)
          · have h := ie h q24
            refine lv_iload hx hb d_Model_compare_110 (lv_at hl 1 rfl) ?_
            refine lv_iload hx hb d_Model_compare_112 (lv_at hl 0 rfl) ?_
            refine lv_icmp_ge (tgt := 121) hx hb d_Model_compare_114 (by decide) (fun q26 => ?_) (fun q26 => ?_)
            · have h := it h q26
              refine lv_iconst (v := 1) hx hb d_Model_compare_121 (by decide) ?_
              obtain rfl := he _ (Option.some.inj h).symm
              exact zreti () hQ hL hx hb hr hlocks hP hD hS rfl (Nat.le_refl _) (Nat.le_refl _) d_Model_compare_122
            · have h := ie h q26
              refine lv_iconst (v := (-1)) hx hb d_Model_compare_117 (by decide) ?_
              refine lv_goto (tgt := 122) hx hb d_Model_compare_118 (by decide) ?_
              obtain rfl := he _ (Option.some.inj h).symm
              exact zreti () hQ hL hx hb hr hlocks hP hD hS rfl (Nat.le_refl _) (Nat.le_refl _) d_Model_compare_122
    exact L57 _ h _ _ ls hP hD hS hL (lv_sub hl [1, 2, 3, 0] rfl)
  · have h := ie h q1
    refine lv_aload_n hx hb d_Model_compare_8 rfl (lv_at hl 0 rfl) ?_
    refine va_get (D := G.1) (ci := 6) (v := .ref a_mfst) (C := "BranchStoreModel") (T := F_Model) (N := 16) hx hb hts i_Model hown hK hP 0 rfl rfl 1 (by decide) (hts _ k_771) (fun _ h9 => h9) rfl d_Model_compare_9 ?_
    refine lv_iload_n hx hb d_Model_compare_12 rfl (lv_at hl 1 rfl) ?_
    obtain ⟨h27, h⟩ := gi_k h
    refine va_lald hx hb hK hP 1 2 rfl rfl h27 d_Model_compare_13 ?_
    refine lv_aload_n hx hb d_Model_compare_14 rfl (lv_at hl 0 rfl) ?_
    refine va_get (D := G.1) (ci := 6) (v := .ref a_mfst) (C := "BranchStoreModel") (T := F_Model) (N := 16) hx hb hts i_Model hown hK hP 0 rfl rfl 1 (by decide) (hts _ k_771) (fun _ h9 => h9) rfl d_Model_compare_15 ?_
    refine lv_iload_n hx hb d_Model_compare_18 rfl (lv_at hl 2 rfl) ?_
    obtain ⟨h28, h⟩ := gi_k h
    refine va_lald hx hb hK hP 1 2 rfl rfl h28 d_Model_compare_19 ?_
    obtain ⟨r29, hr29, h⟩ := ob h
    refine zpcalli (wr := (wM G a_m a_mfst a_msnd a_mlet a_mmany a_mval a_mord a_mfree a_mcode a_mnext a_mcom a_mmet c_sort c_cnt c_frees c_cur c_thr c_fst c_snd c_let c_many c_val c_ord c_free c_code c_next c_com c_met)) (w2 := fun _ => (wM G a_m a_mfst a_msnd a_mlet a_mmany a_mval a_mord a_mfree a_mcode a_mnext a_mcom a_mmet c_sort c_cnt c_frees c_cur c_thr c_fst c_snd c_let c_many c_val c_ord c_free c_code c_next c_com c_met)) (zrunS (As := [.long (c_fst p_1.toNatClampNeg), .long (c_fst p_2.toNatClampNeg)]) (rest := []) ⟨hx, hb, hml, hown, hts⟩ hN hK (c_Model_byOrder l G H.size (c_fst p_1.toNatClampNeg) (c_fst p_2.toNatClampNeg) r29 hr29) ⟨rfl, rfl⟩ kv_Model_55 ⟨Nat.le_of_ble_eq_true rfl, Nat.le_of_ble_eq_true rfl⟩ rfl hl.1 (Nat.le_of_ble_eq_true rfl) d_Model_compare_20 ⟨Nat.le_of_ble_eq_true rfl, Nat.le_of_ble_eq_true rfl⟩) hP hD hS hA [] [0, 1, 2, 3, 4, 5, 6, 7, 8, 9, 10, 11] [0, 1, 2, 3, 4, 5, 6, 7, 8, 9, 10, 11] rfl rfl rfl rfl (by decide) rfl (fun _ => rfl) (fun rr _ H hw hP hD hS => ?_)
    have hw := hw.symm
    subst hw
    refine lv_istore_n (lv' := [(3, .int r29), (0, .ref a_m), (1, .int p_1), (2, .int p_2)]) hx hb d_Model_compare_23 rfl hl (by decide) rfl (fun ls hl => ?_)
    refine lv_iload_n hx hb d_Model_compare_24 rfl (lv_at hl 0 rfl) ?_
    refine lv_if_ne (tgt := 35) hx hb d_Model_compare_25 (by decide) (fun q30 => ?_) (fun q30 => ?_)
    · have h := ie h q30
      refine lv_iload_n hx hb d_Model_compare_35 rfl (lv_at hl 0 rfl) ?_
      refine lv_goto (tgt := 54) hx hb d_Model_compare_36 (by decide) ?_
      obtain rfl := Option.some.inj h
      exact zreti () hQ hL hx hb hr hlocks hP hD hS rfl (Nat.le_refl _) (Nat.le_refl _) d_Model_compare_54
    · have h := it h q30
      refine lv_aload_n hx hb d_Model_compare_28 rfl (lv_at hl 1 rfl) ?_
      refine va_get (D := G.1) (ci := 6) (v := .int c_sort) (C := "BranchStoreModel") (T := F_Model) (N := 16) hx hb hts i_Model hown hK hP 0 rfl rfl 0 (by decide) (hts _ k_770) (fun _ h9 => h9) rfl d_Model_compare_29 ?_
      refine lv_if_ne (tgt := 39) hx hb d_Model_compare_32 (by decide) (fun q31 => ?_) (fun q31 => ?_)
      · have h := ie h q31
        refine lv_aload_n hx hb d_Model_compare_39 rfl (lv_at hl 1 rfl) ?_
        refine va_get (D := G.1) (ci := 6) (v := .ref a_msnd) (C := "BranchStoreModel") (T := F_Model) (N := 16) hx hb hts i_Model hown hK hP 0 rfl rfl 2 (by decide) (hts _ k_772) (fun _ h9 => h9) rfl d_Model_compare_40 ?_
        refine lv_iload_n hx hb d_Model_compare_43 rfl (lv_at hl 2 rfl) ?_
        obtain ⟨h32, h⟩ := gi_k h
        refine va_lald hx hb hK hP 2 2 rfl rfl h32 d_Model_compare_44 ?_
        refine lv_aload_n hx hb d_Model_compare_45 rfl (lv_at hl 1 rfl) ?_
        refine va_get (D := G.1) (ci := 6) (v := .ref a_msnd) (C := "BranchStoreModel") (T := F_Model) (N := 16) hx hb hts i_Model hown hK hP 0 rfl rfl 2 (by decide) (hts _ k_772) (fun _ h9 => h9) rfl d_Model_compare_46 ?_
        refine lv_iload_n hx hb d_Model_compare_49 rfl (lv_at hl 3 rfl) ?_
        obtain ⟨h33, h⟩ := gi_k h
        refine va_lald hx hb hK hP 2 2 rfl rfl h33 d_Model_compare_50 ?_
        obtain ⟨r34, hr34, h⟩ := ob h
        refine zpcalli (wr := (wM G a_m a_mfst a_msnd a_mlet a_mmany a_mval a_mord a_mfree a_mcode a_mnext a_mcom a_mmet c_sort c_cnt c_frees c_cur c_thr c_fst c_snd c_let c_many c_val c_ord c_free c_code c_next c_com c_met)) (w2 := fun _ => (wM G a_m a_mfst a_msnd a_mlet a_mmany a_mval a_mord a_mfree a_mcode a_mnext a_mcom a_mmet c_sort c_cnt c_frees c_cur c_thr c_fst c_snd c_let c_many c_val c_ord c_free c_code c_next c_com c_met)) (zrunS (As := [.long (c_snd p_1.toNatClampNeg), .long (c_snd p_2.toNatClampNeg)]) (rest := []) ⟨hx, hb, hml, hown, hts⟩ hN hK (c_Model_byOrder l G H.size (c_snd p_1.toNatClampNeg) (c_snd p_2.toNatClampNeg) r34 hr34) ⟨rfl, rfl⟩ kv_Model_55 ⟨Nat.le_of_ble_eq_true rfl, Nat.le_of_ble_eq_true rfl⟩ rfl hl.1 (Nat.le_of_ble_eq_true rfl) d_Model_compare_51 ⟨Nat.le_of_ble_eq_true rfl, Nat.le_of_ble_eq_true rfl⟩) hP hD hS hA [] [0, 1, 2, 3, 4, 5, 6, 7, 8, 9, 10, 11] [0, 1, 2, 3, 4, 5, 6, 7, 8, 9, 10, 11] rfl rfl rfl rfl (by decide) rfl (fun _ => rfl) (fun rr _ H hw hP hD hS => ?_)
        have hw := hw.symm
        subst hw
        obtain rfl := Option.some.inj h
        exact zreti () hQ hL hx hb hr hlocks hP hD hS rfl (Nat.le_refl _) (Nat.le_refl _) d_Model_compare_54
      · have h := it h q31
        refine lv_iload_n hx hb d_Model_compare_35 rfl (lv_at hl 0 rfl) ?_
        refine lv_goto (tgt := 54) hx hb d_Model_compare_36 (by decide) ?_
        obtain rfl := Option.some.inj h
        exact zreti () hQ hL hx hb hr hlocks hP hD hS rfl (Nat.le_refl _) (Nat.le_refl _) d_Model_compare_54

noncomputable def s_Model_copy_38 (x1 : Int32) (x2 : Int32) (x3 : Int32) (c_let : (Nat → Int32)) : Option ((Int32 × (Nat → Int32)) ⊕ (Nat → Int32)) :=
if 24 ≤ x3 then
(some (.inr c_let))
else
(gi ((24 * x2) + x3) 36072 <|
gi ((24 * x1) + x3) 36072 <|
nm (upd c_let ((24 * x1) + x3).toNatClampNeg (c_let ((24 * x2) + x3).toNatClampNeg)) fun c16 =>
nm (x3 + 1) fun v17 =>
some (.inl (v17, c16)))
noncomputable def f_Model_copy (c_fst : (Nat → Int64)) (c_snd : (Nat → Int64)) (c_let : (Nat → Int32)) (c_many : (Nat → Int32)) (p_1 : Int32) (p_2 : Int32) : Option ((Nat → Int64) × (Nat → Int64) × (Nat → Int32) × (Nat → Int32)) :=
gi p_2 1503 <|
gi p_1 1503 <|
nm (vp_updL c_fst p_1.toNatClampNeg (c_fst p_2.toNatClampNeg)) fun c3 =>
gi p_2 1503 <|
gi p_1 1503 <|
nm (vp_updL c_snd p_1.toNatClampNeg (c_snd p_2.toNatClampNeg)) fun c6 =>
gi p_2 1503 <|
gi p_1 1503 <|
nm (upd c_many p_1.toNatClampNeg (c_many p_2.toNatClampNeg)) fun c9 =>
(lp (fun v => s_Model_copy_38 p_1 p_2 v.1 v.2) (0, c_let)).bind fun y19 =>
some (c3, c6, y19, c9)
set_option maxHeartbeats 8000000 in
set_option maxRecDepth 100000 in
theorem c_Model_copy (l : Launch) (G : zG) (sz : Nat) (a_m a_mfst a_msnd a_mlet a_mmany a_mval a_mord a_mfree a_mcode a_mnext a_mcom a_mmet : Nat) (c_sort : Int32) (c_cnt : Int32) (c_frees : Int32) (c_cur : Int32) (c_thr : Int32) (c_fst : (Nat → Int64)) (c_snd : (Nat → Int64)) (c_let : (Nat → Int32)) (c_many : (Nat → Int32)) (c_val : (Nat → Int64)) (c_ord : (Nat → Int32)) (c_free : (Nat → Int32)) (c_code : (Nat → Int32)) (c_next : (Nat → Int32)) (c_com : (Nat → Int32)) (c_met : (Nat → Int32)) (p_1 : Int32) (p_2 : Int32) (r0 : ((Nat → Int64) × (Nat → Int64) × (Nat → Int32) × (Nat → Int32))) (hf : f_Model_copy c_fst c_snd c_let c_many p_1 p_2 = some r0) :
    Met l y_Model_copy (Cond.code y_Model_copy prog_9_method_6_code 4 none :: lw_ok) { frames := 0, cells := 0, slots := 0, locals := 0 } (zPc G sz [.ref a_m, .int p_1, .int p_2] (wM G a_m a_mfst a_msnd a_mlet a_mmany a_mval a_mord a_mfree a_mcode a_mnext a_mcom a_mmet c_sort c_cnt c_frees c_cur c_thr c_fst c_snd c_let c_many c_val c_ord c_free c_code c_next c_com c_met))
      ((fun (A : Nat → Prop) => va_Qv (fun (_ : Unit) => True) (fun _ t => zB G A (wM G a_m a_mfst a_msnd a_mlet a_mmany a_mval a_mord a_mfree a_mcode a_mnext a_mcom a_mmet c_sort c_cnt c_frees c_cur c_thr r0.1 r0.2.1 r0.2.2.1 r0.2.2.2 c_val c_ord c_free c_code c_next c_com c_met) t) A) (va_A (wM G a_m a_mfst a_msnd a_mlet a_mmany a_mval a_mord a_mfree a_mcode a_mnext a_mcom a_mmet c_sort c_cnt c_frees c_cur c_thr c_fst c_snd c_let c_many c_val c_ord c_free c_code c_next c_com c_met) sz)) 0 0 (va_A (wM G a_m a_mfst a_msnd a_mlet a_mmany a_mval a_mord a_mfree a_mcode a_mnext a_mcom a_mmet c_sort c_cnt c_frees c_cur c_thr c_fst c_snd c_let c_many c_val c_ord c_free c_code c_next c_com c_met) sz) := by
  refine zMet (Qc := fun (A : Nat → Prop) => va_Qv (fun (_ : Unit) => True) (fun _ t => zB G A (wM G a_m a_mfst a_msnd a_mlet a_mmany a_mval a_mord a_mfree a_mcode a_mnext a_mcom a_mmet c_sort c_cnt c_frees c_cur c_thr r0.1 r0.2.1 r0.2.2.1 r0.2.2.2 c_val c_ord c_free c_code c_next c_com c_met) t) A) (by decide) (Nat.le_of_ble_eq_true rfl) (fun xp xe xs xm xb xme xc A ls Q H locs C hN hK hP hD hS hA hl hQ => ?_)
  obtain ⟨hx, hb, hr, hts, hown, hlocks, hml, hin⟩ := C
  have hl : lv_has ls 4 [(0, .ref a_m), (1, .int p_1), (2, .int p_2)] := hl
  have h := hf
  unfold f_Model_copy at h
  refine lv_aload_n hx hb d_Model_copy_0 rfl (lv_at hl 0 rfl) ?_
  refine va_get (D := G.1) (ci := 6) (v := .ref a_mfst) (C := "BranchStoreModel") (T := F_Model) (N := 16) hx hb hts i_Model hown hK hP 0 rfl rfl 1 (by decide) (hts _ k_771) (fun _ h9 => h9) rfl d_Model_copy_1 ?_
  refine lv_iload_n hx hb d_Model_copy_4 rfl (lv_at hl 1 rfl) ?_
  refine lv_aload_n hx hb d_Model_copy_5 rfl (lv_at hl 0 rfl) ?_
  refine va_get (D := G.1) (ci := 6) (v := .ref a_mfst) (C := "BranchStoreModel") (T := F_Model) (N := 16) hx hb hts i_Model hown hK hP 0 rfl rfl 1 (by decide) (hts _ k_771) (fun _ h9 => h9) rfl d_Model_copy_6 ?_
  refine lv_iload_n hx hb d_Model_copy_9 rfl (lv_at hl 2 rfl) ?_
  obtain ⟨h1, h⟩ := gi_k h
  refine va_lald hx hb hK hP 1 2 rfl rfl h1 d_Model_copy_10 ?_
  obtain ⟨h2, h⟩ := gi_k h
  refine va_last hx hb hK hP hD hS 1 2 rfl rfl h2 d_Model_copy_11 (fun H locs hP hD hS => ?_)
  obtain ⟨c3, ec3⟩ : ∃ y, y = vp_updL c_fst p_1.toNatClampNeg (c_fst p_2.toNatClampNeg) := ⟨_, rfl⟩
  have h := nm_k h c3 ec3
  have hP : va_P G.1 classes (wM G a_m a_mfst a_msnd a_mlet a_mmany a_mval a_mord a_mfree a_mcode a_mnext a_mcom a_mmet c_sort c_cnt c_frees c_cur c_thr c3 c_snd c_let c_many c_val c_ord c_free c_code c_next c_com c_met) H := by rw [ec3]; exact hP
  have hD : va_D A (wM G a_m a_mfst a_msnd a_mlet a_mmany a_mval a_mord a_mfree a_mcode a_mnext a_mcom a_mmet c_sort c_cnt c_frees c_cur c_thr c3 c_snd c_let c_many c_val c_ord c_free c_code c_next c_com c_met) := by rw [ec3]; exact hD
  refine lv_aload_n hx hb d_Model_copy_12 rfl (lv_at hl 0 rfl) ?_
  refine va_get (D := G.1) (ci := 6) (v := .ref a_msnd) (C := "BranchStoreModel") (T := F_Model) (N := 16) hx hb hts i_Model hown hK hP 0 rfl rfl 2 (by decide) (hts _ k_772) (fun _ h9 => h9) rfl d_Model_copy_13 ?_
  refine lv_iload_n hx hb d_Model_copy_16 rfl (lv_at hl 1 rfl) ?_
  refine lv_aload_n hx hb d_Model_copy_17 rfl (lv_at hl 0 rfl) ?_
  refine va_get (D := G.1) (ci := 6) (v := .ref a_msnd) (C := "BranchStoreModel") (T := F_Model) (N := 16) hx hb hts i_Model hown hK hP 0 rfl rfl 2 (by decide) (hts _ k_772) (fun _ h9 => h9) rfl d_Model_copy_18 ?_
  refine lv_iload_n hx hb d_Model_copy_21 rfl (lv_at hl 2 rfl) ?_
  obtain ⟨h4, h⟩ := gi_k h
  refine va_lald hx hb hK hP 2 2 rfl rfl h4 d_Model_copy_22 ?_
  obtain ⟨h5, h⟩ := gi_k h
  refine va_last hx hb hK hP hD hS 2 2 rfl rfl h5 d_Model_copy_23 (fun H locs hP hD hS => ?_)
  obtain ⟨c6, ec6⟩ : ∃ y, y = vp_updL c_snd p_1.toNatClampNeg (c_snd p_2.toNatClampNeg) := ⟨_, rfl⟩
  have h := nm_k h c6 ec6
  have hP : va_P G.1 classes (wM G a_m a_mfst a_msnd a_mlet a_mmany a_mval a_mord a_mfree a_mcode a_mnext a_mcom a_mmet c_sort c_cnt c_frees c_cur c_thr c3 c6 c_let c_many c_val c_ord c_free c_code c_next c_com c_met) H := by rw [ec6]; exact hP
  have hD : va_D A (wM G a_m a_mfst a_msnd a_mlet a_mmany a_mval a_mord a_mfree a_mcode a_mnext a_mcom a_mmet c_sort c_cnt c_frees c_cur c_thr c3 c6 c_let c_many c_val c_ord c_free c_code c_next c_com c_met) := by rw [ec6]; exact hD
  refine lv_aload_n hx hb d_Model_copy_24 rfl (lv_at hl 0 rfl) ?_
  refine va_get (D := G.1) (ci := 6) (v := .ref a_mmany) (C := "BranchStoreModel") (T := F_Model) (N := 16) hx hb hts i_Model hown hK hP 0 rfl rfl 4 (by decide) (hts _ k_774) (fun _ h9 => h9) rfl d_Model_copy_25 ?_
  refine lv_iload_n hx hb d_Model_copy_28 rfl (lv_at hl 1 rfl) ?_
  refine lv_aload_n hx hb d_Model_copy_29 rfl (lv_at hl 0 rfl) ?_
  refine va_get (D := G.1) (ci := 6) (v := .ref a_mmany) (C := "BranchStoreModel") (T := F_Model) (N := 16) hx hb hts i_Model hown hK hP 0 rfl rfl 4 (by decide) (hts _ k_774) (fun _ h9 => h9) rfl d_Model_copy_30 ?_
  refine lv_iload_n hx hb d_Model_copy_33 rfl (lv_at hl 2 rfl) ?_
  obtain ⟨h7, h⟩ := gi_k h
  refine va_iald hx hb hK hP 4 0 rfl rfl h7 d_Model_copy_34 ?_
  obtain ⟨h8, h⟩ := gi_k h
  refine va_iast hx hb hK hP hD hS 4 0 rfl rfl h8 d_Model_copy_35 (fun H locs hP hD hS => ?_)
  obtain ⟨c9, ec9⟩ : ∃ y, y = upd c_many p_1.toNatClampNeg (c_many p_2.toNatClampNeg) := ⟨_, rfl⟩
  have h := nm_k h c9 ec9
  have hP : va_P G.1 classes (wM G a_m a_mfst a_msnd a_mlet a_mmany a_mval a_mord a_mfree a_mcode a_mnext a_mcom a_mmet c_sort c_cnt c_frees c_cur c_thr c3 c6 c_let c9 c_val c_ord c_free c_code c_next c_com c_met) H := by rw [ec9]; exact hP
  have hD : va_D A (wM G a_m a_mfst a_msnd a_mlet a_mmany a_mval a_mord a_mfree a_mcode a_mnext a_mcom a_mmet c_sort c_cnt c_frees c_cur c_thr c3 c6 c_let c9 c_val c_ord c_free c_code c_next c_com c_met) := by rw [ec9]; exact hD
  refine lv_iconst (v := 0) hx hb d_Model_copy_36 (by decide) ?_
  refine lv_istore_n (lv' := [(3, .int 0), (0, .ref a_m), (1, .int p_1), (2, .int p_2)]) hx hb d_Model_copy_37 rfl hl (by decide) rfl (fun ls hl => ?_)
  obtain ⟨y12, hy12, h⟩ := ob h
  have E38 : ∀ (z18 : (Nat → Int32)), z18 = y12 → ∀ (H : Heap) (locs : List Loc) (ls : Array Slot), va_P G.1 classes (wM G a_m a_mfst a_msnd a_mlet a_mmany a_mval a_mord a_mfree a_mcode a_mnext a_mcom a_mmet c_sort c_cnt c_frees c_cur c_thr c3 c6 z18 c9 c_val c_ord c_free c_code c_next c_com c_met) H → va_D A (wM G a_m a_mfst a_msnd a_mlet a_mmany a_mval a_mord a_mfree a_mcode a_mnext a_mcom a_mmet c_sort c_cnt c_frees c_cur c_thr c3 c6 z18 c9 c_val c_ord c_free c_code c_next c_com c_met) → va_S A xs.heap H locs → lv_has ls 4 [] → W xp l xe { frames := 0, cells := 0, slots := 0, locals := 0 } xs xm ([.ref a_m, .int p_1, .int p_2] : List Value).toArray xb xme xc H locs 0 0 Q (F0 xm 72 ls []) := by
    intro z18 ey H locs ls hP hD hS hl
    subst ey
    try dsimp only at h
    obtain rfl := Option.some.inj h
    exact zretv () hQ hS.2.2 hx hb hr hlocks hP hD hS trivial (Nat.le_refl _) (Nat.le_refl _) d_Model_copy_72
  have L38 : ∀ v : (Int32 × (Nat → Int32)), lp (fun v => s_Model_copy_38 p_1 p_2 v.1 v.2) v = some y12 → ∀ (H : Heap) (locs : List Loc) (ls : Array Slot), va_P G.1 classes (wM G a_m a_mfst a_msnd a_mlet a_mmany a_mval a_mord a_mfree a_mcode a_mnext a_mcom a_mmet c_sort c_cnt c_frees c_cur c_thr c3 c6 v.2 c9 c_val c_ord c_free c_code c_next c_com c_met) H → va_D A (wM G a_m a_mfst a_msnd a_mlet a_mmany a_mval a_mord a_mfree a_mcode a_mnext a_mcom a_mmet c_sort c_cnt c_frees c_cur c_thr c3 c6 v.2 c9 c_val c_ord c_free c_code c_next c_com c_met) → va_S A xs.heap H locs → lv_has ls 4 [(0, .ref a_m), (1, .int p_1), (2, .int p_2), (3, .int v.1)] → W xp l xe { frames := 0, cells := 0, slots := 0, locals := 0 } xs xm ([.ref a_m, .int p_1, .int p_2] : List Value).toArray xb xme xc H locs 0 0 Q (F0 xm 38 ls []) := by
    refine lp_walk _ (fun v x h hc he => ?_)
    obtain ⟨x3_10, c11⟩ := v
    intro H locs ls hP hD hS hl
    have h : s_Model_copy_38 p_1 p_2 x3_10 c11 = some x := h
    unfold s_Model_copy_38 at h
    refine lv_iload_n hx hb d_Model_copy_38 rfl (lv_at hl 3 rfl) ?_
    refine lv_bipush (v := 24) hx hb d_Model_copy_39 (by decide) ?_
    refine lv_icmp_ge (tgt := 72) hx hb d_Model_copy_41 (by decide) (fun q13 => ?_) (fun q13 => ?_)
    · have h := it h q13
      exact E38 c11 (he _ (Option.some.inj h).symm) H locs ls hP hD hS (lv_sub hl [] rfl)
    · have h := ie h q13
      refine lv_aload_n hx hb d_Model_copy_44 rfl (lv_at hl 0 rfl) ?_
      refine va_get (D := G.1) (ci := 6) (v := .ref a_mlet) (C := "BranchStoreModel") (T := F_Model) (N := 16) hx hb hts i_Model hown hK hP 0 rfl rfl 3 (by decide) (hts _ k_773) (fun _ h9 => h9) rfl d_Model_copy_45 ?_
      refine lv_bipush (v := 24) hx hb d_Model_copy_48 (by decide) ?_
      refine lv_iload_n hx hb d_Model_copy_50 rfl (lv_at hl 1 rfl) ?_
      refine lv_imul hx hb d_Model_copy_51 ?_
      refine lv_iload_n hx hb d_Model_copy_52 rfl (lv_at hl 3 rfl) ?_
      refine lv_iadd hx hb d_Model_copy_53 ?_
      refine lv_aload_n hx hb d_Model_copy_54 rfl (lv_at hl 0 rfl) ?_
      refine va_get (D := G.1) (ci := 6) (v := .ref a_mlet) (C := "BranchStoreModel") (T := F_Model) (N := 16) hx hb hts i_Model hown hK hP 0 rfl rfl 3 (by decide) (hts _ k_773) (fun _ h9 => h9) rfl d_Model_copy_55 ?_
      refine lv_bipush (v := 24) hx hb d_Model_copy_58 (by decide) ?_
      refine lv_iload_n hx hb d_Model_copy_60 rfl (lv_at hl 2 rfl) ?_
      refine lv_imul hx hb d_Model_copy_61 ?_
      refine lv_iload_n hx hb d_Model_copy_62 rfl (lv_at hl 3 rfl) ?_
      refine lv_iadd hx hb d_Model_copy_63 ?_
      obtain ⟨h14, h⟩ := gi_k h
      refine va_iald hx hb hK hP 3 0 rfl rfl h14 d_Model_copy_64 ?_
      obtain ⟨h15, h⟩ := gi_k h
      refine va_iast hx hb hK hP hD hS 3 0 rfl rfl h15 d_Model_copy_65 (fun H locs hP hD hS => ?_)
      obtain ⟨c16, ec16⟩ : ∃ y, y = upd c11 ((24 * p_1) + x3_10).toNatClampNeg (c11 ((24 * p_2) + x3_10).toNatClampNeg) := ⟨_, rfl⟩
      have h := nm_k h c16 ec16
      have hP : va_P G.1 classes (wM G a_m a_mfst a_msnd a_mlet a_mmany a_mval a_mord a_mfree a_mcode a_mnext a_mcom a_mmet c_sort c_cnt c_frees c_cur c_thr c3 c6 c16 c9 c_val c_ord c_free c_code c_next c_com c_met) H := by rw [ec16]; exact hP
      have hD : va_D A (wM G a_m a_mfst a_msnd a_mlet a_mmany a_mval a_mord a_mfree a_mcode a_mnext a_mcom a_mmet c_sort c_cnt c_frees c_cur c_thr c3 c6 c16 c9 c_val c_ord c_free c_code c_next c_com c_met) := by rw [ec16]; exact hD
      obtain ⟨v17, ev17⟩ : ∃ y : Int32, y = x3_10 + 1 := ⟨_, rfl⟩
      have h := nm_k h v17 ev17
      refine lv_iinc (v := v17) (lv' := [(3, .int v17), (0, .ref a_m), (1, .int p_1), (2, .int p_2)]) hx hb d_Model_copy_66 hl (k := 3) rfl (by rw [ev17]; rfl) (by decide) rfl (fun ls hl => ?_)
      refine lv_goto (tgt := 38) hx hb d_Model_copy_69 (by decide) ?_
      exact hc _ (Option.some.inj h).symm H locs ls hP hD hS (lv_sub hl [1, 2, 3, 0] rfl)
  exact L38 _ hy12 _ _ ls hP hD hS (lv_sub hl [1, 2, 3, 0] rfl)

noncomputable def f_Model_blank (c_fst : (Nat → Int64)) (c_snd : (Nat → Int64)) (c_many : (Nat → Int32)) (p_1 : Int32) : Option ((Nat → Int64) × (Nat → Int64) × (Nat → Int32)) :=
gi p_1 1503 <|
nm (vp_updL c_fst p_1.toNatClampNeg 0) fun c2 =>
gi p_1 1503 <|
nm (vp_updL c_snd p_1.toNatClampNeg 0) fun c4 =>
gi p_1 1503 <|
nm (upd c_many p_1.toNatClampNeg 0) fun c6 =>
some (c2, c4, c6)
set_option maxHeartbeats 8000000 in
set_option maxRecDepth 100000 in
theorem c_Model_blank (l : Launch) (G : zG) (sz : Nat) (a_m a_mfst a_msnd a_mlet a_mmany a_mval a_mord a_mfree a_mcode a_mnext a_mcom a_mmet : Nat) (c_sort : Int32) (c_cnt : Int32) (c_frees : Int32) (c_cur : Int32) (c_thr : Int32) (c_fst : (Nat → Int64)) (c_snd : (Nat → Int64)) (c_let : (Nat → Int32)) (c_many : (Nat → Int32)) (c_val : (Nat → Int64)) (c_ord : (Nat → Int32)) (c_free : (Nat → Int32)) (c_code : (Nat → Int32)) (c_next : (Nat → Int32)) (c_com : (Nat → Int32)) (c_met : (Nat → Int32)) (p_1 : Int32) (r0 : ((Nat → Int64) × (Nat → Int64) × (Nat → Int32))) (hf : f_Model_blank c_fst c_snd c_many p_1 = some r0) :
    Met l y_Model_blank (Cond.code y_Model_blank prog_9_method_7_code 2 none :: lw_ok) { frames := 0, cells := 0, slots := 0, locals := 0 } (zPc G sz [.ref a_m, .int p_1] (wM G a_m a_mfst a_msnd a_mlet a_mmany a_mval a_mord a_mfree a_mcode a_mnext a_mcom a_mmet c_sort c_cnt c_frees c_cur c_thr c_fst c_snd c_let c_many c_val c_ord c_free c_code c_next c_com c_met))
      ((fun (A : Nat → Prop) => va_Qv (fun (_ : Unit) => True) (fun _ t => zB G A (wM G a_m a_mfst a_msnd a_mlet a_mmany a_mval a_mord a_mfree a_mcode a_mnext a_mcom a_mmet c_sort c_cnt c_frees c_cur c_thr r0.1 r0.2.1 c_let r0.2.2 c_val c_ord c_free c_code c_next c_com c_met) t) A) (va_A (wM G a_m a_mfst a_msnd a_mlet a_mmany a_mval a_mord a_mfree a_mcode a_mnext a_mcom a_mmet c_sort c_cnt c_frees c_cur c_thr c_fst c_snd c_let c_many c_val c_ord c_free c_code c_next c_com c_met) sz)) 0 0 (va_A (wM G a_m a_mfst a_msnd a_mlet a_mmany a_mval a_mord a_mfree a_mcode a_mnext a_mcom a_mmet c_sort c_cnt c_frees c_cur c_thr c_fst c_snd c_let c_many c_val c_ord c_free c_code c_next c_com c_met) sz) := by
  refine zMet (Qc := fun (A : Nat → Prop) => va_Qv (fun (_ : Unit) => True) (fun _ t => zB G A (wM G a_m a_mfst a_msnd a_mlet a_mmany a_mval a_mord a_mfree a_mcode a_mnext a_mcom a_mmet c_sort c_cnt c_frees c_cur c_thr r0.1 r0.2.1 c_let r0.2.2 c_val c_ord c_free c_code c_next c_com c_met) t) A) (by decide) (Nat.le_of_ble_eq_true rfl) (fun xp xe xs xm xb xme xc A ls Q H locs C hN hK hP hD hS hA hl hQ => ?_)
  obtain ⟨hx, hb, hr, hts, hown, hlocks, hml, hin⟩ := C
  have hl : lv_has ls 2 [(0, .ref a_m), (1, .int p_1)] := hl
  have h := hf
  unfold f_Model_blank at h
  refine lv_aload_n hx hb d_Model_blank_0 rfl (lv_at hl 0 rfl) ?_
  refine va_get (D := G.1) (ci := 6) (v := .ref a_mfst) (C := "BranchStoreModel") (T := F_Model) (N := 16) hx hb hts i_Model hown hK hP 0 rfl rfl 1 (by decide) (hts _ k_771) (fun _ h9 => h9) rfl d_Model_blank_1 ?_
  refine lv_iload_n hx hb d_Model_blank_4 rfl (lv_at hl 1 rfl) ?_
  refine lv_lconst (v := 0) hx hb d_Model_blank_5 (by decide) ?_
  obtain ⟨h1, h⟩ := gi_k h
  refine va_last hx hb hK hP hD hS 1 2 rfl rfl h1 d_Model_blank_6 (fun H locs hP hD hS => ?_)
  obtain ⟨c2, ec2⟩ : ∃ y, y = vp_updL c_fst p_1.toNatClampNeg 0 := ⟨_, rfl⟩
  have h := nm_k h c2 ec2
  have hP : va_P G.1 classes (wM G a_m a_mfst a_msnd a_mlet a_mmany a_mval a_mord a_mfree a_mcode a_mnext a_mcom a_mmet c_sort c_cnt c_frees c_cur c_thr c2 c_snd c_let c_many c_val c_ord c_free c_code c_next c_com c_met) H := by rw [ec2]; exact hP
  have hD : va_D A (wM G a_m a_mfst a_msnd a_mlet a_mmany a_mval a_mord a_mfree a_mcode a_mnext a_mcom a_mmet c_sort c_cnt c_frees c_cur c_thr c2 c_snd c_let c_many c_val c_ord c_free c_code c_next c_com c_met) := by rw [ec2]; exact hD
  refine lv_aload_n hx hb d_Model_blank_7 rfl (lv_at hl 0 rfl) ?_
  refine va_get (D := G.1) (ci := 6) (v := .ref a_msnd) (C := "BranchStoreModel") (T := F_Model) (N := 16) hx hb hts i_Model hown hK hP 0 rfl rfl 2 (by decide) (hts _ k_772) (fun _ h9 => h9) rfl d_Model_blank_8 ?_
  refine lv_iload_n hx hb d_Model_blank_11 rfl (lv_at hl 1 rfl) ?_
  refine lv_lconst (v := 0) hx hb d_Model_blank_12 (by decide) ?_
  obtain ⟨h3, h⟩ := gi_k h
  refine va_last hx hb hK hP hD hS 2 2 rfl rfl h3 d_Model_blank_13 (fun H locs hP hD hS => ?_)
  obtain ⟨c4, ec4⟩ : ∃ y, y = vp_updL c_snd p_1.toNatClampNeg 0 := ⟨_, rfl⟩
  have h := nm_k h c4 ec4
  have hP : va_P G.1 classes (wM G a_m a_mfst a_msnd a_mlet a_mmany a_mval a_mord a_mfree a_mcode a_mnext a_mcom a_mmet c_sort c_cnt c_frees c_cur c_thr c2 c4 c_let c_many c_val c_ord c_free c_code c_next c_com c_met) H := by rw [ec4]; exact hP
  have hD : va_D A (wM G a_m a_mfst a_msnd a_mlet a_mmany a_mval a_mord a_mfree a_mcode a_mnext a_mcom a_mmet c_sort c_cnt c_frees c_cur c_thr c2 c4 c_let c_many c_val c_ord c_free c_code c_next c_com c_met) := by rw [ec4]; exact hD
  refine lv_aload_n hx hb d_Model_blank_14 rfl (lv_at hl 0 rfl) ?_
  refine va_get (D := G.1) (ci := 6) (v := .ref a_mmany) (C := "BranchStoreModel") (T := F_Model) (N := 16) hx hb hts i_Model hown hK hP 0 rfl rfl 4 (by decide) (hts _ k_774) (fun _ h9 => h9) rfl d_Model_blank_15 ?_
  refine lv_iload_n hx hb d_Model_blank_18 rfl (lv_at hl 1 rfl) ?_
  refine lv_iconst (v := 0) hx hb d_Model_blank_19 (by decide) ?_
  obtain ⟨h5, h⟩ := gi_k h
  refine va_iast hx hb hK hP hD hS 4 0 rfl rfl h5 d_Model_blank_20 (fun H locs hP hD hS => ?_)
  obtain ⟨c6, ec6⟩ : ∃ y, y = upd c_many p_1.toNatClampNeg 0 := ⟨_, rfl⟩
  have h := nm_k h c6 ec6
  have hP : va_P G.1 classes (wM G a_m a_mfst a_msnd a_mlet a_mmany a_mval a_mord a_mfree a_mcode a_mnext a_mcom a_mmet c_sort c_cnt c_frees c_cur c_thr c2 c4 c_let c6 c_val c_ord c_free c_code c_next c_com c_met) H := by rw [ec6]; exact hP
  have hD : va_D A (wM G a_m a_mfst a_msnd a_mlet a_mmany a_mval a_mord a_mfree a_mcode a_mnext a_mcom a_mmet c_sort c_cnt c_frees c_cur c_thr c2 c4 c_let c6 c_val c_ord c_free c_code c_next c_com c_met) := by rw [ec6]; exact hD
  obtain rfl := Option.some.inj h
  exact zretv () hQ hS.2.2 hx hb hr hlocks hP hD hS trivial (Nat.le_refl _) (Nat.le_refl _) d_Model_blank_21

theorem kv_Model_62 : zKV "BranchStoreModel" 62 y_Model_compare prog_9_method_5_code 6 (some .int) 2 := ⟨k_869, k_871, kp_31, k_8, k_872, by decide +kernel⟩
noncomputable def s_Model_below_7 (c_sort : Int32) (c_fst : (Nat → Int64)) (c_snd : (Nat → Int64)) (c_let : (Nat → Int32)) (c_many : (Nat → Int32)) (c_ord : (Nat → Int32)) (x1 : Int32) (x2 : Int32) (x3 : Int32) : Option ((Int32 × Int32) ⊕ Int32) :=
if x3 ≤ x2 then
(some (.inr x2))
else
(nm ((x2 + x3) / 2) fun v5 =>
gi v5 1500 <|
(f_Model_compare c_sort c_fst c_snd c_let c_many (c_ord v5.toNatClampNeg) x1).bind fun r7 =>
if 0 ≤ r7 then
(some (.inl (x2, v5)))
else
(nm (v5 + 1) fun v9 =>
some (.inl (v9, x3))))
noncomputable def f_Model_below (c_sort : Int32) (c_cnt : Int32) (c_fst : (Nat → Int64)) (c_snd : (Nat → Int64)) (c_let : (Nat → Int32)) (c_many : (Nat → Int32)) (c_ord : (Nat → Int32)) (p_1 : Int32) : Option Int32 :=
(lp (fun v => s_Model_below_7 c_sort c_fst c_snd c_let c_many c_ord p_1 v.1 v.2) (0, c_cnt)).bind fun y11 =>
some y11
set_option maxHeartbeats 8000000 in
set_option maxRecDepth 100000 in
theorem c_Model_below (l : Launch) (G : zG) (sz : Nat) (a_m a_mfst a_msnd a_mlet a_mmany a_mval a_mord a_mfree a_mcode a_mnext a_mcom a_mmet : Nat) (c_sort : Int32) (c_cnt : Int32) (c_frees : Int32) (c_cur : Int32) (c_thr : Int32) (c_fst : (Nat → Int64)) (c_snd : (Nat → Int64)) (c_let : (Nat → Int32)) (c_many : (Nat → Int32)) (c_val : (Nat → Int64)) (c_ord : (Nat → Int32)) (c_free : (Nat → Int32)) (c_code : (Nat → Int32)) (c_next : (Nat → Int32)) (c_com : (Nat → Int32)) (c_met : (Nat → Int32)) (p_1 : Int32) (r0 : Int32) (hf : f_Model_below c_sort c_cnt c_fst c_snd c_let c_many c_ord p_1 = some r0) :
    Met l y_Model_below (Cond.code y_Model_below prog_9_method_8_code 5 (some .int) :: lw_ok) { frames := 2, cells := 0, slots := 0, locals := 48 } (zPc G sz [.ref a_m, .int p_1] (wM G a_m a_mfst a_msnd a_mlet a_mmany a_mval a_mord a_mfree a_mcode a_mnext a_mcom a_mmet c_sort c_cnt c_frees c_cur c_thr c_fst c_snd c_let c_many c_val c_ord c_free c_code c_next c_com c_met))
      ((fun (A : Nat → Prop) => va_Qi (fun (r : Int32) (_ : Unit) => r = r0) (fun _ t => zB G A (wM G a_m a_mfst a_msnd a_mlet a_mmany a_mval a_mord a_mfree a_mcode a_mnext a_mcom a_mmet c_sort c_cnt c_frees c_cur c_thr c_fst c_snd c_let c_many c_val c_ord c_free c_code c_next c_com c_met) t) A) (va_A (wM G a_m a_mfst a_msnd a_mlet a_mmany a_mval a_mord a_mfree a_mcode a_mnext a_mcom a_mmet c_sort c_cnt c_frees c_cur c_thr c_fst c_snd c_let c_many c_val c_ord c_free c_code c_next c_com c_met) sz)) 0 0 (fun q => sz ≤ q) := by
  refine zMetR (Qc := fun (A : Nat → Prop) => va_Qi (fun (r : Int32) (_ : Unit) => r = r0) (fun _ t => zB G A (wM G a_m a_mfst a_msnd a_mlet a_mmany a_mval a_mord a_mfree a_mcode a_mnext a_mcom a_mmet c_sort c_cnt c_frees c_cur c_thr c_fst c_snd c_let c_many c_val c_ord c_free c_code c_next c_com c_met) t) A) (by decide) (Nat.le_of_ble_eq_true rfl) (fun xp xe xs xm xb xme xc A ls Q H locs C hN hK hP hD hS hL hA hl hQ => ?_)
  obtain ⟨hx, hb, hr, hts, hown, hlocks, hml, hin⟩ := C
  have hl : lv_has ls 5 [(0, .ref a_m), (1, .int p_1)] := hl
  have h := hf
  unfold f_Model_below at h
  refine lv_iconst (v := 0) hx hb d_Model_below_0 (by decide) ?_
  refine lv_istore_n (lv' := [(2, .int 0), (0, .ref a_m), (1, .int p_1)]) hx hb d_Model_below_1 rfl hl (by decide) rfl (fun ls hl => ?_)
  refine lv_aload_n hx hb d_Model_below_2 rfl (lv_at hl 1 rfl) ?_
  refine va_get (D := G.1) (ci := 6) (v := .int c_cnt) (C := "BranchStoreModel") (T := F_Model) (N := 16) hx hb hts i_Model hown hK hP 0 rfl rfl 7 (by decide) (hts _ k_777) (fun _ h9 => h9) rfl d_Model_below_3 ?_
  refine lv_istore_n (lv' := [(3, .int c_cnt), (2, .int 0), (0, .ref a_m), (1, .int p_1)]) hx hb d_Model_below_6 rfl hl (by decide) rfl (fun ls hl => ?_)
  obtain ⟨y3, hy3, h⟩ := ob h
  have E7 : ∀ (z10 : Int32), z10 = y3 → ∀ (H : Heap) (locs : List Loc) (ls : Array Slot), va_P G.1 classes (wM G a_m a_mfst a_msnd a_mlet a_mmany a_mval a_mord a_mfree a_mcode a_mnext a_mcom a_mmet c_sort c_cnt c_frees c_cur c_thr c_fst c_snd c_let c_many c_val c_ord c_free c_code c_next c_com c_met) H → va_D A (wM G a_m a_mfst a_msnd a_mlet a_mmany a_mval a_mord a_mfree a_mcode a_mnext a_mcom a_mmet c_sort c_cnt c_frees c_cur c_thr c_fst c_snd c_let c_many c_val c_ord c_free c_code c_next c_com c_met) → va_S A xs.heap H locs → (∀ q ∈ locs, xs.heap.size ≤ q.base) → lv_has ls 5 [(2, .int z10)] → W xp l xe { frames := 2, cells := 0, slots := 0, locals := 48 } xs xm ([.ref a_m, .int p_1] : List Value).toArray xb xme xc H locs 0 0 Q (F0 xm 48 ls []) := by
    intro z10 ey H locs ls hP hD hS hL hl
    subst ey
    try dsimp only at h
    refine lv_iload_n hx hb d_Model_below_48 rfl (lv_at hl 0 rfl) ?_
    obtain rfl := Option.some.inj h
    exact zreti () hQ hL hx hb hr hlocks hP hD hS rfl (Nat.le_refl _) (Nat.le_refl _) d_Model_below_49
  have L7 : ∀ v : (Int32 × Int32), lp (fun v => s_Model_below_7 c_sort c_fst c_snd c_let c_many c_ord p_1 v.1 v.2) v = some y3 → ∀ (H : Heap) (locs : List Loc) (ls : Array Slot), va_P G.1 classes (wM G a_m a_mfst a_msnd a_mlet a_mmany a_mval a_mord a_mfree a_mcode a_mnext a_mcom a_mmet c_sort c_cnt c_frees c_cur c_thr c_fst c_snd c_let c_many c_val c_ord c_free c_code c_next c_com c_met) H → va_D A (wM G a_m a_mfst a_msnd a_mlet a_mmany a_mval a_mord a_mfree a_mcode a_mnext a_mcom a_mmet c_sort c_cnt c_frees c_cur c_thr c_fst c_snd c_let c_many c_val c_ord c_free c_code c_next c_com c_met) → va_S A xs.heap H locs → (∀ q ∈ locs, xs.heap.size ≤ q.base) → lv_has ls 5 [(0, .ref a_m), (1, .int p_1), (2, .int v.1), (3, .int v.2)] → W xp l xe { frames := 2, cells := 0, slots := 0, locals := 48 } xs xm ([.ref a_m, .int p_1] : List Value).toArray xb xme xc H locs 0 0 Q (F0 xm 7 ls []) := by
    refine lp_walk _ (fun v x h hc he => ?_)
    obtain ⟨x2_1, x3_2⟩ := v
    intro H locs ls hP hD hS hL hl
    have h : s_Model_below_7 c_sort c_fst c_snd c_let c_many c_ord p_1 x2_1 x3_2 = some x := h
    unfold s_Model_below_7 at h
    refine lv_iload_n hx hb d_Model_below_7 rfl (lv_at hl 2 rfl) ?_
    refine lv_iload_n hx hb d_Model_below_8 rfl (lv_at hl 3 rfl) ?_
    refine lv_icmp_ge (tgt := 48) hx hb d_Model_below_9 (by decide) (fun q4 => ?_) (fun q4 => ?_)
    · have h := it h q4
      exact E7 x2_1 (he _ (Option.some.inj h).symm) H locs ls hP hD hS hL (lv_sub hl [2] rfl)
    · have h := ie h q4
      refine lv_iload_n hx hb d_Model_below_12 rfl (lv_at hl 2 rfl) ?_
      refine lv_iload_n hx hb d_Model_below_13 rfl (lv_at hl 3 rfl) ?_
      refine lv_iadd hx hb d_Model_below_14 ?_
      refine lv_iconst (v := 2) hx hb d_Model_below_15 (by decide) ?_
      refine lv_idiv hx hb d_Model_below_16 (by decide) ?_
      refine lv_topi (fun v5 ev5 => ?_)
      have h := nm_k h v5 ev5
      refine lv_istore (lv' := [(4, .int v5), (0, .ref a_m), (1, .int p_1), (2, .int x2_1), (3, .int x3_2)]) hx hb d_Model_below_17 hl (by decide) rfl (fun ls hl => ?_)
      refine lv_aload_n hx hb d_Model_below_19 rfl (lv_at hl 1 rfl) ?_
      refine lv_aload_n hx hb d_Model_below_20 rfl (lv_at hl 1 rfl) ?_
      refine va_get (D := G.1) (ci := 6) (v := .ref a_mord) (C := "BranchStoreModel") (T := F_Model) (N := 16) hx hb hts i_Model hown hK hP 0 rfl rfl 6 (by decide) (hts _ k_776) (fun _ h9 => h9) rfl d_Model_below_21 ?_
      refine lv_iload hx hb d_Model_below_24 (lv_at hl 0 rfl) ?_
      obtain ⟨h6, h⟩ := gi_k h
      refine va_iald hx hb hK hP 6 0 rfl rfl h6 d_Model_below_26 ?_
      refine lv_iload_n hx hb d_Model_below_27 rfl (lv_at hl 2 rfl) ?_
      obtain ⟨r7, hr7, h⟩ := ob h
      refine zpcalli (wr := []) (w2 := fun _ => (wM G a_m a_mfst a_msnd a_mlet a_mmany a_mval a_mord a_mfree a_mcode a_mnext a_mcom a_mmet c_sort c_cnt c_frees c_cur c_thr c_fst c_snd c_let c_many c_val c_ord c_free c_code c_next c_com c_met)) (zrunV (As := [.int (c_ord v5.toNatClampNeg), .int p_1]) (rest := []) ⟨hx, hb, hml, hown, hts⟩ hN hK (c_Model_compare l G H.size a_m a_mfst a_msnd a_mlet a_mmany a_mval a_mord a_mfree a_mcode a_mnext a_mcom a_mmet c_sort c_cnt c_frees c_cur c_thr c_fst c_snd c_let c_many c_val c_ord c_free c_code c_next c_com c_met (c_ord v5.toNatClampNeg) p_1 r7 hr7) ⟨rfl, rfl⟩ kv_Model_62 ⟨Nat.le_of_ble_eq_true rfl, Nat.le_of_ble_eq_true rfl⟩ 0 rfl rfl rfl hl.1 (Nat.le_of_ble_eq_true rfl) d_Model_below_28 ⟨Nat.le_of_ble_eq_true rfl, Nat.le_of_ble_eq_true rfl⟩) hP hD hS hA [0, 1, 2, 3, 4, 5, 6, 7, 8, 9, 10, 11] [] [0, 1, 2, 3, 4, 5, 6, 7, 8, 9, 10, 11] rfl rfl rfl rfl (by decide) rfl (fun _ => rfl) (fun rr _ H hw hP hD hS => ?_)
      have hw := hw.symm
      subst hw
      refine lv_if_ge (tgt := 42) hx hb d_Model_below_31 (by decide) (fun q8 => ?_) (fun q8 => ?_)
      · have h := it h q8
        refine lv_iload hx hb d_Model_below_42 (lv_at hl 0 rfl) ?_
        refine lv_istore_n (lv' := [(3, .int v5), (4, .int v5), (0, .ref a_m), (1, .int p_1), (2, .int x2_1)]) hx hb d_Model_below_44 rfl hl (by decide) rfl (fun ls hl => ?_)
        refine lv_goto (tgt := 7) hx hb d_Model_below_45 (by decide) ?_
        exact hc _ (Option.some.inj h).symm H locs ls hP hD hS hL (lv_sub hl [2, 3, 4, 0] rfl)
      · have h := ie h q8
        refine lv_iload hx hb d_Model_below_34 (lv_at hl 0 rfl) ?_
        refine lv_iconst (v := 1) hx hb d_Model_below_36 (by decide) ?_
        refine lv_iadd hx hb d_Model_below_37 ?_
        refine lv_topi (fun v9 ev9 => ?_)
        have h := nm_k h v9 ev9
        refine lv_istore_n (lv' := [(2, .int v9), (4, .int v5), (0, .ref a_m), (1, .int p_1), (3, .int x3_2)]) hx hb d_Model_below_38 rfl hl (by decide) rfl (fun ls hl => ?_)
        refine lv_goto (tgt := 45) hx hb d_Model_below_39 (by decide) ?_
        refine lv_goto (tgt := 7) hx hb d_Model_below_45 (by decide) ?_
        exact hc _ (Option.some.inj h).symm H locs ls hP hD hS hL (lv_sub hl [2, 3, 0, 4] rfl)
  exact L7 _ hy3 _ _ ls hP hD hS hL (lv_sub hl [2, 3, 1, 0] rfl)

noncomputable def f_Model_isAt (c_sort : Int32) (c_cnt : Int32) (c_fst : (Nat → Int64)) (c_snd : (Nat → Int64)) (c_let : (Nat → Int32)) (c_many : (Nat → Int32)) (c_ord : (Nat → Int32)) (p_1 : Int32) (p_2 : Int32) : Option Int32 :=
if c_cnt ≤ p_1 then
(some 0)
else
(gi p_1 1500 <|
(f_Model_compare c_sort c_fst c_snd c_let c_many (c_ord p_1.toNatClampNeg) p_2).bind fun r3 =>
if r3 = 0 then
(some 1)
else
(some 0))
set_option maxHeartbeats 8000000 in
set_option maxRecDepth 100000 in
theorem c_Model_isAt (l : Launch) (G : zG) (sz : Nat) (a_m a_mfst a_msnd a_mlet a_mmany a_mval a_mord a_mfree a_mcode a_mnext a_mcom a_mmet : Nat) (c_sort : Int32) (c_cnt : Int32) (c_frees : Int32) (c_cur : Int32) (c_thr : Int32) (c_fst : (Nat → Int64)) (c_snd : (Nat → Int64)) (c_let : (Nat → Int32)) (c_many : (Nat → Int32)) (c_val : (Nat → Int64)) (c_ord : (Nat → Int32)) (c_free : (Nat → Int32)) (c_code : (Nat → Int32)) (c_next : (Nat → Int32)) (c_com : (Nat → Int32)) (c_met : (Nat → Int32)) (p_1 : Int32) (p_2 : Int32) (r0 : Int32) (hf : f_Model_isAt c_sort c_cnt c_fst c_snd c_let c_many c_ord p_1 p_2 = some r0) :
    Met l y_Model_isAt (Cond.code y_Model_isAt prog_9_method_9_code 3 (some .boolean) :: lw_ok) { frames := 2, cells := 0, slots := 0, locals := 48 } (zPc G sz [.ref a_m, .int p_1, .int p_2] (wM G a_m a_mfst a_msnd a_mlet a_mmany a_mval a_mord a_mfree a_mcode a_mnext a_mcom a_mmet c_sort c_cnt c_frees c_cur c_thr c_fst c_snd c_let c_many c_val c_ord c_free c_code c_next c_com c_met))
      ((fun (A : Nat → Prop) => va_Qi (fun (r : Int32) (_ : Unit) => r = r0 ∧ narrow .boolean (.int r) = .int r) (fun _ t => zB G A (wM G a_m a_mfst a_msnd a_mlet a_mmany a_mval a_mord a_mfree a_mcode a_mnext a_mcom a_mmet c_sort c_cnt c_frees c_cur c_thr c_fst c_snd c_let c_many c_val c_ord c_free c_code c_next c_com c_met) t) A) (va_A (wM G a_m a_mfst a_msnd a_mlet a_mmany a_mval a_mord a_mfree a_mcode a_mnext a_mcom a_mmet c_sort c_cnt c_frees c_cur c_thr c_fst c_snd c_let c_many c_val c_ord c_free c_code c_next c_com c_met) sz)) 0 0 (fun q => sz ≤ q) := by
  refine zMetR (Qc := fun (A : Nat → Prop) => va_Qi (fun (r : Int32) (_ : Unit) => r = r0 ∧ narrow .boolean (.int r) = .int r) (fun _ t => zB G A (wM G a_m a_mfst a_msnd a_mlet a_mmany a_mval a_mord a_mfree a_mcode a_mnext a_mcom a_mmet c_sort c_cnt c_frees c_cur c_thr c_fst c_snd c_let c_many c_val c_ord c_free c_code c_next c_com c_met) t) A) (by decide) (Nat.le_of_ble_eq_true rfl) (fun xp xe xs xm xb xme xc A ls Q H locs C hN hK hP hD hS hL hA hl hQ => ?_)
  obtain ⟨hx, hb, hr, hts, hown, hlocks, hml, hin⟩ := C
  have hl : lv_has ls 3 [(0, .ref a_m), (1, .int p_1), (2, .int p_2)] := hl
  have h := hf
  unfold f_Model_isAt at h
  refine lv_iload_n hx hb d_Model_isAt_0 rfl (lv_at hl 1 rfl) ?_
  refine lv_aload_n hx hb d_Model_isAt_1 rfl (lv_at hl 0 rfl) ?_
  refine va_get (D := G.1) (ci := 6) (v := .int c_cnt) (C := "BranchStoreModel") (T := F_Model) (N := 16) hx hb hts i_Model hown hK hP 0 rfl rfl 7 (by decide) (hts _ k_777) (fun _ h9 => h9) rfl d_Model_isAt_2 ?_
  refine lv_icmp_ge (tgt := 26) hx hb d_Model_isAt_5 (by decide) (fun q1 => ?_) (fun q1 => ?_)
  · have h := it h q1
    refine lv_iconst (v := 0) hx hb d_Model_isAt_26 (by decide) ?_
    obtain rfl := Option.some.inj h
    exact zretz () hQ hL hx hb hr hlocks hP hD hS ⟨rfl, rfl⟩ (Nat.le_refl _) (Nat.le_refl _) d_Model_isAt_27 rfl
  · have h := ie h q1
    refine lv_aload_n hx hb d_Model_isAt_8 rfl (lv_at hl 0 rfl) ?_
    refine lv_aload_n hx hb d_Model_isAt_9 rfl (lv_at hl 0 rfl) ?_
    refine va_get (D := G.1) (ci := 6) (v := .ref a_mord) (C := "BranchStoreModel") (T := F_Model) (N := 16) hx hb hts i_Model hown hK hP 0 rfl rfl 6 (by decide) (hts _ k_776) (fun _ h9 => h9) rfl d_Model_isAt_10 ?_
    refine lv_iload_n hx hb d_Model_isAt_13 rfl (lv_at hl 1 rfl) ?_
    obtain ⟨h2, h⟩ := gi_k h
    refine va_iald hx hb hK hP 6 0 rfl rfl h2 d_Model_isAt_14 ?_
    refine lv_iload_n hx hb d_Model_isAt_15 rfl (lv_at hl 2 rfl) ?_
    obtain ⟨r3, hr3, h⟩ := ob h
    refine zpcalli (wr := []) (w2 := fun _ => (wM G a_m a_mfst a_msnd a_mlet a_mmany a_mval a_mord a_mfree a_mcode a_mnext a_mcom a_mmet c_sort c_cnt c_frees c_cur c_thr c_fst c_snd c_let c_many c_val c_ord c_free c_code c_next c_com c_met)) (zrunV (As := [.int (c_ord p_1.toNatClampNeg), .int p_2]) (rest := []) ⟨hx, hb, hml, hown, hts⟩ hN hK (c_Model_compare l G H.size a_m a_mfst a_msnd a_mlet a_mmany a_mval a_mord a_mfree a_mcode a_mnext a_mcom a_mmet c_sort c_cnt c_frees c_cur c_thr c_fst c_snd c_let c_many c_val c_ord c_free c_code c_next c_com c_met (c_ord p_1.toNatClampNeg) p_2 r3 hr3) ⟨rfl, rfl⟩ kv_Model_62 ⟨Nat.le_of_ble_eq_true rfl, Nat.le_of_ble_eq_true rfl⟩ 0 rfl rfl rfl hl.1 (Nat.le_of_ble_eq_true rfl) d_Model_isAt_16 ⟨Nat.le_of_ble_eq_true rfl, Nat.le_of_ble_eq_true rfl⟩) hP hD hS hA [0, 1, 2, 3, 4, 5, 6, 7, 8, 9, 10, 11] [] [0, 1, 2, 3, 4, 5, 6, 7, 8, 9, 10, 11] rfl rfl rfl rfl (by decide) rfl (fun _ => rfl) (fun rr _ H hw hP hD hS => ?_)
    have hw := hw.symm
    subst hw
    refine lv_if_ne (tgt := 26) hx hb d_Model_isAt_19 (by decide) (fun q4 => ?_) (fun q4 => ?_)
    · have h := ie h q4
      refine lv_iconst (v := 0) hx hb d_Model_isAt_26 (by decide) ?_
      obtain rfl := Option.some.inj h
      exact zretz () hQ hL hx hb hr hlocks hP hD hS ⟨rfl, rfl⟩ (Nat.le_refl _) (Nat.le_refl _) d_Model_isAt_27 rfl
    · have h := it h q4
      refine lv_iconst (v := 1) hx hb d_Model_isAt_22 (by decide) ?_
      refine lv_goto (tgt := 27) hx hb d_Model_isAt_23 (by decide) ?_
      obtain rfl := Option.some.inj h
      exact zretz () hQ hL hx hb hr hlocks hP hD hS ⟨rfl, rfl⟩ (Nat.le_refl _) (Nat.le_refl _) d_Model_isAt_27 rfl

theorem kv_Model_66 : zKV "BranchStoreModel" 66 y_Model_copy prog_9_method_6_code 4 none 2 := ⟨k_853, k_855, kp_29, k_8, k_856, by decide +kernel⟩
noncomputable def s_Model_insert_6 (x1 : Int32) (x5 : Int32) (c_ord : (Nat → Int32)) : Option ((Int32 × (Nat → Int32)) ⊕ (Nat → Int32)) :=
if x5 ≤ x1 then
(some (.inr c_ord))
else
(gi (x5 - 1) 1500 <|
gi x5 1500 <|
nm (upd c_ord x5.toNatClampNeg (c_ord (x5 - 1).toNatClampNeg)) fun c7 =>
nm (x5 + (-1)) fun v8 =>
some (.inl (v8, c7)))
noncomputable def f_Model_insert (c_cnt : Int32) (c_frees : Int32) (c_fst : (Nat → Int64)) (c_snd : (Nat → Int64)) (c_let : (Nat → Int32)) (c_many : (Nat → Int32)) (c_val : (Nat → Int64)) (c_ord : (Nat → Int32)) (c_free : (Nat → Int32)) (p_1 : Int32) (p_2 : Int32) (p_3 : Int64) : Option (Int32 × Int32 × (Nat → Int64) × (Nat → Int64) × (Nat → Int32) × (Nat → Int32) × (Nat → Int64) × (Nat → Int32)) :=
(lp (fun v => s_Model_insert_6 p_1 v.1 v.2) (c_cnt, c_ord)).bind fun y10 =>
nm (c_frees - 1) fun v11 =>
gi (c_frees - 1) 1500 <|
gi p_1 1500 <|
nm (upd y10 p_1.toNatClampNeg (c_free (c_frees - 1).toNatClampNeg)) fun c14 =>
nm (c_cnt + 1) fun v15 =>
gi p_1 1500 <|
(f_Model_copy c_fst c_snd c_let c_many (c14 p_1.toNatClampNeg) p_2).bind fun r17 =>
gi p_1 1500 <|
gi (c14 p_1.toNatClampNeg) 1500 <|
nm (vp_updL c_val (c14 p_1.toNatClampNeg).toNatClampNeg p_3) fun c20 =>
some (v15, v11, r17.1, r17.2.1, r17.2.2.1, r17.2.2.2, c20, c14)
set_option maxHeartbeats 8000000 in
set_option maxRecDepth 100000 in
theorem c_Model_insert (l : Launch) (G : zG) (sz : Nat) (a_m a_mfst a_msnd a_mlet a_mmany a_mval a_mord a_mfree a_mcode a_mnext a_mcom a_mmet : Nat) (c_sort : Int32) (c_cnt : Int32) (c_frees : Int32) (c_cur : Int32) (c_thr : Int32) (c_fst : (Nat → Int64)) (c_snd : (Nat → Int64)) (c_let : (Nat → Int32)) (c_many : (Nat → Int32)) (c_val : (Nat → Int64)) (c_ord : (Nat → Int32)) (c_free : (Nat → Int32)) (c_code : (Nat → Int32)) (c_next : (Nat → Int32)) (c_com : (Nat → Int32)) (c_met : (Nat → Int32)) (p_1 : Int32) (p_2 : Int32) (p_3 : Int64) (r0 : (Int32 × Int32 × (Nat → Int64) × (Nat → Int64) × (Nat → Int32) × (Nat → Int32) × (Nat → Int64) × (Nat → Int32))) (hf : f_Model_insert c_cnt c_frees c_fst c_snd c_let c_many c_val c_ord c_free p_1 p_2 p_3 = some r0) :
    Met l y_Model_insert (Cond.code y_Model_insert prog_9_method_10_code 6 none :: lw_ok) { frames := 1, cells := 0, slots := 0, locals := 23 } (zPc G sz [.ref a_m, .int p_1, .int p_2, .long p_3] (wM G a_m a_mfst a_msnd a_mlet a_mmany a_mval a_mord a_mfree a_mcode a_mnext a_mcom a_mmet c_sort c_cnt c_frees c_cur c_thr c_fst c_snd c_let c_many c_val c_ord c_free c_code c_next c_com c_met))
      ((fun (A : Nat → Prop) => va_Qv (fun (_ : Unit) => True) (fun _ t => zB G A (wM G a_m a_mfst a_msnd a_mlet a_mmany a_mval a_mord a_mfree a_mcode a_mnext a_mcom a_mmet c_sort r0.1 r0.2.1 c_cur c_thr r0.2.2.1 r0.2.2.2.1 r0.2.2.2.2.1 r0.2.2.2.2.2.1 r0.2.2.2.2.2.2.1 r0.2.2.2.2.2.2.2 c_free c_code c_next c_com c_met) t) A) (va_A (wM G a_m a_mfst a_msnd a_mlet a_mmany a_mval a_mord a_mfree a_mcode a_mnext a_mcom a_mmet c_sort c_cnt c_frees c_cur c_thr c_fst c_snd c_let c_many c_val c_ord c_free c_code c_next c_com c_met) sz)) 0 0 (va_A (wM G a_m a_mfst a_msnd a_mlet a_mmany a_mval a_mord a_mfree a_mcode a_mnext a_mcom a_mmet c_sort c_cnt c_frees c_cur c_thr c_fst c_snd c_let c_many c_val c_ord c_free c_code c_next c_com c_met) sz) := by
  refine zMet (Qc := fun (A : Nat → Prop) => va_Qv (fun (_ : Unit) => True) (fun _ t => zB G A (wM G a_m a_mfst a_msnd a_mlet a_mmany a_mval a_mord a_mfree a_mcode a_mnext a_mcom a_mmet c_sort r0.1 r0.2.1 c_cur c_thr r0.2.2.1 r0.2.2.2.1 r0.2.2.2.2.1 r0.2.2.2.2.2.1 r0.2.2.2.2.2.2.1 r0.2.2.2.2.2.2.2 c_free c_code c_next c_com c_met) t) A) (by decide) (Nat.le_of_ble_eq_true rfl) (fun xp xe xs xm xb xme xc A ls Q H locs C hN hK hP hD hS hA hl hQ => ?_)
  obtain ⟨hx, hb, hr, hts, hown, hlocks, hml, hin⟩ := C
  have hl : lv_has ls 6 [(0, .ref a_m), (1, .int p_1), (2, .int p_2), (3, .long p_3)] := hl
  have h := hf
  unfold f_Model_insert at h
  refine lv_aload_n hx hb d_Model_insert_0 rfl (lv_at hl 0 rfl) ?_
  refine va_get (D := G.1) (ci := 6) (v := .int c_cnt) (C := "BranchStoreModel") (T := F_Model) (N := 16) hx hb hts i_Model hown hK hP 0 rfl rfl 7 (by decide) (hts _ k_777) (fun _ h9 => h9) rfl d_Model_insert_1 ?_
  refine lv_istore (lv' := [(5, .int c_cnt), (0, .ref a_m), (1, .int p_1), (2, .int p_2), (3, .long p_3)]) hx hb d_Model_insert_4 hl (by decide) rfl (fun ls hl => ?_)
  obtain ⟨y3, hy3, h⟩ := ob h
  have E6 : ∀ (z9 : (Nat → Int32)), z9 = y3 → ∀ (H : Heap) (locs : List Loc) (ls : Array Slot), va_P G.1 classes (wM G a_m a_mfst a_msnd a_mlet a_mmany a_mval a_mord a_mfree a_mcode a_mnext a_mcom a_mmet c_sort c_cnt c_frees c_cur c_thr c_fst c_snd c_let c_many c_val z9 c_free c_code c_next c_com c_met) H → va_D A (wM G a_m a_mfst a_msnd a_mlet a_mmany a_mval a_mord a_mfree a_mcode a_mnext a_mcom a_mmet c_sort c_cnt c_frees c_cur c_thr c_fst c_snd c_let c_many c_val z9 c_free c_code c_next c_com c_met) → va_S A xs.heap H locs → lv_has ls 6 [(0, .ref a_m), (1, .int p_1), (2, .int p_2), (3, .long p_3)] → W xp l xe { frames := 1, cells := 0, slots := 0, locals := 23 } xs xm ([.ref a_m, .int p_1, .int p_2, .long p_3] : List Value).toArray xb xme xc H locs 0 0 Q (F0 xm 34 ls []) := by
    intro z9 ey H locs ls hP hD hS hl
    subst ey
    try dsimp only at h
    refine lv_aload_n hx hb d_Model_insert_34 rfl (lv_at hl 0 rfl) ?_
    refine va_get (D := G.1) (ci := 6) (v := .ref a_mord) (C := "BranchStoreModel") (T := F_Model) (N := 16) hx hb hts i_Model hown hK hP 0 rfl rfl 6 (by decide) (hts _ k_776) (fun _ h9 => h9) rfl d_Model_insert_35 ?_
    refine lv_iload_n hx hb d_Model_insert_38 rfl (lv_at hl 1 rfl) ?_
    refine lv_aload_n hx hb d_Model_insert_39 rfl (lv_at hl 0 rfl) ?_
    refine va_get (D := G.1) (ci := 6) (v := .ref a_mfree) (C := "BranchStoreModel") (T := F_Model) (N := 16) hx hb hts i_Model hown hK hP 0 rfl rfl 8 (by decide) (hts _ k_778) (fun _ h9 => h9) rfl d_Model_insert_40 ?_
    refine lv_aload_n hx hb d_Model_insert_43 rfl (lv_at hl 0 rfl) ?_
    refine lv_dup hx hb d_Model_insert_44 rfl ?_
    refine va_get (D := G.1) (ci := 6) (v := .int c_frees) (C := "BranchStoreModel") (T := F_Model) (N := 16) hx hb hts i_Model hown hK hP 0 rfl rfl 9 (by decide) (hts _ k_779) (fun _ h9 => h9) rfl d_Model_insert_45 ?_
    refine lv_iconst (v := 1) hx hb d_Model_insert_48 (by decide) ?_
    refine lv_isub hx hb d_Model_insert_49 ?_
    refine lv_dup_x1 hx hb d_Model_insert_50 rfl rfl ?_
    refine lv_topi (fun v11 ev11 => ?_)
    have h := nm_k h v11 ev11
    refine va_put (D := G.1) (ci := 6) (v := .int v11) (ty := .int) (C := "BranchStoreModel") (T := F_Model) (N := 16) hx hb hts i_Model t_Model t_Model_ok n_Model hown hK hP hD hS 0 rfl rfl 9 (by decide) (hts _ k_779) (fun _ h9 => h9) rfl (by decide +kernel) rfl rfl (Nat.le_of_ble_eq_true rfl) d_Model_insert_51 (fun H locs hP hD hS => ?_)
    have hP : va_P G.1 classes (wM G a_m a_mfst a_msnd a_mlet a_mmany a_mval a_mord a_mfree a_mcode a_mnext a_mcom a_mmet c_sort c_cnt v11 c_cur c_thr c_fst c_snd c_let c_many c_val z9 c_free c_code c_next c_com c_met) H := hP
    have hD : va_D A (wM G a_m a_mfst a_msnd a_mlet a_mmany a_mval a_mord a_mfree a_mcode a_mnext a_mcom a_mmet c_sort c_cnt v11 c_cur c_thr c_fst c_snd c_let c_many c_val z9 c_free c_code c_next c_com c_met) := hD
    obtain ⟨h12, h⟩ := gi_k h
    refine va_iald hx hb hK hP 7 0 rfl rfl h12 d_Model_insert_54 ?_
    obtain ⟨h13, h⟩ := gi_k h
    refine va_iast hx hb hK hP hD hS 6 0 rfl rfl h13 d_Model_insert_55 (fun H locs hP hD hS => ?_)
    obtain ⟨c14, ec14⟩ : ∃ y, y = upd z9 p_1.toNatClampNeg (c_free (c_frees - 1).toNatClampNeg) := ⟨_, rfl⟩
    have h := nm_k h c14 ec14
    have hP : va_P G.1 classes (wM G a_m a_mfst a_msnd a_mlet a_mmany a_mval a_mord a_mfree a_mcode a_mnext a_mcom a_mmet c_sort c_cnt v11 c_cur c_thr c_fst c_snd c_let c_many c_val c14 c_free c_code c_next c_com c_met) H := by rw [ec14]; exact hP
    have hD : va_D A (wM G a_m a_mfst a_msnd a_mlet a_mmany a_mval a_mord a_mfree a_mcode a_mnext a_mcom a_mmet c_sort c_cnt v11 c_cur c_thr c_fst c_snd c_let c_many c_val c14 c_free c_code c_next c_com c_met) := by rw [ec14]; exact hD
    refine lv_aload_n hx hb d_Model_insert_56 rfl (lv_at hl 0 rfl) ?_
    refine lv_dup hx hb d_Model_insert_57 rfl ?_
    refine va_get (D := G.1) (ci := 6) (v := .int c_cnt) (C := "BranchStoreModel") (T := F_Model) (N := 16) hx hb hts i_Model hown hK hP 0 rfl rfl 7 (by decide) (hts _ k_777) (fun _ h9 => h9) rfl d_Model_insert_58 ?_
    refine lv_iconst (v := 1) hx hb d_Model_insert_61 (by decide) ?_
    refine lv_iadd hx hb d_Model_insert_62 ?_
    refine lv_topi (fun v15 ev15 => ?_)
    have h := nm_k h v15 ev15
    refine va_put (D := G.1) (ci := 6) (v := .int v15) (ty := .int) (C := "BranchStoreModel") (T := F_Model) (N := 16) hx hb hts i_Model t_Model t_Model_ok n_Model hown hK hP hD hS 0 rfl rfl 7 (by decide) (hts _ k_777) (fun _ h9 => h9) rfl (by decide +kernel) rfl rfl (Nat.le_of_ble_eq_true rfl) d_Model_insert_63 (fun H locs hP hD hS => ?_)
    have hP : va_P G.1 classes (wM G a_m a_mfst a_msnd a_mlet a_mmany a_mval a_mord a_mfree a_mcode a_mnext a_mcom a_mmet c_sort v15 v11 c_cur c_thr c_fst c_snd c_let c_many c_val c14 c_free c_code c_next c_com c_met) H := hP
    have hD : va_D A (wM G a_m a_mfst a_msnd a_mlet a_mmany a_mval a_mord a_mfree a_mcode a_mnext a_mcom a_mmet c_sort v15 v11 c_cur c_thr c_fst c_snd c_let c_many c_val c14 c_free c_code c_next c_com c_met) := hD
    refine lv_aload_n hx hb d_Model_insert_66 rfl (lv_at hl 0 rfl) ?_
    refine lv_aload_n hx hb d_Model_insert_67 rfl (lv_at hl 0 rfl) ?_
    refine va_get (D := G.1) (ci := 6) (v := .ref a_mord) (C := "BranchStoreModel") (T := F_Model) (N := 16) hx hb hts i_Model hown hK hP 0 rfl rfl 6 (by decide) (hts _ k_776) (fun _ h9 => h9) rfl d_Model_insert_68 ?_
    refine lv_iload_n hx hb d_Model_insert_71 rfl (lv_at hl 1 rfl) ?_
    obtain ⟨h16, h⟩ := gi_k h
    refine va_iald hx hb hK hP 6 0 rfl rfl h16 d_Model_insert_72 ?_
    refine lv_iload_n hx hb d_Model_insert_73 rfl (lv_at hl 2 rfl) ?_
    obtain ⟨r17, hr17, h⟩ := ob h
    refine zcallv (wr := []) (w2 := fun _ => (wM G a_m a_mfst a_msnd a_mlet a_mmany a_mval a_mord a_mfree a_mcode a_mnext a_mcom a_mmet c_sort v15 v11 c_cur c_thr r17.1 r17.2.1 r17.2.2.1 r17.2.2.2 c_val c14 c_free c_code c_next c_com c_met)) (zrunV (As := [.int (c14 p_1.toNatClampNeg), .int p_2]) (rest := []) ⟨hx, hb, hml, hown, hts⟩ hN hK (c_Model_copy l G H.size a_m a_mfst a_msnd a_mlet a_mmany a_mval a_mord a_mfree a_mcode a_mnext a_mcom a_mmet c_sort v15 v11 c_cur c_thr c_fst c_snd c_let c_many c_val c14 c_free c_code c_next c_com c_met (c14 p_1.toNatClampNeg) p_2 r17 hr17) ⟨rfl, rfl⟩ kv_Model_66 ⟨Nat.le_of_ble_eq_true rfl, Nat.le_of_ble_eq_true rfl⟩ 0 rfl rfl rfl hl.1 (Nat.le_of_ble_eq_true rfl) d_Model_insert_74 ⟨Nat.le_of_ble_eq_true rfl, Nat.le_of_ble_eq_true rfl⟩) hP hD hS hA [0, 1, 2, 3, 4, 5, 6, 7, 8, 9, 10, 11] [] [0, 1, 2, 3, 4, 5, 6, 7, 8, 9, 10, 11] rfl rfl rfl rfl (by decide) rfl (fun _ => rfl) (fun _ H locs _ hP hD hS => ?_)
    refine lv_aload_n hx hb d_Model_insert_77 rfl (lv_at hl 0 rfl) ?_
    refine va_get (D := G.1) (ci := 6) (v := .ref a_mval) (C := "BranchStoreModel") (T := F_Model) (N := 16) hx hb hts i_Model hown hK hP 0 rfl rfl 5 (by decide) (hts _ k_775) (fun _ h9 => h9) rfl d_Model_insert_78 ?_
    refine lv_aload_n hx hb d_Model_insert_81 rfl (lv_at hl 0 rfl) ?_
    refine va_get (D := G.1) (ci := 6) (v := .ref a_mord) (C := "BranchStoreModel") (T := F_Model) (N := 16) hx hb hts i_Model hown hK hP 0 rfl rfl 6 (by decide) (hts _ k_776) (fun _ h9 => h9) rfl d_Model_insert_82 ?_
    refine lv_iload_n hx hb d_Model_insert_85 rfl (lv_at hl 1 rfl) ?_
    obtain ⟨h18, h⟩ := gi_k h
    refine va_iald hx hb hK hP 6 0 rfl rfl h18 d_Model_insert_86 ?_
    refine lv_lload_n hx hb d_Model_insert_87 rfl (lv_at hl 3 rfl) ?_
    obtain ⟨h19, h⟩ := gi_k h
    refine va_last hx hb hK hP hD hS 5 2 rfl rfl h19 d_Model_insert_88 (fun H locs hP hD hS => ?_)
    obtain ⟨c20, ec20⟩ : ∃ y, y = vp_updL c_val (c14 p_1.toNatClampNeg).toNatClampNeg p_3 := ⟨_, rfl⟩
    have h := nm_k h c20 ec20
    have hP : va_P G.1 classes (wM G a_m a_mfst a_msnd a_mlet a_mmany a_mval a_mord a_mfree a_mcode a_mnext a_mcom a_mmet c_sort v15 v11 c_cur c_thr r17.1 r17.2.1 r17.2.2.1 r17.2.2.2 c20 c14 c_free c_code c_next c_com c_met) H := by rw [ec20]; exact hP
    have hD : va_D A (wM G a_m a_mfst a_msnd a_mlet a_mmany a_mval a_mord a_mfree a_mcode a_mnext a_mcom a_mmet c_sort v15 v11 c_cur c_thr r17.1 r17.2.1 r17.2.2.1 r17.2.2.2 c20 c14 c_free c_code c_next c_com c_met) := by rw [ec20]; exact hD
    obtain rfl := Option.some.inj h
    exact zretv () hQ hS.2.2 hx hb hr hlocks hP hD hS trivial (Nat.le_refl _) (Nat.le_refl _) d_Model_insert_89
  have L6 : ∀ v : (Int32 × (Nat → Int32)), lp (fun v => s_Model_insert_6 p_1 v.1 v.2) v = some y3 → ∀ (H : Heap) (locs : List Loc) (ls : Array Slot), va_P G.1 classes (wM G a_m a_mfst a_msnd a_mlet a_mmany a_mval a_mord a_mfree a_mcode a_mnext a_mcom a_mmet c_sort c_cnt c_frees c_cur c_thr c_fst c_snd c_let c_many c_val v.2 c_free c_code c_next c_com c_met) H → va_D A (wM G a_m a_mfst a_msnd a_mlet a_mmany a_mval a_mord a_mfree a_mcode a_mnext a_mcom a_mmet c_sort c_cnt c_frees c_cur c_thr c_fst c_snd c_let c_many c_val v.2 c_free c_code c_next c_com c_met) → va_S A xs.heap H locs → lv_has ls 6 [(0, .ref a_m), (1, .int p_1), (2, .int p_2), (3, .long p_3), (5, .int v.1)] → W xp l xe { frames := 1, cells := 0, slots := 0, locals := 23 } xs xm ([.ref a_m, .int p_1, .int p_2, .long p_3] : List Value).toArray xb xme xc H locs 0 0 Q (F0 xm 6 ls []) := by
    refine lp_walk _ (fun v x h hc he => ?_)
    obtain ⟨x5_1, c2⟩ := v
    intro H locs ls hP hD hS hl
    have h : s_Model_insert_6 p_1 x5_1 c2 = some x := h
    unfold s_Model_insert_6 at h
    refine lv_iload hx hb d_Model_insert_6 (lv_at hl 4 rfl) ?_
    refine lv_iload_n hx hb d_Model_insert_8 rfl (lv_at hl 1 rfl) ?_
    refine lv_icmp_le (tgt := 34) hx hb d_Model_insert_9 (by decide) (fun q4 => ?_) (fun q4 => ?_)
    · have h := it h q4
      exact E6 c2 (he _ (Option.some.inj h).symm) H locs ls hP hD hS (lv_sub hl [0, 1, 2, 3] rfl)
    · have h := ie h q4
      refine lv_aload_n hx hb d_Model_insert_12 rfl (lv_at hl 0 rfl) ?_
      refine va_get (D := G.1) (ci := 6) (v := .ref a_mord) (C := "BranchStoreModel") (T := F_Model) (N := 16) hx hb hts i_Model hown hK hP 0 rfl rfl 6 (by decide) (hts _ k_776) (fun _ h9 => h9) rfl d_Model_insert_13 ?_
      refine lv_iload hx hb d_Model_insert_16 (lv_at hl 4 rfl) ?_
      refine lv_aload_n hx hb d_Model_insert_18 rfl (lv_at hl 0 rfl) ?_
      refine va_get (D := G.1) (ci := 6) (v := .ref a_mord) (C := "BranchStoreModel") (T := F_Model) (N := 16) hx hb hts i_Model hown hK hP 0 rfl rfl 6 (by decide) (hts _ k_776) (fun _ h9 => h9) rfl d_Model_insert_19 ?_
      refine lv_iload hx hb d_Model_insert_22 (lv_at hl 4 rfl) ?_
      refine lv_iconst (v := 1) hx hb d_Model_insert_24 (by decide) ?_
      refine lv_isub hx hb d_Model_insert_25 ?_
      obtain ⟨h5, h⟩ := gi_k h
      refine va_iald hx hb hK hP 6 0 rfl rfl h5 d_Model_insert_26 ?_
      obtain ⟨h6, h⟩ := gi_k h
      refine va_iast hx hb hK hP hD hS 6 0 rfl rfl h6 d_Model_insert_27 (fun H locs hP hD hS => ?_)
      obtain ⟨c7, ec7⟩ : ∃ y, y = upd c2 x5_1.toNatClampNeg (c2 (x5_1 - 1).toNatClampNeg) := ⟨_, rfl⟩
      have h := nm_k h c7 ec7
      have hP : va_P G.1 classes (wM G a_m a_mfst a_msnd a_mlet a_mmany a_mval a_mord a_mfree a_mcode a_mnext a_mcom a_mmet c_sort c_cnt c_frees c_cur c_thr c_fst c_snd c_let c_many c_val c7 c_free c_code c_next c_com c_met) H := by rw [ec7]; exact hP
      have hD : va_D A (wM G a_m a_mfst a_msnd a_mlet a_mmany a_mval a_mord a_mfree a_mcode a_mnext a_mcom a_mmet c_sort c_cnt c_frees c_cur c_thr c_fst c_snd c_let c_many c_val c7 c_free c_code c_next c_com c_met) := by rw [ec7]; exact hD
      obtain ⟨v8, ev8⟩ : ∃ y : Int32, y = x5_1 + (-1) := ⟨_, rfl⟩
      have h := nm_k h v8 ev8
      refine lv_iinc (v := v8) (lv' := [(5, .int v8), (0, .ref a_m), (1, .int p_1), (2, .int p_2), (3, .long p_3)]) hx hb d_Model_insert_28 hl (k := 4) rfl (by rw [ev8]; rfl) (by decide) rfl (fun ls hl => ?_)
      refine lv_goto (tgt := 6) hx hb d_Model_insert_31 (by decide) ?_
      exact hc _ (Option.some.inj h).symm H locs ls hP hD hS (lv_sub hl [1, 2, 3, 4, 0] rfl)
  exact L6 _ hy3 _ _ ls hP hD hS (lv_sub hl [1, 2, 3, 4, 0] rfl)

noncomputable def s_Model_delete_34 (c_cnt : Int32) (x2 : Int32) (c_ord : (Nat → Int32)) : Option ((Int32 × (Nat → Int32)) ⊕ (Nat → Int32)) :=
if c_cnt ≤ x2 then
(some (.inr c_ord))
else
(gi (x2 + 1) 1500 <|
gi x2 1500 <|
nm (upd c_ord x2.toNatClampNeg (c_ord (x2 + 1).toNatClampNeg)) fun c12 =>
nm (x2 + 1) fun v13 =>
some (.inl (v13, c12)))
noncomputable def f_Model_delete (c_cnt : Int32) (c_frees : Int32) (c_ord : (Nat → Int32)) (c_free : (Nat → Int32)) (p_1 : Int32) : Option (Int32 × Int32 × (Nat → Int32) × (Nat → Int32)) :=
nm (c_frees + 1) fun v1 =>
gi p_1 1500 <|
gi c_frees 1500 <|
nm (upd c_free c_frees.toNatClampNeg (c_ord p_1.toNatClampNeg)) fun c4 =>
nm (c_cnt - 1) fun v5 =>
(lp (fun v => s_Model_delete_34 v5 v.1 v.2) (p_1, c_ord)).bind fun y15 =>
some (v5, v1, y15, c4)
set_option maxHeartbeats 8000000 in
set_option maxRecDepth 100000 in
theorem c_Model_delete (l : Launch) (G : zG) (sz : Nat) (a_m a_mfst a_msnd a_mlet a_mmany a_mval a_mord a_mfree a_mcode a_mnext a_mcom a_mmet : Nat) (c_sort : Int32) (c_cnt : Int32) (c_frees : Int32) (c_cur : Int32) (c_thr : Int32) (c_fst : (Nat → Int64)) (c_snd : (Nat → Int64)) (c_let : (Nat → Int32)) (c_many : (Nat → Int32)) (c_val : (Nat → Int64)) (c_ord : (Nat → Int32)) (c_free : (Nat → Int32)) (c_code : (Nat → Int32)) (c_next : (Nat → Int32)) (c_com : (Nat → Int32)) (c_met : (Nat → Int32)) (p_1 : Int32) (r0 : (Int32 × Int32 × (Nat → Int32) × (Nat → Int32))) (hf : f_Model_delete c_cnt c_frees c_ord c_free p_1 = some r0) :
    Met l y_Model_delete (Cond.code y_Model_delete prog_9_method_11_code 3 none :: lw_ok) { frames := 0, cells := 0, slots := 0, locals := 0 } (zPc G sz [.ref a_m, .int p_1] (wM G a_m a_mfst a_msnd a_mlet a_mmany a_mval a_mord a_mfree a_mcode a_mnext a_mcom a_mmet c_sort c_cnt c_frees c_cur c_thr c_fst c_snd c_let c_many c_val c_ord c_free c_code c_next c_com c_met))
      ((fun (A : Nat → Prop) => va_Qv (fun (_ : Unit) => True) (fun _ t => zB G A (wM G a_m a_mfst a_msnd a_mlet a_mmany a_mval a_mord a_mfree a_mcode a_mnext a_mcom a_mmet c_sort r0.1 r0.2.1 c_cur c_thr c_fst c_snd c_let c_many c_val r0.2.2.1 r0.2.2.2 c_code c_next c_com c_met) t) A) (va_A (wM G a_m a_mfst a_msnd a_mlet a_mmany a_mval a_mord a_mfree a_mcode a_mnext a_mcom a_mmet c_sort c_cnt c_frees c_cur c_thr c_fst c_snd c_let c_many c_val c_ord c_free c_code c_next c_com c_met) sz)) 0 0 (va_A (wM G a_m a_mfst a_msnd a_mlet a_mmany a_mval a_mord a_mfree a_mcode a_mnext a_mcom a_mmet c_sort c_cnt c_frees c_cur c_thr c_fst c_snd c_let c_many c_val c_ord c_free c_code c_next c_com c_met) sz) := by
  refine zMet (Qc := fun (A : Nat → Prop) => va_Qv (fun (_ : Unit) => True) (fun _ t => zB G A (wM G a_m a_mfst a_msnd a_mlet a_mmany a_mval a_mord a_mfree a_mcode a_mnext a_mcom a_mmet c_sort r0.1 r0.2.1 c_cur c_thr c_fst c_snd c_let c_many c_val r0.2.2.1 r0.2.2.2 c_code c_next c_com c_met) t) A) (by decide) (Nat.le_of_ble_eq_true rfl) (fun xp xe xs xm xb xme xc A ls Q H locs C hN hK hP hD hS hA hl hQ => ?_)
  obtain ⟨hx, hb, hr, hts, hown, hlocks, hml, hin⟩ := C
  have hl : lv_has ls 3 [(0, .ref a_m), (1, .int p_1)] := hl
  have h := hf
  unfold f_Model_delete at h
  refine lv_aload_n hx hb d_Model_delete_0 rfl (lv_at hl 0 rfl) ?_
  refine va_get (D := G.1) (ci := 6) (v := .ref a_mfree) (C := "BranchStoreModel") (T := F_Model) (N := 16) hx hb hts i_Model hown hK hP 0 rfl rfl 8 (by decide) (hts _ k_778) (fun _ h9 => h9) rfl d_Model_delete_1 ?_
  refine lv_aload_n hx hb d_Model_delete_4 rfl (lv_at hl 0 rfl) ?_
  refine lv_dup hx hb d_Model_delete_5 rfl ?_
  refine va_get (D := G.1) (ci := 6) (v := .int c_frees) (C := "BranchStoreModel") (T := F_Model) (N := 16) hx hb hts i_Model hown hK hP 0 rfl rfl 9 (by decide) (hts _ k_779) (fun _ h9 => h9) rfl d_Model_delete_6 ?_
  refine lv_dup_x1 hx hb d_Model_delete_9 rfl rfl ?_
  refine lv_iconst (v := 1) hx hb d_Model_delete_10 (by decide) ?_
  refine lv_iadd hx hb d_Model_delete_11 ?_
  refine lv_topi (fun v1 ev1 => ?_)
  have h := nm_k h v1 ev1
  refine va_put (D := G.1) (ci := 6) (v := .int v1) (ty := .int) (C := "BranchStoreModel") (T := F_Model) (N := 16) hx hb hts i_Model t_Model t_Model_ok n_Model hown hK hP hD hS 0 rfl rfl 9 (by decide) (hts _ k_779) (fun _ h9 => h9) rfl (by decide +kernel) rfl rfl (Nat.le_of_ble_eq_true rfl) d_Model_delete_12 (fun H locs hP hD hS => ?_)
  have hP : va_P G.1 classes (wM G a_m a_mfst a_msnd a_mlet a_mmany a_mval a_mord a_mfree a_mcode a_mnext a_mcom a_mmet c_sort c_cnt v1 c_cur c_thr c_fst c_snd c_let c_many c_val c_ord c_free c_code c_next c_com c_met) H := hP
  have hD : va_D A (wM G a_m a_mfst a_msnd a_mlet a_mmany a_mval a_mord a_mfree a_mcode a_mnext a_mcom a_mmet c_sort c_cnt v1 c_cur c_thr c_fst c_snd c_let c_many c_val c_ord c_free c_code c_next c_com c_met) := hD
  refine lv_aload_n hx hb d_Model_delete_15 rfl (lv_at hl 0 rfl) ?_
  refine va_get (D := G.1) (ci := 6) (v := .ref a_mord) (C := "BranchStoreModel") (T := F_Model) (N := 16) hx hb hts i_Model hown hK hP 0 rfl rfl 6 (by decide) (hts _ k_776) (fun _ h9 => h9) rfl d_Model_delete_16 ?_
  refine lv_iload_n hx hb d_Model_delete_19 rfl (lv_at hl 1 rfl) ?_
  obtain ⟨h2, h⟩ := gi_k h
  refine va_iald hx hb hK hP 6 0 rfl rfl h2 d_Model_delete_20 ?_
  obtain ⟨h3, h⟩ := gi_k h
  refine va_iast hx hb hK hP hD hS 7 0 rfl rfl h3 d_Model_delete_21 (fun H locs hP hD hS => ?_)
  obtain ⟨c4, ec4⟩ : ∃ y, y = upd c_free c_frees.toNatClampNeg (c_ord p_1.toNatClampNeg) := ⟨_, rfl⟩
  have h := nm_k h c4 ec4
  have hP : va_P G.1 classes (wM G a_m a_mfst a_msnd a_mlet a_mmany a_mval a_mord a_mfree a_mcode a_mnext a_mcom a_mmet c_sort c_cnt v1 c_cur c_thr c_fst c_snd c_let c_many c_val c_ord c4 c_code c_next c_com c_met) H := by rw [ec4]; exact hP
  have hD : va_D A (wM G a_m a_mfst a_msnd a_mlet a_mmany a_mval a_mord a_mfree a_mcode a_mnext a_mcom a_mmet c_sort c_cnt v1 c_cur c_thr c_fst c_snd c_let c_many c_val c_ord c4 c_code c_next c_com c_met) := by rw [ec4]; exact hD
  refine lv_aload_n hx hb d_Model_delete_22 rfl (lv_at hl 0 rfl) ?_
  refine lv_dup hx hb d_Model_delete_23 rfl ?_
  refine va_get (D := G.1) (ci := 6) (v := .int c_cnt) (C := "BranchStoreModel") (T := F_Model) (N := 16) hx hb hts i_Model hown hK hP 0 rfl rfl 7 (by decide) (hts _ k_777) (fun _ h9 => h9) rfl d_Model_delete_24 ?_
  refine lv_iconst (v := 1) hx hb d_Model_delete_27 (by decide) ?_
  refine lv_isub hx hb d_Model_delete_28 ?_
  refine lv_topi (fun v5 ev5 => ?_)
  have h := nm_k h v5 ev5
  refine va_put (D := G.1) (ci := 6) (v := .int v5) (ty := .int) (C := "BranchStoreModel") (T := F_Model) (N := 16) hx hb hts i_Model t_Model t_Model_ok n_Model hown hK hP hD hS 0 rfl rfl 7 (by decide) (hts _ k_777) (fun _ h9 => h9) rfl (by decide +kernel) rfl rfl (Nat.le_of_ble_eq_true rfl) d_Model_delete_29 (fun H locs hP hD hS => ?_)
  have hP : va_P G.1 classes (wM G a_m a_mfst a_msnd a_mlet a_mmany a_mval a_mord a_mfree a_mcode a_mnext a_mcom a_mmet c_sort v5 v1 c_cur c_thr c_fst c_snd c_let c_many c_val c_ord c4 c_code c_next c_com c_met) H := hP
  have hD : va_D A (wM G a_m a_mfst a_msnd a_mlet a_mmany a_mval a_mord a_mfree a_mcode a_mnext a_mcom a_mmet c_sort v5 v1 c_cur c_thr c_fst c_snd c_let c_many c_val c_ord c4 c_code c_next c_com c_met) := hD
  refine lv_iload_n hx hb d_Model_delete_32 rfl (lv_at hl 1 rfl) ?_
  refine lv_istore_n (lv' := [(2, .int p_1), (0, .ref a_m), (1, .int p_1)]) hx hb d_Model_delete_33 rfl hl (by decide) rfl (fun ls hl => ?_)
  obtain ⟨y8, hy8, h⟩ := ob h
  have E34 : ∀ (z14 : (Nat → Int32)), z14 = y8 → ∀ (H : Heap) (locs : List Loc) (ls : Array Slot), va_P G.1 classes (wM G a_m a_mfst a_msnd a_mlet a_mmany a_mval a_mord a_mfree a_mcode a_mnext a_mcom a_mmet c_sort v5 v1 c_cur c_thr c_fst c_snd c_let c_many c_val z14 c4 c_code c_next c_com c_met) H → va_D A (wM G a_m a_mfst a_msnd a_mlet a_mmany a_mval a_mord a_mfree a_mcode a_mnext a_mcom a_mmet c_sort v5 v1 c_cur c_thr c_fst c_snd c_let c_many c_val z14 c4 c_code c_next c_com c_met) → va_S A xs.heap H locs → lv_has ls 3 [] → W xp l xe { frames := 0, cells := 0, slots := 0, locals := 0 } xs xm ([.ref a_m, .int p_1] : List Value).toArray xb xme xc H locs 0 0 Q (F0 xm 62 ls []) := by
    intro z14 ey H locs ls hP hD hS hl
    subst ey
    try dsimp only at h
    obtain rfl := Option.some.inj h
    exact zretv () hQ hS.2.2 hx hb hr hlocks hP hD hS trivial (Nat.le_refl _) (Nat.le_refl _) d_Model_delete_62
  have L34 : ∀ v : (Int32 × (Nat → Int32)), lp (fun v => s_Model_delete_34 v5 v.1 v.2) v = some y8 → ∀ (H : Heap) (locs : List Loc) (ls : Array Slot), va_P G.1 classes (wM G a_m a_mfst a_msnd a_mlet a_mmany a_mval a_mord a_mfree a_mcode a_mnext a_mcom a_mmet c_sort v5 v1 c_cur c_thr c_fst c_snd c_let c_many c_val v.2 c4 c_code c_next c_com c_met) H → va_D A (wM G a_m a_mfst a_msnd a_mlet a_mmany a_mval a_mord a_mfree a_mcode a_mnext a_mcom a_mmet c_sort v5 v1 c_cur c_thr c_fst c_snd c_let c_many c_val v.2 c4 c_code c_next c_com c_met) → va_S A xs.heap H locs → lv_has ls 3 [(0, .ref a_m), (2, .int v.1)] → W xp l xe { frames := 0, cells := 0, slots := 0, locals := 0 } xs xm ([.ref a_m, .int p_1] : List Value).toArray xb xme xc H locs 0 0 Q (F0 xm 34 ls []) := by
    refine lp_walk _ (fun v x h hc he => ?_)
    obtain ⟨x2_6, c7⟩ := v
    intro H locs ls hP hD hS hl
    have h : s_Model_delete_34 v5 x2_6 c7 = some x := h
    unfold s_Model_delete_34 at h
    refine lv_iload_n hx hb d_Model_delete_34 rfl (lv_at hl 1 rfl) ?_
    refine lv_aload_n hx hb d_Model_delete_35 rfl (lv_at hl 0 rfl) ?_
    refine va_get (D := G.1) (ci := 6) (v := .int v5) (C := "BranchStoreModel") (T := F_Model) (N := 16) hx hb hts i_Model hown hK hP 0 rfl rfl 7 (by decide) (hts _ k_777) (fun _ h9 => h9) rfl d_Model_delete_36 ?_
    refine lv_icmp_ge (tgt := 62) hx hb d_Model_delete_39 (by decide) (fun q9 => ?_) (fun q9 => ?_)
    · have h := it h q9
      exact E34 c7 (he _ (Option.some.inj h).symm) H locs ls hP hD hS (lv_sub hl [] rfl)
    · have h := ie h q9
      refine lv_aload_n hx hb d_Model_delete_42 rfl (lv_at hl 0 rfl) ?_
      refine va_get (D := G.1) (ci := 6) (v := .ref a_mord) (C := "BranchStoreModel") (T := F_Model) (N := 16) hx hb hts i_Model hown hK hP 0 rfl rfl 6 (by decide) (hts _ k_776) (fun _ h9 => h9) rfl d_Model_delete_43 ?_
      refine lv_iload_n hx hb d_Model_delete_46 rfl (lv_at hl 1 rfl) ?_
      refine lv_aload_n hx hb d_Model_delete_47 rfl (lv_at hl 0 rfl) ?_
      refine va_get (D := G.1) (ci := 6) (v := .ref a_mord) (C := "BranchStoreModel") (T := F_Model) (N := 16) hx hb hts i_Model hown hK hP 0 rfl rfl 6 (by decide) (hts _ k_776) (fun _ h9 => h9) rfl d_Model_delete_48 ?_
      refine lv_iload_n hx hb d_Model_delete_51 rfl (lv_at hl 1 rfl) ?_
      refine lv_iconst (v := 1) hx hb d_Model_delete_52 (by decide) ?_
      refine lv_iadd hx hb d_Model_delete_53 ?_
      obtain ⟨h10, h⟩ := gi_k h
      refine va_iald hx hb hK hP 6 0 rfl rfl h10 d_Model_delete_54 ?_
      obtain ⟨h11, h⟩ := gi_k h
      refine va_iast hx hb hK hP hD hS 6 0 rfl rfl h11 d_Model_delete_55 (fun H locs hP hD hS => ?_)
      obtain ⟨c12, ec12⟩ : ∃ y, y = upd c7 x2_6.toNatClampNeg (c7 (x2_6 + 1).toNatClampNeg) := ⟨_, rfl⟩
      have h := nm_k h c12 ec12
      have hP : va_P G.1 classes (wM G a_m a_mfst a_msnd a_mlet a_mmany a_mval a_mord a_mfree a_mcode a_mnext a_mcom a_mmet c_sort v5 v1 c_cur c_thr c_fst c_snd c_let c_many c_val c12 c4 c_code c_next c_com c_met) H := by rw [ec12]; exact hP
      have hD : va_D A (wM G a_m a_mfst a_msnd a_mlet a_mmany a_mval a_mord a_mfree a_mcode a_mnext a_mcom a_mmet c_sort v5 v1 c_cur c_thr c_fst c_snd c_let c_many c_val c12 c4 c_code c_next c_com c_met) := by rw [ec12]; exact hD
      obtain ⟨v13, ev13⟩ : ∃ y : Int32, y = x2_6 + 1 := ⟨_, rfl⟩
      have h := nm_k h v13 ev13
      refine lv_iinc (v := v13) (lv' := [(2, .int v13), (0, .ref a_m)]) hx hb d_Model_delete_56 hl (k := 1) rfl (by rw [ev13]; rfl) (by decide) rfl (fun ls hl => ?_)
      refine lv_goto (tgt := 34) hx hb d_Model_delete_59 (by decide) ?_
      exact hc _ (Option.some.inj h).symm H locs ls hP hD hS (lv_sub hl [1, 0] rfl)
  exact L34 _ hy8 _ _ ls hP hD hS (lv_sub hl [1, 0] rfl)

theorem kv_Model_70 : zKV "BranchStoreModel" 70 y_Model_fails prog_9_method_3_code 3 (some .boolean) 2 := ⟨k_828, k_830, kp_27, k_8, k_831, by decide +kernel⟩
noncomputable def f_Model_number (c_sort : Int32) (c_thr : Int32) (c_fst : (Nat → Int64)) (p_1 : Int64) : Option (Int32 × (Nat → Int64)) :=
(if c_sort = 0 then
(some 0)
else
(some 1)).bind fun y4 =>
(f_Model_fails c_thr y4 1).bind fun r6 =>
if r6.1 = 0 then
(gi 1500 1503 <|
nm (vp_updL c_fst (1500 : Int32).toNatClampNeg p_1) fun c10 =>
some (r6.2, c10))
else
(some (r6.2, c_fst))
set_option maxHeartbeats 8000000 in
set_option maxRecDepth 100000 in
theorem c_Model_number (l : Launch) (G : zG) (sz : Nat) (a_m a_mfst a_msnd a_mlet a_mmany a_mval a_mord a_mfree a_mcode a_mnext a_mcom a_mmet : Nat) (c_sort : Int32) (c_cnt : Int32) (c_frees : Int32) (c_cur : Int32) (c_thr : Int32) (c_fst : (Nat → Int64)) (c_snd : (Nat → Int64)) (c_let : (Nat → Int32)) (c_many : (Nat → Int32)) (c_val : (Nat → Int64)) (c_ord : (Nat → Int32)) (c_free : (Nat → Int32)) (c_code : (Nat → Int32)) (c_next : (Nat → Int32)) (c_com : (Nat → Int32)) (c_met : (Nat → Int32)) (p_1 : Int64) (r0 : (Int32 × (Nat → Int64))) (hf : f_Model_number c_sort c_thr c_fst p_1 = some r0) :
    Met l y_Model_number (Cond.code y_Model_number prog_9_method_12_code 3 none :: lw_ok) { frames := 1, cells := 0, slots := 0, locals := 22 } (zPc G sz [.ref a_m, .long p_1] (wM G a_m a_mfst a_msnd a_mlet a_mmany a_mval a_mord a_mfree a_mcode a_mnext a_mcom a_mmet c_sort c_cnt c_frees c_cur c_thr c_fst c_snd c_let c_many c_val c_ord c_free c_code c_next c_com c_met))
      ((fun (A : Nat → Prop) => va_Qv (fun (_ : Unit) => True) (fun _ t => zB G A (wM G a_m a_mfst a_msnd a_mlet a_mmany a_mval a_mord a_mfree a_mcode a_mnext a_mcom a_mmet c_sort c_cnt c_frees c_cur r0.1 r0.2 c_snd c_let c_many c_val c_ord c_free c_code c_next c_com c_met) t) A) (va_A (wM G a_m a_mfst a_msnd a_mlet a_mmany a_mval a_mord a_mfree a_mcode a_mnext a_mcom a_mmet c_sort c_cnt c_frees c_cur c_thr c_fst c_snd c_let c_many c_val c_ord c_free c_code c_next c_com c_met) sz)) 0 0 (va_A (wM G a_m a_mfst a_msnd a_mlet a_mmany a_mval a_mord a_mfree a_mcode a_mnext a_mcom a_mmet c_sort c_cnt c_frees c_cur c_thr c_fst c_snd c_let c_many c_val c_ord c_free c_code c_next c_com c_met) sz) := by
  refine zMet (Qc := fun (A : Nat → Prop) => va_Qv (fun (_ : Unit) => True) (fun _ t => zB G A (wM G a_m a_mfst a_msnd a_mlet a_mmany a_mval a_mord a_mfree a_mcode a_mnext a_mcom a_mmet c_sort c_cnt c_frees c_cur r0.1 r0.2 c_snd c_let c_many c_val c_ord c_free c_code c_next c_com c_met) t) A) (by decide) (Nat.le_of_ble_eq_true rfl) (fun xp xe xs xm xb xme xc A ls Q H locs C hN hK hP hD hS hA hl hQ => ?_)
  obtain ⟨hx, hb, hr, hts, hown, hlocks, hml, hin⟩ := C
  have hl : lv_has ls 3 [(0, .ref a_m), (1, .long p_1)] := hl
  have h := hf
  unfold f_Model_number at h
  refine lv_aload_n hx hb d_Model_number_0 rfl (lv_at hl 0 rfl) ?_
  refine lv_aload_n hx hb d_Model_number_1 rfl (lv_at hl 0 rfl) ?_
  refine va_get (D := G.1) (ci := 6) (v := .int c_sort) (C := "BranchStoreModel") (T := F_Model) (N := 16) hx hb hts i_Model hown hK hP 0 rfl rfl 0 (by decide) (hts _ k_770) (fun _ h9 => h9) rfl d_Model_number_2 ?_
  obtain ⟨y3, hy3, h⟩ := ob h
  have J13 : ∀ (z5 : Int32), narrow .boolean (.int z5) = .int z5 → z5 = y3 → ∀ (H : Heap) (locs : List Loc) (ls : Array Slot), va_P G.1 classes (wM G a_m a_mfst a_msnd a_mlet a_mmany a_mval a_mord a_mfree a_mcode a_mnext a_mcom a_mmet c_sort c_cnt c_frees c_cur c_thr c_fst c_snd c_let c_many c_val c_ord c_free c_code c_next c_com c_met) H → va_D A (wM G a_m a_mfst a_msnd a_mlet a_mmany a_mval a_mord a_mfree a_mcode a_mnext a_mcom a_mmet c_sort c_cnt c_frees c_cur c_thr c_fst c_snd c_let c_many c_val c_ord c_free c_code c_next c_com c_met) → va_S A xs.heap H locs → lv_has ls 3 [(0, .ref a_m), (1, .long p_1)] → W xp l xe { frames := 1, cells := 0, slots := 0, locals := 22 } xs xm ([.ref a_m, .long p_1] : List Value).toArray xb xme xc H locs 0 0 Q (F0 xm 13 ls [.int z5, .ref a_m]) := by
    intro z5 hzz5 ey H locs ls hP hD hS hl
    subst ey
    try dsimp only at h
    refine lv_iconst (v := 1) hx hb d_Model_number_13 (by decide) ?_
    obtain ⟨r6, hr6, h⟩ := ob h
    refine zcalli (wr := []) (w2 := fun _ => (wM G a_m a_mfst a_msnd a_mlet a_mmany a_mval a_mord a_mfree a_mcode a_mnext a_mcom a_mmet c_sort c_cnt c_frees c_cur r6.2 c_fst c_snd c_let c_many c_val c_ord c_free c_code c_next c_com c_met)) (zrunV (As := [.int z5, .int 1]) (rest := []) ⟨hx, hb, hml, hown, hts⟩ hN hK (c_Model_fails l G H.size a_m a_mfst a_msnd a_mlet a_mmany a_mval a_mord a_mfree a_mcode a_mnext a_mcom a_mmet c_sort c_cnt c_frees c_cur c_thr c_fst c_snd c_let c_many c_val c_ord c_free c_code c_next c_com c_met z5 1 hzz5 r6 hr6) ⟨rfl, rfl⟩ kv_Model_70 ⟨Nat.le_of_ble_eq_true rfl, Nat.le_of_ble_eq_true rfl⟩ 0 rfl rfl rfl hl.1 (Nat.le_of_ble_eq_true rfl) d_Model_number_14 ⟨Nat.le_of_ble_eq_true rfl, Nat.le_of_ble_eq_true rfl⟩) hP hD hS hA [0, 1, 2, 3, 4, 5, 6, 7, 8, 9, 10, 11] [] [0, 1, 2, 3, 4, 5, 6, 7, 8, 9, 10, 11] rfl rfl rfl rfl (by decide) rfl (fun _ => rfl) (fun rr _ H locs hw hP hD hS => ?_)
    obtain ⟨hw, hz7⟩ := hw
    have hw := hw.symm
    subst hw
    refine lv_if_eq (tgt := 21) hx hb d_Model_number_17 (by decide) (fun q8 => ?_) (fun q8 => ?_)
    · have h := it h q8
      refine lv_aload_n hx hb d_Model_number_21 rfl (lv_at hl 0 rfl) ?_
      refine va_get (D := G.1) (ci := 6) (v := .ref a_mfst) (C := "BranchStoreModel") (T := F_Model) (N := 16) hx hb hts i_Model hown hK hP 0 rfl rfl 1 (by decide) (hts _ k_771) (fun _ h9 => h9) rfl d_Model_number_22 ?_
      refine lv_sipush (v := 1500) hx hb d_Model_number_25 (by decide) ?_
      refine lv_lload_n hx hb d_Model_number_28 rfl (lv_at hl 1 rfl) ?_
      obtain ⟨h9, h⟩ := gi_k h
      refine va_last hx hb hK hP hD hS 1 2 rfl rfl h9 d_Model_number_29 (fun H locs hP hD hS => ?_)
      obtain ⟨c10, ec10⟩ : ∃ y, y = vp_updL c_fst (1500 : Int32).toNatClampNeg p_1 := ⟨_, rfl⟩
      have h := nm_k h c10 ec10
      have hP : va_P G.1 classes (wM G a_m a_mfst a_msnd a_mlet a_mmany a_mval a_mord a_mfree a_mcode a_mnext a_mcom a_mmet c_sort c_cnt c_frees c_cur r6.2 c10 c_snd c_let c_many c_val c_ord c_free c_code c_next c_com c_met) H := by rw [ec10]; exact hP
      have hD : va_D A (wM G a_m a_mfst a_msnd a_mlet a_mmany a_mval a_mord a_mfree a_mcode a_mnext a_mcom a_mmet c_sort c_cnt c_frees c_cur r6.2 c10 c_snd c_let c_many c_val c_ord c_free c_code c_next c_com c_met) := by rw [ec10]; exact hD
      obtain rfl := Option.some.inj h
      exact zretv () hQ hS.2.2 hx hb hr hlocks hP hD hS trivial (Nat.le_refl _) (Nat.le_refl _) d_Model_number_30
    · have h := ie h q8
      obtain rfl := Option.some.inj h
      exact zretv () hQ hS.2.2 hx hb hr hlocks hP hD hS trivial (Nat.le_refl _) (Nat.le_refl _) d_Model_number_20
  have h := hy3
  refine lv_if_eq (tgt := 12) hx hb d_Model_number_5 (by decide) (fun q2 => ?_) (fun q2 => ?_)
  · have h := it h q2
    refine lv_iconst (v := 0) hx hb d_Model_number_12 (by decide) ?_
    exact J13 0 rfl (Option.some.inj h) H locs ls hP hD hS (lv_sub hl [0, 1] rfl)
  · have h := ie h q2
    refine lv_iconst (v := 1) hx hb d_Model_number_8 (by decide) ?_
    refine lv_goto (tgt := 13) hx hb d_Model_number_9 (by decide) ?_
    exact J13 1 rfl (Option.some.inj h) H locs ls hP hD hS (lv_sub hl [0, 1] rfl)

noncomputable def f_Model_pair (c_sort : Int32) (c_thr : Int32) (c_fst : (Nat → Int64)) (c_snd : (Nat → Int64)) (p_1 : Int64) (p_3 : Int64) : Option (Int32 × (Nat → Int64) × (Nat → Int64)) :=
(if c_sort = 1 then
(some 0)
else
(some 1)).bind fun y4 =>
(f_Model_fails c_thr y4 1).bind fun r6 =>
if r6.1 = 0 then
(gi 1500 1503 <|
nm (vp_updL c_fst (1500 : Int32).toNatClampNeg p_1) fun c10 =>
gi 1500 1503 <|
nm (vp_updL c_snd (1500 : Int32).toNatClampNeg p_3) fun c12 =>
some (r6.2, c10, c12))
else
(some (r6.2, c_fst, c_snd))
set_option maxHeartbeats 8000000 in
set_option maxRecDepth 100000 in
theorem c_Model_pair (l : Launch) (G : zG) (sz : Nat) (a_m a_mfst a_msnd a_mlet a_mmany a_mval a_mord a_mfree a_mcode a_mnext a_mcom a_mmet : Nat) (c_sort : Int32) (c_cnt : Int32) (c_frees : Int32) (c_cur : Int32) (c_thr : Int32) (c_fst : (Nat → Int64)) (c_snd : (Nat → Int64)) (c_let : (Nat → Int32)) (c_many : (Nat → Int32)) (c_val : (Nat → Int64)) (c_ord : (Nat → Int32)) (c_free : (Nat → Int32)) (c_code : (Nat → Int32)) (c_next : (Nat → Int32)) (c_com : (Nat → Int32)) (c_met : (Nat → Int32)) (p_1 : Int64) (p_3 : Int64) (r0 : (Int32 × (Nat → Int64) × (Nat → Int64))) (hf : f_Model_pair c_sort c_thr c_fst c_snd p_1 p_3 = some r0) :
    Met l y_Model_pair (Cond.code y_Model_pair prog_9_method_13_code 5 none :: lw_ok) { frames := 1, cells := 0, slots := 0, locals := 22 } (zPc G sz [.ref a_m, .long p_1, .long p_3] (wM G a_m a_mfst a_msnd a_mlet a_mmany a_mval a_mord a_mfree a_mcode a_mnext a_mcom a_mmet c_sort c_cnt c_frees c_cur c_thr c_fst c_snd c_let c_many c_val c_ord c_free c_code c_next c_com c_met))
      ((fun (A : Nat → Prop) => va_Qv (fun (_ : Unit) => True) (fun _ t => zB G A (wM G a_m a_mfst a_msnd a_mlet a_mmany a_mval a_mord a_mfree a_mcode a_mnext a_mcom a_mmet c_sort c_cnt c_frees c_cur r0.1 r0.2.1 r0.2.2 c_let c_many c_val c_ord c_free c_code c_next c_com c_met) t) A) (va_A (wM G a_m a_mfst a_msnd a_mlet a_mmany a_mval a_mord a_mfree a_mcode a_mnext a_mcom a_mmet c_sort c_cnt c_frees c_cur c_thr c_fst c_snd c_let c_many c_val c_ord c_free c_code c_next c_com c_met) sz)) 0 0 (va_A (wM G a_m a_mfst a_msnd a_mlet a_mmany a_mval a_mord a_mfree a_mcode a_mnext a_mcom a_mmet c_sort c_cnt c_frees c_cur c_thr c_fst c_snd c_let c_many c_val c_ord c_free c_code c_next c_com c_met) sz) := by
  refine zMet (Qc := fun (A : Nat → Prop) => va_Qv (fun (_ : Unit) => True) (fun _ t => zB G A (wM G a_m a_mfst a_msnd a_mlet a_mmany a_mval a_mord a_mfree a_mcode a_mnext a_mcom a_mmet c_sort c_cnt c_frees c_cur r0.1 r0.2.1 r0.2.2 c_let c_many c_val c_ord c_free c_code c_next c_com c_met) t) A) (by decide) (Nat.le_of_ble_eq_true rfl) (fun xp xe xs xm xb xme xc A ls Q H locs C hN hK hP hD hS hA hl hQ => ?_)
  obtain ⟨hx, hb, hr, hts, hown, hlocks, hml, hin⟩ := C
  have hl : lv_has ls 5 [(0, .ref a_m), (1, .long p_1), (3, .long p_3)] := hl
  have h := hf
  unfold f_Model_pair at h
  refine lv_aload_n hx hb d_Model_pair_0 rfl (lv_at hl 0 rfl) ?_
  refine lv_aload_n hx hb d_Model_pair_1 rfl (lv_at hl 0 rfl) ?_
  refine va_get (D := G.1) (ci := 6) (v := .int c_sort) (C := "BranchStoreModel") (T := F_Model) (N := 16) hx hb hts i_Model hown hK hP 0 rfl rfl 0 (by decide) (hts _ k_770) (fun _ h9 => h9) rfl d_Model_pair_2 ?_
  refine lv_iconst (v := 1) hx hb d_Model_pair_5 (by decide) ?_
  obtain ⟨y3, hy3, h⟩ := ob h
  have J14 : ∀ (z5 : Int32), narrow .boolean (.int z5) = .int z5 → z5 = y3 → ∀ (H : Heap) (locs : List Loc) (ls : Array Slot), va_P G.1 classes (wM G a_m a_mfst a_msnd a_mlet a_mmany a_mval a_mord a_mfree a_mcode a_mnext a_mcom a_mmet c_sort c_cnt c_frees c_cur c_thr c_fst c_snd c_let c_many c_val c_ord c_free c_code c_next c_com c_met) H → va_D A (wM G a_m a_mfst a_msnd a_mlet a_mmany a_mval a_mord a_mfree a_mcode a_mnext a_mcom a_mmet c_sort c_cnt c_frees c_cur c_thr c_fst c_snd c_let c_many c_val c_ord c_free c_code c_next c_com c_met) → va_S A xs.heap H locs → lv_has ls 5 [(0, .ref a_m), (1, .long p_1), (3, .long p_3)] → W xp l xe { frames := 1, cells := 0, slots := 0, locals := 22 } xs xm ([.ref a_m, .long p_1, .long p_3] : List Value).toArray xb xme xc H locs 0 0 Q (F0 xm 14 ls [.int z5, .ref a_m]) := by
    intro z5 hzz5 ey H locs ls hP hD hS hl
    subst ey
    try dsimp only at h
    refine lv_iconst (v := 1) hx hb d_Model_pair_14 (by decide) ?_
    obtain ⟨r6, hr6, h⟩ := ob h
    refine zcalli (wr := []) (w2 := fun _ => (wM G a_m a_mfst a_msnd a_mlet a_mmany a_mval a_mord a_mfree a_mcode a_mnext a_mcom a_mmet c_sort c_cnt c_frees c_cur r6.2 c_fst c_snd c_let c_many c_val c_ord c_free c_code c_next c_com c_met)) (zrunV (As := [.int z5, .int 1]) (rest := []) ⟨hx, hb, hml, hown, hts⟩ hN hK (c_Model_fails l G H.size a_m a_mfst a_msnd a_mlet a_mmany a_mval a_mord a_mfree a_mcode a_mnext a_mcom a_mmet c_sort c_cnt c_frees c_cur c_thr c_fst c_snd c_let c_many c_val c_ord c_free c_code c_next c_com c_met z5 1 hzz5 r6 hr6) ⟨rfl, rfl⟩ kv_Model_70 ⟨Nat.le_of_ble_eq_true rfl, Nat.le_of_ble_eq_true rfl⟩ 0 rfl rfl rfl hl.1 (Nat.le_of_ble_eq_true rfl) d_Model_pair_15 ⟨Nat.le_of_ble_eq_true rfl, Nat.le_of_ble_eq_true rfl⟩) hP hD hS hA [0, 1, 2, 3, 4, 5, 6, 7, 8, 9, 10, 11] [] [0, 1, 2, 3, 4, 5, 6, 7, 8, 9, 10, 11] rfl rfl rfl rfl (by decide) rfl (fun _ => rfl) (fun rr _ H locs hw hP hD hS => ?_)
    obtain ⟨hw, hz7⟩ := hw
    have hw := hw.symm
    subst hw
    refine lv_if_eq (tgt := 22) hx hb d_Model_pair_18 (by decide) (fun q8 => ?_) (fun q8 => ?_)
    · have h := it h q8
      refine lv_aload_n hx hb d_Model_pair_22 rfl (lv_at hl 0 rfl) ?_
      refine va_get (D := G.1) (ci := 6) (v := .ref a_mfst) (C := "BranchStoreModel") (T := F_Model) (N := 16) hx hb hts i_Model hown hK hP 0 rfl rfl 1 (by decide) (hts _ k_771) (fun _ h9 => h9) rfl d_Model_pair_23 ?_
      refine lv_sipush (v := 1500) hx hb d_Model_pair_26 (by decide) ?_
      refine lv_lload_n hx hb d_Model_pair_29 rfl (lv_at hl 1 rfl) ?_
      obtain ⟨h9, h⟩ := gi_k h
      refine va_last hx hb hK hP hD hS 1 2 rfl rfl h9 d_Model_pair_30 (fun H locs hP hD hS => ?_)
      obtain ⟨c10, ec10⟩ : ∃ y, y = vp_updL c_fst (1500 : Int32).toNatClampNeg p_1 := ⟨_, rfl⟩
      have h := nm_k h c10 ec10
      have hP : va_P G.1 classes (wM G a_m a_mfst a_msnd a_mlet a_mmany a_mval a_mord a_mfree a_mcode a_mnext a_mcom a_mmet c_sort c_cnt c_frees c_cur r6.2 c10 c_snd c_let c_many c_val c_ord c_free c_code c_next c_com c_met) H := by rw [ec10]; exact hP
      have hD : va_D A (wM G a_m a_mfst a_msnd a_mlet a_mmany a_mval a_mord a_mfree a_mcode a_mnext a_mcom a_mmet c_sort c_cnt c_frees c_cur r6.2 c10 c_snd c_let c_many c_val c_ord c_free c_code c_next c_com c_met) := by rw [ec10]; exact hD
      refine lv_aload_n hx hb d_Model_pair_31 rfl (lv_at hl 0 rfl) ?_
      refine va_get (D := G.1) (ci := 6) (v := .ref a_msnd) (C := "BranchStoreModel") (T := F_Model) (N := 16) hx hb hts i_Model hown hK hP 0 rfl rfl 2 (by decide) (hts _ k_772) (fun _ h9 => h9) rfl d_Model_pair_32 ?_
      refine lv_sipush (v := 1500) hx hb d_Model_pair_35 (by decide) ?_
      refine lv_lload_n hx hb d_Model_pair_38 rfl (lv_at hl 2 rfl) ?_
      obtain ⟨h11, h⟩ := gi_k h
      refine va_last hx hb hK hP hD hS 2 2 rfl rfl h11 d_Model_pair_39 (fun H locs hP hD hS => ?_)
      obtain ⟨c12, ec12⟩ : ∃ y, y = vp_updL c_snd (1500 : Int32).toNatClampNeg p_3 := ⟨_, rfl⟩
      have h := nm_k h c12 ec12
      have hP : va_P G.1 classes (wM G a_m a_mfst a_msnd a_mlet a_mmany a_mval a_mord a_mfree a_mcode a_mnext a_mcom a_mmet c_sort c_cnt c_frees c_cur r6.2 c10 c12 c_let c_many c_val c_ord c_free c_code c_next c_com c_met) H := by rw [ec12]; exact hP
      have hD : va_D A (wM G a_m a_mfst a_msnd a_mlet a_mmany a_mval a_mord a_mfree a_mcode a_mnext a_mcom a_mmet c_sort c_cnt c_frees c_cur r6.2 c10 c12 c_let c_many c_val c_ord c_free c_code c_next c_com c_met) := by rw [ec12]; exact hD
      obtain rfl := Option.some.inj h
      exact zretv () hQ hS.2.2 hx hb hr hlocks hP hD hS trivial (Nat.le_refl _) (Nat.le_refl _) d_Model_pair_40
    · have h := ie h q8
      obtain rfl := Option.some.inj h
      exact zretv () hQ hS.2.2 hx hb hr hlocks hP hD hS trivial (Nat.le_refl _) (Nat.le_refl _) d_Model_pair_21
  have h := hy3
  refine lv_icmp_eq (tgt := 13) hx hb d_Model_pair_6 (by decide) (fun q2 => ?_) (fun q2 => ?_)
  · have h := it h q2
    refine lv_iconst (v := 0) hx hb d_Model_pair_13 (by decide) ?_
    exact J14 0 rfl (Option.some.inj h) H locs ls hP hD hS (lv_sub hl [0, 1, 2] rfl)
  · have h := ie h q2
    refine lv_iconst (v := 1) hx hb d_Model_pair_9 (by decide) ?_
    refine lv_goto (tgt := 14) hx hb d_Model_pair_10 (by decide) ?_
    exact J14 1 rfl (Option.some.inj h) H locs ls hP hD hS (lv_sub hl [0, 1, 2] rfl)

noncomputable def f_Model_letter (c_sort : Int32) (c_thr : Int32) (c_let : (Nat → Int32)) (c_many : (Nat → Int32)) (p_1 : Int32) : Option (Int32 × Int32 × (Nat → Int32) × (Nat → Int32)) :=
(if c_sort = 2 then
(some 0)
else
(some 1)).bind fun y4 =>
(f_Model_fails c_thr y4 1).bind fun r6 =>
if r6.1 = 0 then
((if p_1 < 0 then
(some 1)
else
(if p_1 ≤ 255 then
(some 0)
else
(some 1))).bind fun y13 =>
(f_Model_fails r6.2 y13 2).bind fun r15 =>
if r15.1 = 0 then
(gi 1500 1503 <|
(if (c_many (1500 : Int32).toNatClampNeg) = 24 then
(some 1)
else
(some 0)).bind fun y22 =>
(f_Model_fails r15.2 y22 3).bind fun r24 =>
if r24.1 = 0 then
(gi 1500 1503 <|
gi (36000 + (c_many (1500 : Int32).toNatClampNeg)) 36072 <|
nm (upd c_let (36000 + (c_many (1500 : Int32).toNatClampNeg)).toNatClampNeg p_1) fun c29 =>
gi 1500 1503 <|
gi 1500 1503 <|
nm (upd c_many (1500 : Int32).toNatClampNeg ((c_many (1500 : Int32).toNatClampNeg) + 1)) fun c32 =>
gi 1500 1503 <|
some (c32 (1500 : Int32).toNatClampNeg, r24.2, c29, c32))
else
(some (0, r24.2, c_let, c_many)))
else
(some (0, r15.2, c_let, c_many)))
else
(some (0, r6.2, c_let, c_many))
set_option maxHeartbeats 8000000 in
set_option maxRecDepth 100000 in
theorem c_Model_letter (l : Launch) (G : zG) (sz : Nat) (a_m a_mfst a_msnd a_mlet a_mmany a_mval a_mord a_mfree a_mcode a_mnext a_mcom a_mmet : Nat) (c_sort : Int32) (c_cnt : Int32) (c_frees : Int32) (c_cur : Int32) (c_thr : Int32) (c_fst : (Nat → Int64)) (c_snd : (Nat → Int64)) (c_let : (Nat → Int32)) (c_many : (Nat → Int32)) (c_val : (Nat → Int64)) (c_ord : (Nat → Int32)) (c_free : (Nat → Int32)) (c_code : (Nat → Int32)) (c_next : (Nat → Int32)) (c_com : (Nat → Int32)) (c_met : (Nat → Int32)) (p_1 : Int32) (r0 : (Int32 × Int32 × (Nat → Int32) × (Nat → Int32))) (hf : f_Model_letter c_sort c_thr c_let c_many p_1 = some r0) :
    Met l y_Model_letter (Cond.code y_Model_letter prog_9_method_14_code 2 (some .int) :: lw_ok) { frames := 1, cells := 0, slots := 0, locals := 22 } (zPc G sz [.ref a_m, .int p_1] (wM G a_m a_mfst a_msnd a_mlet a_mmany a_mval a_mord a_mfree a_mcode a_mnext a_mcom a_mmet c_sort c_cnt c_frees c_cur c_thr c_fst c_snd c_let c_many c_val c_ord c_free c_code c_next c_com c_met))
      ((fun (A : Nat → Prop) => va_Qi (fun (r : Int32) (_ : Unit) => r = r0.1) (fun _ t => zB G A (wM G a_m a_mfst a_msnd a_mlet a_mmany a_mval a_mord a_mfree a_mcode a_mnext a_mcom a_mmet c_sort c_cnt c_frees c_cur r0.2.1 c_fst c_snd r0.2.2.1 r0.2.2.2 c_val c_ord c_free c_code c_next c_com c_met) t) A) (va_A (wM G a_m a_mfst a_msnd a_mlet a_mmany a_mval a_mord a_mfree a_mcode a_mnext a_mcom a_mmet c_sort c_cnt c_frees c_cur c_thr c_fst c_snd c_let c_many c_val c_ord c_free c_code c_next c_com c_met) sz)) 0 0 (va_A (wM G a_m a_mfst a_msnd a_mlet a_mmany a_mval a_mord a_mfree a_mcode a_mnext a_mcom a_mmet c_sort c_cnt c_frees c_cur c_thr c_fst c_snd c_let c_many c_val c_ord c_free c_code c_next c_com c_met) sz) := by
  refine zMet (Qc := fun (A : Nat → Prop) => va_Qi (fun (r : Int32) (_ : Unit) => r = r0.1) (fun _ t => zB G A (wM G a_m a_mfst a_msnd a_mlet a_mmany a_mval a_mord a_mfree a_mcode a_mnext a_mcom a_mmet c_sort c_cnt c_frees c_cur r0.2.1 c_fst c_snd r0.2.2.1 r0.2.2.2 c_val c_ord c_free c_code c_next c_com c_met) t) A) (by decide) (Nat.le_of_ble_eq_true rfl) (fun xp xe xs xm xb xme xc A ls Q H locs C hN hK hP hD hS hA hl hQ => ?_)
  obtain ⟨hx, hb, hr, hts, hown, hlocks, hml, hin⟩ := C
  have hl : lv_has ls 2 [(0, .ref a_m), (1, .int p_1)] := hl
  have h := hf
  unfold f_Model_letter at h
  refine lv_aload_n hx hb d_Model_letter_0 rfl (lv_at hl 0 rfl) ?_
  refine lv_aload_n hx hb d_Model_letter_1 rfl (lv_at hl 0 rfl) ?_
  refine va_get (D := G.1) (ci := 6) (v := .int c_sort) (C := "BranchStoreModel") (T := F_Model) (N := 16) hx hb hts i_Model hown hK hP 0 rfl rfl 0 (by decide) (hts _ k_770) (fun _ h9 => h9) rfl d_Model_letter_2 ?_
  refine lv_iconst (v := 2) hx hb d_Model_letter_5 (by decide) ?_
  obtain ⟨y3, hy3, h⟩ := ob h
  have J14 : ∀ (z5 : Int32), narrow .boolean (.int z5) = .int z5 → z5 = y3 → ∀ (H : Heap) (locs : List Loc) (ls : Array Slot), va_P G.1 classes (wM G a_m a_mfst a_msnd a_mlet a_mmany a_mval a_mord a_mfree a_mcode a_mnext a_mcom a_mmet c_sort c_cnt c_frees c_cur c_thr c_fst c_snd c_let c_many c_val c_ord c_free c_code c_next c_com c_met) H → va_D A (wM G a_m a_mfst a_msnd a_mlet a_mmany a_mval a_mord a_mfree a_mcode a_mnext a_mcom a_mmet c_sort c_cnt c_frees c_cur c_thr c_fst c_snd c_let c_many c_val c_ord c_free c_code c_next c_com c_met) → va_S A xs.heap H locs → lv_has ls 2 [(0, .ref a_m), (1, .int p_1)] → W xp l xe { frames := 1, cells := 0, slots := 0, locals := 22 } xs xm ([.ref a_m, .int p_1] : List Value).toArray xb xme xc H locs 0 0 Q (F0 xm 14 ls [.int z5, .ref a_m]) := by
    intro z5 hzz5 ey H locs ls hP hD hS hl
    subst ey
    try dsimp only at h
    refine lv_iconst (v := 1) hx hb d_Model_letter_14 (by decide) ?_
    obtain ⟨r6, hr6, h⟩ := ob h
    refine zcalli (wr := []) (w2 := fun _ => (wM G a_m a_mfst a_msnd a_mlet a_mmany a_mval a_mord a_mfree a_mcode a_mnext a_mcom a_mmet c_sort c_cnt c_frees c_cur r6.2 c_fst c_snd c_let c_many c_val c_ord c_free c_code c_next c_com c_met)) (zrunV (As := [.int z5, .int 1]) (rest := []) ⟨hx, hb, hml, hown, hts⟩ hN hK (c_Model_fails l G H.size a_m a_mfst a_msnd a_mlet a_mmany a_mval a_mord a_mfree a_mcode a_mnext a_mcom a_mmet c_sort c_cnt c_frees c_cur c_thr c_fst c_snd c_let c_many c_val c_ord c_free c_code c_next c_com c_met z5 1 hzz5 r6 hr6) ⟨rfl, rfl⟩ kv_Model_70 ⟨Nat.le_of_ble_eq_true rfl, Nat.le_of_ble_eq_true rfl⟩ 0 rfl rfl rfl hl.1 (Nat.le_of_ble_eq_true rfl) d_Model_letter_15 ⟨Nat.le_of_ble_eq_true rfl, Nat.le_of_ble_eq_true rfl⟩) hP hD hS hA [0, 1, 2, 3, 4, 5, 6, 7, 8, 9, 10, 11] [] [0, 1, 2, 3, 4, 5, 6, 7, 8, 9, 10, 11] rfl rfl rfl rfl (by decide) rfl (fun _ => rfl) (fun rr _ H locs hw hP hD hS => ?_)
    obtain ⟨hw, hz7⟩ := hw
    have hw := hw.symm
    subst hw
    refine lv_if_ne (tgt := 71) hx hb d_Model_letter_18 (by decide) (fun q8 => ?_) (fun q8 => ?_)
    · have h := ie h q8
      refine lv_iconst (v := 0) hx hb d_Model_letter_71 (by decide) ?_
      obtain rfl := Option.some.inj h
      exact zreti () hQ hS.2.2 hx hb hr hlocks hP hD hS rfl (Nat.le_refl _) (Nat.le_refl _) d_Model_letter_72
    · have h := it h q8
      refine lv_aload_n hx hb d_Model_letter_21 rfl (lv_at hl 0 rfl) ?_
      refine lv_iload_n hx hb d_Model_letter_22 rfl (lv_at hl 1 rfl) ?_
      obtain ⟨y12, hy12, h⟩ := ob h
      have J38 : ∀ (z14 : Int32), narrow .boolean (.int z14) = .int z14 → z14 = y12 → ∀ (H : Heap) (locs : List Loc) (ls : Array Slot), va_P G.1 classes (wM G a_m a_mfst a_msnd a_mlet a_mmany a_mval a_mord a_mfree a_mcode a_mnext a_mcom a_mmet c_sort c_cnt c_frees c_cur r6.2 c_fst c_snd c_let c_many c_val c_ord c_free c_code c_next c_com c_met) H → va_D A (wM G a_m a_mfst a_msnd a_mlet a_mmany a_mval a_mord a_mfree a_mcode a_mnext a_mcom a_mmet c_sort c_cnt c_frees c_cur r6.2 c_fst c_snd c_let c_many c_val c_ord c_free c_code c_next c_com c_met) → va_S A xs.heap H locs → lv_has ls 2 [(0, .ref a_m), (1, .int p_1)] → W xp l xe { frames := 1, cells := 0, slots := 0, locals := 22 } xs xm ([.ref a_m, .int p_1] : List Value).toArray xb xme xc H locs 0 0 Q (F0 xm 38 ls [.int z14, .ref a_m]) := by
        intro z14 hzz14 ey H locs ls hP hD hS hl
        subst ey
        try dsimp only at h
        refine lv_iconst (v := 2) hx hb d_Model_letter_38 (by decide) ?_
        obtain ⟨r15, hr15, h⟩ := ob h
        refine zcalli (wr := []) (w2 := fun _ => (wM G a_m a_mfst a_msnd a_mlet a_mmany a_mval a_mord a_mfree a_mcode a_mnext a_mcom a_mmet c_sort c_cnt c_frees c_cur r15.2 c_fst c_snd c_let c_many c_val c_ord c_free c_code c_next c_com c_met)) (zrunV (As := [.int z14, .int 2]) (rest := []) ⟨hx, hb, hml, hown, hts⟩ hN hK (c_Model_fails l G H.size a_m a_mfst a_msnd a_mlet a_mmany a_mval a_mord a_mfree a_mcode a_mnext a_mcom a_mmet c_sort c_cnt c_frees c_cur r6.2 c_fst c_snd c_let c_many c_val c_ord c_free c_code c_next c_com c_met z14 2 hzz14 r15 hr15) ⟨rfl, rfl⟩ kv_Model_70 ⟨Nat.le_of_ble_eq_true rfl, Nat.le_of_ble_eq_true rfl⟩ 0 rfl rfl rfl hl.1 (Nat.le_of_ble_eq_true rfl) d_Model_letter_39 ⟨Nat.le_of_ble_eq_true rfl, Nat.le_of_ble_eq_true rfl⟩) hP hD hS hA [0, 1, 2, 3, 4, 5, 6, 7, 8, 9, 10, 11] [] [0, 1, 2, 3, 4, 5, 6, 7, 8, 9, 10, 11] rfl rfl rfl rfl (by decide) rfl (fun _ => rfl) (fun rr _ H locs hw hP hD hS => ?_)
        obtain ⟨hw, hz16⟩ := hw
        have hw := hw.symm
        subst hw
        refine lv_if_ne (tgt := 71) hx hb d_Model_letter_42 (by decide) (fun q17 => ?_) (fun q17 => ?_)
        · have h := ie h q17
          refine lv_iconst (v := 0) hx hb d_Model_letter_71 (by decide) ?_
          obtain rfl := Option.some.inj h
          exact zreti () hQ hS.2.2 hx hb hr hlocks hP hD hS rfl (Nat.le_refl _) (Nat.le_refl _) d_Model_letter_72
        · have h := it h q17
          refine lv_aload_n hx hb d_Model_letter_45 rfl (lv_at hl 0 rfl) ?_
          refine lv_aload_n hx hb d_Model_letter_46 rfl (lv_at hl 0 rfl) ?_
          refine va_get (D := G.1) (ci := 6) (v := .ref a_mmany) (C := "BranchStoreModel") (T := F_Model) (N := 16) hx hb hts i_Model hown hK hP 0 rfl rfl 4 (by decide) (hts _ k_774) (fun _ h9 => h9) rfl d_Model_letter_47 ?_
          refine lv_sipush (v := 1500) hx hb d_Model_letter_50 (by decide) ?_
          obtain ⟨h18, h⟩ := gi_k h
          refine va_iald hx hb hK hP 4 0 rfl rfl h18 d_Model_letter_53 ?_
          refine lv_bipush (v := 24) hx hb d_Model_letter_54 (by decide) ?_
          obtain ⟨y21, hy21, h⟩ := ob h
          have J64 : ∀ (z23 : Int32), narrow .boolean (.int z23) = .int z23 → z23 = y21 → ∀ (H : Heap) (locs : List Loc) (ls : Array Slot), va_P G.1 classes (wM G a_m a_mfst a_msnd a_mlet a_mmany a_mval a_mord a_mfree a_mcode a_mnext a_mcom a_mmet c_sort c_cnt c_frees c_cur r15.2 c_fst c_snd c_let c_many c_val c_ord c_free c_code c_next c_com c_met) H → va_D A (wM G a_m a_mfst a_msnd a_mlet a_mmany a_mval a_mord a_mfree a_mcode a_mnext a_mcom a_mmet c_sort c_cnt c_frees c_cur r15.2 c_fst c_snd c_let c_many c_val c_ord c_free c_code c_next c_com c_met) → va_S A xs.heap H locs → lv_has ls 2 [(0, .ref a_m), (1, .int p_1)] → W xp l xe { frames := 1, cells := 0, slots := 0, locals := 22 } xs xm ([.ref a_m, .int p_1] : List Value).toArray xb xme xc H locs 0 0 Q (F0 xm 64 ls [.int z23, .ref a_m]) := by
            intro z23 hzz23 ey H locs ls hP hD hS hl
            subst ey
            try dsimp only at h
            refine lv_iconst (v := 3) hx hb d_Model_letter_64 (by decide) ?_
            obtain ⟨r24, hr24, h⟩ := ob h
            refine zcalli (wr := []) (w2 := fun _ => (wM G a_m a_mfst a_msnd a_mlet a_mmany a_mval a_mord a_mfree a_mcode a_mnext a_mcom a_mmet c_sort c_cnt c_frees c_cur r24.2 c_fst c_snd c_let c_many c_val c_ord c_free c_code c_next c_com c_met)) (zrunV (As := [.int z23, .int 3]) (rest := []) ⟨hx, hb, hml, hown, hts⟩ hN hK (c_Model_fails l G H.size a_m a_mfst a_msnd a_mlet a_mmany a_mval a_mord a_mfree a_mcode a_mnext a_mcom a_mmet c_sort c_cnt c_frees c_cur r15.2 c_fst c_snd c_let c_many c_val c_ord c_free c_code c_next c_com c_met z23 3 hzz23 r24 hr24) ⟨rfl, rfl⟩ kv_Model_70 ⟨Nat.le_of_ble_eq_true rfl, Nat.le_of_ble_eq_true rfl⟩ 0 rfl rfl rfl hl.1 (Nat.le_of_ble_eq_true rfl) d_Model_letter_65 ⟨Nat.le_of_ble_eq_true rfl, Nat.le_of_ble_eq_true rfl⟩) hP hD hS hA [0, 1, 2, 3, 4, 5, 6, 7, 8, 9, 10, 11] [] [0, 1, 2, 3, 4, 5, 6, 7, 8, 9, 10, 11] rfl rfl rfl rfl (by decide) rfl (fun _ => rfl) (fun rr _ H locs hw hP hD hS => ?_)
            obtain ⟨hw, hz25⟩ := hw
            have hw := hw.symm
            subst hw
            refine lv_if_eq (tgt := 73) hx hb d_Model_letter_68 (by decide) (fun q26 => ?_) (fun q26 => ?_)
            · have h := it h q26
              refine lv_aload_n hx hb d_Model_letter_73 rfl (lv_at hl 0 rfl) ?_
              refine va_get (D := G.1) (ci := 6) (v := .ref a_mlet) (C := "BranchStoreModel") (T := F_Model) (N := 16) hx hb hts i_Model hown hK hP 0 rfl rfl 3 (by decide) (hts _ k_773) (fun _ h9 => h9) rfl d_Model_letter_74 ?_
              refine lv_ldc (v := 36000) hx hb hown (hts _ k_840) d_Model_letter_77 ?_
              refine lv_aload_n hx hb d_Model_letter_79 rfl (lv_at hl 0 rfl) ?_
              refine va_get (D := G.1) (ci := 6) (v := .ref a_mmany) (C := "BranchStoreModel") (T := F_Model) (N := 16) hx hb hts i_Model hown hK hP 0 rfl rfl 4 (by decide) (hts _ k_774) (fun _ h9 => h9) rfl d_Model_letter_80 ?_
              refine lv_sipush (v := 1500) hx hb d_Model_letter_83 (by decide) ?_
              obtain ⟨h27, h⟩ := gi_k h
              refine va_iald hx hb hK hP 4 0 rfl rfl h27 d_Model_letter_86 ?_
              refine lv_iadd hx hb d_Model_letter_87 ?_
              refine lv_iload_n hx hb d_Model_letter_88 rfl (lv_at hl 1 rfl) ?_
              obtain ⟨h28, h⟩ := gi_k h
              refine va_iast hx hb hK hP hD hS 3 0 rfl rfl h28 d_Model_letter_89 (fun H locs hP hD hS => ?_)
              obtain ⟨c29, ec29⟩ : ∃ y, y = upd c_let (36000 + (c_many (1500 : Int32).toNatClampNeg)).toNatClampNeg p_1 := ⟨_, rfl⟩
              have h := nm_k h c29 ec29
              have hP : va_P G.1 classes (wM G a_m a_mfst a_msnd a_mlet a_mmany a_mval a_mord a_mfree a_mcode a_mnext a_mcom a_mmet c_sort c_cnt c_frees c_cur r24.2 c_fst c_snd c29 c_many c_val c_ord c_free c_code c_next c_com c_met) H := by rw [ec29]; exact hP
              have hD : va_D A (wM G a_m a_mfst a_msnd a_mlet a_mmany a_mval a_mord a_mfree a_mcode a_mnext a_mcom a_mmet c_sort c_cnt c_frees c_cur r24.2 c_fst c_snd c29 c_many c_val c_ord c_free c_code c_next c_com c_met) := by rw [ec29]; exact hD
              refine lv_aload_n hx hb d_Model_letter_90 rfl (lv_at hl 0 rfl) ?_
              refine va_get (D := G.1) (ci := 6) (v := .ref a_mmany) (C := "BranchStoreModel") (T := F_Model) (N := 16) hx hb hts i_Model hown hK hP 0 rfl rfl 4 (by decide) (hts _ k_774) (fun _ h9 => h9) rfl d_Model_letter_91 ?_
              refine lv_sipush (v := 1500) hx hb d_Model_letter_94 (by decide) ?_
              refine lv_dup2_11 hx hb d_Model_letter_97 rfl rfl ?_
              obtain ⟨h30, h⟩ := gi_k h
              refine va_iald hx hb hK hP 4 0 rfl rfl h30 d_Model_letter_98 ?_
              refine lv_iconst (v := 1) hx hb d_Model_letter_99 (by decide) ?_
              refine lv_iadd hx hb d_Model_letter_100 ?_
              obtain ⟨h31, h⟩ := gi_k h
              refine va_iast hx hb hK hP hD hS 4 0 rfl rfl h31 d_Model_letter_101 (fun H locs hP hD hS => ?_)
              obtain ⟨c32, ec32⟩ : ∃ y, y = upd c_many (1500 : Int32).toNatClampNeg ((c_many (1500 : Int32).toNatClampNeg) + 1) := ⟨_, rfl⟩
              have h := nm_k h c32 ec32
              have hP : va_P G.1 classes (wM G a_m a_mfst a_msnd a_mlet a_mmany a_mval a_mord a_mfree a_mcode a_mnext a_mcom a_mmet c_sort c_cnt c_frees c_cur r24.2 c_fst c_snd c29 c32 c_val c_ord c_free c_code c_next c_com c_met) H := by rw [ec32]; exact hP
              have hD : va_D A (wM G a_m a_mfst a_msnd a_mlet a_mmany a_mval a_mord a_mfree a_mcode a_mnext a_mcom a_mmet c_sort c_cnt c_frees c_cur r24.2 c_fst c_snd c29 c32 c_val c_ord c_free c_code c_next c_com c_met) := by rw [ec32]; exact hD
              refine lv_aload_n hx hb d_Model_letter_102 rfl (lv_at hl 0 rfl) ?_
              refine va_get (D := G.1) (ci := 6) (v := .ref a_mmany) (C := "BranchStoreModel") (T := F_Model) (N := 16) hx hb hts i_Model hown hK hP 0 rfl rfl 4 (by decide) (hts _ k_774) (fun _ h9 => h9) rfl d_Model_letter_103 ?_
              refine lv_sipush (v := 1500) hx hb d_Model_letter_106 (by decide) ?_
              obtain ⟨h33, h⟩ := gi_k h
              refine va_iald hx hb hK hP 4 0 rfl rfl h33 d_Model_letter_109 ?_
              obtain rfl := Option.some.inj h
              exact zreti () hQ hS.2.2 hx hb hr hlocks hP hD hS rfl (Nat.le_refl _) (Nat.le_refl _) d_Model_letter_110
            · have h := ie h q26
              refine lv_iconst (v := 0) hx hb d_Model_letter_71 (by decide) ?_
              obtain rfl := Option.some.inj h
              exact zreti () hQ hS.2.2 hx hb hr hlocks hP hD hS rfl (Nat.le_refl _) (Nat.le_refl _) d_Model_letter_72
          have h := hy21
          refine lv_icmp_ne (tgt := 63) hx hb d_Model_letter_56 (by decide) (fun q20 => ?_) (fun q20 => ?_)
          · have h := ie h q20
            refine lv_iconst (v := 0) hx hb d_Model_letter_63 (by decide) ?_
            exact J64 0 rfl (Option.some.inj h) H locs ls hP hD hS (lv_sub hl [0, 1] rfl)
          · have h := it h q20
            refine lv_iconst (v := 1) hx hb d_Model_letter_59 (by decide) ?_
            refine lv_goto (tgt := 64) hx hb d_Model_letter_60 (by decide) ?_
            exact J64 1 rfl (Option.some.inj h) H locs ls hP hD hS (lv_sub hl [0, 1] rfl)
      have h := hy12
      refine lv_if_lt (tgt := 33) hx hb d_Model_letter_23 (by decide) (fun q10 => ?_) (fun q10 => ?_)
      · have h := it h q10
        refine lv_iconst (v := 1) hx hb d_Model_letter_33 (by decide) ?_
        refine lv_goto (tgt := 38) hx hb d_Model_letter_34 (by decide) ?_
        exact J38 1 rfl (Option.some.inj h) H locs ls hP hD hS (lv_sub hl [0, 1] rfl)
      · have h := ie h q10
        refine lv_iload_n hx hb d_Model_letter_26 rfl (lv_at hl 1 rfl) ?_
        refine lv_sipush (v := 255) hx hb d_Model_letter_27 (by decide) ?_
        refine lv_icmp_le (tgt := 37) hx hb d_Model_letter_30 (by decide) (fun q11 => ?_) (fun q11 => ?_)
        · have h := it h q11
          refine lv_iconst (v := 0) hx hb d_Model_letter_37 (by decide) ?_
          exact J38 0 rfl (Option.some.inj h) H locs ls hP hD hS (lv_sub hl [0, 1] rfl)
        · have h := ie h q11
          refine lv_iconst (v := 1) hx hb d_Model_letter_33 (by decide) ?_
          refine lv_goto (tgt := 38) hx hb d_Model_letter_34 (by decide) ?_
          exact J38 1 rfl (Option.some.inj h) H locs ls hP hD hS (lv_sub hl [0, 1] rfl)
  have h := hy3
  refine lv_icmp_eq (tgt := 13) hx hb d_Model_letter_6 (by decide) (fun q2 => ?_) (fun q2 => ?_)
  · have h := it h q2
    refine lv_iconst (v := 0) hx hb d_Model_letter_13 (by decide) ?_
    exact J14 0 rfl (Option.some.inj h) H locs ls hP hD hS (lv_sub hl [0, 1] rfl)
  · have h := ie h q2
    refine lv_iconst (v := 1) hx hb d_Model_letter_9 (by decide) ?_
    refine lv_goto (tgt := 14) hx hb d_Model_letter_10 (by decide) ?_
    exact J14 1 rfl (Option.some.inj h) H locs ls hP hD hS (lv_sub hl [0, 1] rfl)

theorem kv_Model_75 : zKV "BranchStoreModel" 75 y_Model_blank prog_9_method_7_code 2 none 1 := ⟨k_845, k_847, kp_28, k_8, k_848, by decide +kernel⟩
noncomputable def f_Model_erase (c_thr : Int32) (c_fst : (Nat → Int64)) (c_snd : (Nat → Int64)) (c_many : (Nat → Int32))  : Option (Int32 × (Nat → Int64) × (Nat → Int64) × (Nat → Int32)) :=
(f_Model_blank c_fst c_snd c_many 1500).bind fun r1 =>
some (0, r1.1, r1.2.1, r1.2.2)
set_option maxHeartbeats 8000000 in
set_option maxRecDepth 100000 in
theorem c_Model_erase (l : Launch) (G : zG) (sz : Nat) (a_m a_mfst a_msnd a_mlet a_mmany a_mval a_mord a_mfree a_mcode a_mnext a_mcom a_mmet : Nat) (c_sort : Int32) (c_cnt : Int32) (c_frees : Int32) (c_cur : Int32) (c_thr : Int32) (c_fst : (Nat → Int64)) (c_snd : (Nat → Int64)) (c_let : (Nat → Int32)) (c_many : (Nat → Int32)) (c_val : (Nat → Int64)) (c_ord : (Nat → Int32)) (c_free : (Nat → Int32)) (c_code : (Nat → Int32)) (c_next : (Nat → Int32)) (c_com : (Nat → Int32)) (c_met : (Nat → Int32)) (r0 : (Int32 × (Nat → Int64) × (Nat → Int64) × (Nat → Int32))) (hf : f_Model_erase c_thr c_fst c_snd c_many = some r0) :
    Met l y_Model_erase (Cond.code y_Model_erase prog_9_method_15_code 1 none :: lw_ok) { frames := 1, cells := 0, slots := 0, locals := 21 } (zPc G sz [.ref a_m] (wM G a_m a_mfst a_msnd a_mlet a_mmany a_mval a_mord a_mfree a_mcode a_mnext a_mcom a_mmet c_sort c_cnt c_frees c_cur c_thr c_fst c_snd c_let c_many c_val c_ord c_free c_code c_next c_com c_met))
      ((fun (A : Nat → Prop) => va_Qv (fun (_ : Unit) => True) (fun _ t => zB G A (wM G a_m a_mfst a_msnd a_mlet a_mmany a_mval a_mord a_mfree a_mcode a_mnext a_mcom a_mmet c_sort c_cnt c_frees c_cur r0.1 r0.2.1 r0.2.2.1 c_let r0.2.2.2 c_val c_ord c_free c_code c_next c_com c_met) t) A) (va_A (wM G a_m a_mfst a_msnd a_mlet a_mmany a_mval a_mord a_mfree a_mcode a_mnext a_mcom a_mmet c_sort c_cnt c_frees c_cur c_thr c_fst c_snd c_let c_many c_val c_ord c_free c_code c_next c_com c_met) sz)) 0 0 (va_A (wM G a_m a_mfst a_msnd a_mlet a_mmany a_mval a_mord a_mfree a_mcode a_mnext a_mcom a_mmet c_sort c_cnt c_frees c_cur c_thr c_fst c_snd c_let c_many c_val c_ord c_free c_code c_next c_com c_met) sz) := by
  refine zMet (Qc := fun (A : Nat → Prop) => va_Qv (fun (_ : Unit) => True) (fun _ t => zB G A (wM G a_m a_mfst a_msnd a_mlet a_mmany a_mval a_mord a_mfree a_mcode a_mnext a_mcom a_mmet c_sort c_cnt c_frees c_cur r0.1 r0.2.1 r0.2.2.1 c_let r0.2.2.2 c_val c_ord c_free c_code c_next c_com c_met) t) A) (by decide) (Nat.le_of_ble_eq_true rfl) (fun xp xe xs xm xb xme xc A ls Q H locs C hN hK hP hD hS hA hl hQ => ?_)
  obtain ⟨hx, hb, hr, hts, hown, hlocks, hml, hin⟩ := C
  have hl : lv_has ls 1 [(0, .ref a_m)] := hl
  have h := hf
  unfold f_Model_erase at h
  refine lv_aload_n hx hb d_Model_erase_0 rfl (lv_at hl 0 rfl) ?_
  refine lv_iconst (v := 0) hx hb d_Model_erase_1 (by decide) ?_
  refine va_put (D := G.1) (ci := 6) (v := .int 0) (ty := .int) (C := "BranchStoreModel") (T := F_Model) (N := 16) hx hb hts i_Model t_Model t_Model_ok n_Model hown hK hP hD hS 0 rfl rfl 11 (by decide) (hts _ k_781) (fun _ h9 => h9) rfl (by decide +kernel) rfl rfl (Nat.le_of_ble_eq_true rfl) d_Model_erase_2 (fun H locs hP hD hS => ?_)
  have hP : va_P G.1 classes (wM G a_m a_mfst a_msnd a_mlet a_mmany a_mval a_mord a_mfree a_mcode a_mnext a_mcom a_mmet c_sort c_cnt c_frees c_cur 0 c_fst c_snd c_let c_many c_val c_ord c_free c_code c_next c_com c_met) H := hP
  have hD : va_D A (wM G a_m a_mfst a_msnd a_mlet a_mmany a_mval a_mord a_mfree a_mcode a_mnext a_mcom a_mmet c_sort c_cnt c_frees c_cur 0 c_fst c_snd c_let c_many c_val c_ord c_free c_code c_next c_com c_met) := hD
  refine lv_aload_n hx hb d_Model_erase_5 rfl (lv_at hl 0 rfl) ?_
  refine lv_sipush (v := 1500) hx hb d_Model_erase_6 (by decide) ?_
  obtain ⟨r1, hr1, h⟩ := ob h
  refine zcallv (wr := []) (w2 := fun _ => (wM G a_m a_mfst a_msnd a_mlet a_mmany a_mval a_mord a_mfree a_mcode a_mnext a_mcom a_mmet c_sort c_cnt c_frees c_cur 0 r1.1 r1.2.1 c_let r1.2.2 c_val c_ord c_free c_code c_next c_com c_met)) (zrunV (As := [.int 1500]) (rest := []) ⟨hx, hb, hml, hown, hts⟩ hN hK (c_Model_blank l G H.size a_m a_mfst a_msnd a_mlet a_mmany a_mval a_mord a_mfree a_mcode a_mnext a_mcom a_mmet c_sort c_cnt c_frees c_cur 0 c_fst c_snd c_let c_many c_val c_ord c_free c_code c_next c_com c_met 1500 r1 hr1) ⟨rfl, rfl⟩ kv_Model_75 ⟨Nat.le_of_ble_eq_true rfl, Nat.le_of_ble_eq_true rfl⟩ 0 rfl rfl rfl hl.1 (Nat.le_of_ble_eq_true rfl) d_Model_erase_9 ⟨Nat.le_of_ble_eq_true rfl, Nat.le_of_ble_eq_true rfl⟩) hP hD hS hA [0, 1, 2, 3, 4, 5, 6, 7, 8, 9, 10, 11] [] [0, 1, 2, 3, 4, 5, 6, 7, 8, 9, 10, 11] rfl rfl rfl rfl (by decide) rfl (fun _ => rfl) (fun _ H locs _ hP hD hS => ?_)
  obtain rfl := Option.some.inj h
  exact zretv () hQ hS.2.2 hx hb hr hlocks hP hD hS trivial (Nat.le_refl _) (Nat.le_refl _) d_Model_erase_12

noncomputable def f_Model_keep (c_thr : Int32) (c_fst : (Nat → Int64)) (c_snd : (Nat → Int64)) (c_let : (Nat → Int32)) (c_many : (Nat → Int32))  : Option (Int32 × (Nat → Int64) × (Nat → Int64) × (Nat → Int32) × (Nat → Int32)) :=
(f_Model_copy c_fst c_snd c_let c_many 1501 1500).bind fun r1 =>
some (0, r1.1, r1.2.1, r1.2.2.1, r1.2.2.2)
set_option maxHeartbeats 8000000 in
set_option maxRecDepth 100000 in
theorem c_Model_keep (l : Launch) (G : zG) (sz : Nat) (a_m a_mfst a_msnd a_mlet a_mmany a_mval a_mord a_mfree a_mcode a_mnext a_mcom a_mmet : Nat) (c_sort : Int32) (c_cnt : Int32) (c_frees : Int32) (c_cur : Int32) (c_thr : Int32) (c_fst : (Nat → Int64)) (c_snd : (Nat → Int64)) (c_let : (Nat → Int32)) (c_many : (Nat → Int32)) (c_val : (Nat → Int64)) (c_ord : (Nat → Int32)) (c_free : (Nat → Int32)) (c_code : (Nat → Int32)) (c_next : (Nat → Int32)) (c_com : (Nat → Int32)) (c_met : (Nat → Int32)) (r0 : (Int32 × (Nat → Int64) × (Nat → Int64) × (Nat → Int32) × (Nat → Int32))) (hf : f_Model_keep c_thr c_fst c_snd c_let c_many = some r0) :
    Met l y_Model_keep (Cond.code y_Model_keep prog_9_method_16_code 1 none :: lw_ok) { frames := 1, cells := 0, slots := 0, locals := 23 } (zPc G sz [.ref a_m] (wM G a_m a_mfst a_msnd a_mlet a_mmany a_mval a_mord a_mfree a_mcode a_mnext a_mcom a_mmet c_sort c_cnt c_frees c_cur c_thr c_fst c_snd c_let c_many c_val c_ord c_free c_code c_next c_com c_met))
      ((fun (A : Nat → Prop) => va_Qv (fun (_ : Unit) => True) (fun _ t => zB G A (wM G a_m a_mfst a_msnd a_mlet a_mmany a_mval a_mord a_mfree a_mcode a_mnext a_mcom a_mmet c_sort c_cnt c_frees c_cur r0.1 r0.2.1 r0.2.2.1 r0.2.2.2.1 r0.2.2.2.2 c_val c_ord c_free c_code c_next c_com c_met) t) A) (va_A (wM G a_m a_mfst a_msnd a_mlet a_mmany a_mval a_mord a_mfree a_mcode a_mnext a_mcom a_mmet c_sort c_cnt c_frees c_cur c_thr c_fst c_snd c_let c_many c_val c_ord c_free c_code c_next c_com c_met) sz)) 0 0 (va_A (wM G a_m a_mfst a_msnd a_mlet a_mmany a_mval a_mord a_mfree a_mcode a_mnext a_mcom a_mmet c_sort c_cnt c_frees c_cur c_thr c_fst c_snd c_let c_many c_val c_ord c_free c_code c_next c_com c_met) sz) := by
  refine zMet (Qc := fun (A : Nat → Prop) => va_Qv (fun (_ : Unit) => True) (fun _ t => zB G A (wM G a_m a_mfst a_msnd a_mlet a_mmany a_mval a_mord a_mfree a_mcode a_mnext a_mcom a_mmet c_sort c_cnt c_frees c_cur r0.1 r0.2.1 r0.2.2.1 r0.2.2.2.1 r0.2.2.2.2 c_val c_ord c_free c_code c_next c_com c_met) t) A) (by decide) (Nat.le_of_ble_eq_true rfl) (fun xp xe xs xm xb xme xc A ls Q H locs C hN hK hP hD hS hA hl hQ => ?_)
  obtain ⟨hx, hb, hr, hts, hown, hlocks, hml, hin⟩ := C
  have hl : lv_has ls 1 [(0, .ref a_m)] := hl
  have h := hf
  unfold f_Model_keep at h
  refine lv_aload_n hx hb d_Model_keep_0 rfl (lv_at hl 0 rfl) ?_
  refine lv_iconst (v := 0) hx hb d_Model_keep_1 (by decide) ?_
  refine va_put (D := G.1) (ci := 6) (v := .int 0) (ty := .int) (C := "BranchStoreModel") (T := F_Model) (N := 16) hx hb hts i_Model t_Model t_Model_ok n_Model hown hK hP hD hS 0 rfl rfl 11 (by decide) (hts _ k_781) (fun _ h9 => h9) rfl (by decide +kernel) rfl rfl (Nat.le_of_ble_eq_true rfl) d_Model_keep_2 (fun H locs hP hD hS => ?_)
  have hP : va_P G.1 classes (wM G a_m a_mfst a_msnd a_mlet a_mmany a_mval a_mord a_mfree a_mcode a_mnext a_mcom a_mmet c_sort c_cnt c_frees c_cur 0 c_fst c_snd c_let c_many c_val c_ord c_free c_code c_next c_com c_met) H := hP
  have hD : va_D A (wM G a_m a_mfst a_msnd a_mlet a_mmany a_mval a_mord a_mfree a_mcode a_mnext a_mcom a_mmet c_sort c_cnt c_frees c_cur 0 c_fst c_snd c_let c_many c_val c_ord c_free c_code c_next c_com c_met) := hD
  refine lv_aload_n hx hb d_Model_keep_5 rfl (lv_at hl 0 rfl) ?_
  refine lv_sipush (v := 1501) hx hb d_Model_keep_6 (by decide) ?_
  refine lv_sipush (v := 1500) hx hb d_Model_keep_9 (by decide) ?_
  obtain ⟨r1, hr1, h⟩ := ob h
  refine zcallv (wr := []) (w2 := fun _ => (wM G a_m a_mfst a_msnd a_mlet a_mmany a_mval a_mord a_mfree a_mcode a_mnext a_mcom a_mmet c_sort c_cnt c_frees c_cur 0 r1.1 r1.2.1 r1.2.2.1 r1.2.2.2 c_val c_ord c_free c_code c_next c_com c_met)) (zrunV (As := [.int 1501, .int 1500]) (rest := []) ⟨hx, hb, hml, hown, hts⟩ hN hK (c_Model_copy l G H.size a_m a_mfst a_msnd a_mlet a_mmany a_mval a_mord a_mfree a_mcode a_mnext a_mcom a_mmet c_sort c_cnt c_frees c_cur 0 c_fst c_snd c_let c_many c_val c_ord c_free c_code c_next c_com c_met 1501 1500 r1 hr1) ⟨rfl, rfl⟩ kv_Model_66 ⟨Nat.le_of_ble_eq_true rfl, Nat.le_of_ble_eq_true rfl⟩ 0 rfl rfl rfl hl.1 (Nat.le_of_ble_eq_true rfl) d_Model_keep_12 ⟨Nat.le_of_ble_eq_true rfl, Nat.le_of_ble_eq_true rfl⟩) hP hD hS hA [0, 1, 2, 3, 4, 5, 6, 7, 8, 9, 10, 11] [] [0, 1, 2, 3, 4, 5, 6, 7, 8, 9, 10, 11] rfl rfl rfl rfl (by decide) rfl (fun _ => rfl) (fun _ H locs _ hP hD hS => ?_)
  obtain rfl := Option.some.inj h
  exact zretv () hQ hS.2.2 hx hb hr hlocks hP hD hS trivial (Nat.le_refl _) (Nat.le_refl _) d_Model_keep_15

noncomputable def f_Model_take (c_cur : Int32) (c_thr : Int32) (c_fst : (Nat → Int64)) (c_snd : (Nat → Int64)) (c_let : (Nat → Int32)) (c_many : (Nat → Int32))  : Option (Int32 × (Nat → Int64) × (Nat → Int64) × (Nat → Int32) × (Nat → Int32)) :=
(if c_cur = 0 then
(some 1)
else
(some 0)).bind fun y4 =>
(f_Model_fails c_thr y4 1).bind fun r6 =>
if r6.1 = 0 then
((f_Model_copy c_fst c_snd c_let c_many 1500 1502).bind fun r9 =>
some (r6.2, r9.1, r9.2.1, r9.2.2.1, r9.2.2.2))
else
(some (r6.2, c_fst, c_snd, c_let, c_many))
set_option maxHeartbeats 8000000 in
set_option maxRecDepth 100000 in
theorem c_Model_take (l : Launch) (G : zG) (sz : Nat) (a_m a_mfst a_msnd a_mlet a_mmany a_mval a_mord a_mfree a_mcode a_mnext a_mcom a_mmet : Nat) (c_sort : Int32) (c_cnt : Int32) (c_frees : Int32) (c_cur : Int32) (c_thr : Int32) (c_fst : (Nat → Int64)) (c_snd : (Nat → Int64)) (c_let : (Nat → Int32)) (c_many : (Nat → Int32)) (c_val : (Nat → Int64)) (c_ord : (Nat → Int32)) (c_free : (Nat → Int32)) (c_code : (Nat → Int32)) (c_next : (Nat → Int32)) (c_com : (Nat → Int32)) (c_met : (Nat → Int32)) (r0 : (Int32 × (Nat → Int64) × (Nat → Int64) × (Nat → Int32) × (Nat → Int32))) (hf : f_Model_take c_cur c_thr c_fst c_snd c_let c_many = some r0) :
    Met l y_Model_take (Cond.code y_Model_take prog_9_method_17_code 1 none :: lw_ok) { frames := 1, cells := 0, slots := 0, locals := 23 } (zPc G sz [.ref a_m] (wM G a_m a_mfst a_msnd a_mlet a_mmany a_mval a_mord a_mfree a_mcode a_mnext a_mcom a_mmet c_sort c_cnt c_frees c_cur c_thr c_fst c_snd c_let c_many c_val c_ord c_free c_code c_next c_com c_met))
      ((fun (A : Nat → Prop) => va_Qv (fun (_ : Unit) => True) (fun _ t => zB G A (wM G a_m a_mfst a_msnd a_mlet a_mmany a_mval a_mord a_mfree a_mcode a_mnext a_mcom a_mmet c_sort c_cnt c_frees c_cur r0.1 r0.2.1 r0.2.2.1 r0.2.2.2.1 r0.2.2.2.2 c_val c_ord c_free c_code c_next c_com c_met) t) A) (va_A (wM G a_m a_mfst a_msnd a_mlet a_mmany a_mval a_mord a_mfree a_mcode a_mnext a_mcom a_mmet c_sort c_cnt c_frees c_cur c_thr c_fst c_snd c_let c_many c_val c_ord c_free c_code c_next c_com c_met) sz)) 0 0 (va_A (wM G a_m a_mfst a_msnd a_mlet a_mmany a_mval a_mord a_mfree a_mcode a_mnext a_mcom a_mmet c_sort c_cnt c_frees c_cur c_thr c_fst c_snd c_let c_many c_val c_ord c_free c_code c_next c_com c_met) sz) := by
  refine zMet (Qc := fun (A : Nat → Prop) => va_Qv (fun (_ : Unit) => True) (fun _ t => zB G A (wM G a_m a_mfst a_msnd a_mlet a_mmany a_mval a_mord a_mfree a_mcode a_mnext a_mcom a_mmet c_sort c_cnt c_frees c_cur r0.1 r0.2.1 r0.2.2.1 r0.2.2.2.1 r0.2.2.2.2 c_val c_ord c_free c_code c_next c_com c_met) t) A) (by decide) (Nat.le_of_ble_eq_true rfl) (fun xp xe xs xm xb xme xc A ls Q H locs C hN hK hP hD hS hA hl hQ => ?_)
  obtain ⟨hx, hb, hr, hts, hown, hlocks, hml, hin⟩ := C
  have hl : lv_has ls 1 [(0, .ref a_m)] := hl
  have h := hf
  unfold f_Model_take at h
  refine lv_aload_n hx hb d_Model_take_0 rfl (lv_at hl 0 rfl) ?_
  refine lv_aload_n hx hb d_Model_take_1 rfl (lv_at hl 0 rfl) ?_
  refine va_get (D := G.1) (ci := 6) (v := .int c_cur) (C := "BranchStoreModel") (T := F_Model) (N := 16) hx hb hts i_Model hown hK hP 0 rfl rfl 10 (by decide) (hts _ k_780) (fun _ h9 => h9) rfl d_Model_take_2 ?_
  obtain ⟨y3, hy3, h⟩ := ob h
  have J13 : ∀ (z5 : Int32), narrow .boolean (.int z5) = .int z5 → z5 = y3 → ∀ (H : Heap) (locs : List Loc) (ls : Array Slot), va_P G.1 classes (wM G a_m a_mfst a_msnd a_mlet a_mmany a_mval a_mord a_mfree a_mcode a_mnext a_mcom a_mmet c_sort c_cnt c_frees c_cur c_thr c_fst c_snd c_let c_many c_val c_ord c_free c_code c_next c_com c_met) H → va_D A (wM G a_m a_mfst a_msnd a_mlet a_mmany a_mval a_mord a_mfree a_mcode a_mnext a_mcom a_mmet c_sort c_cnt c_frees c_cur c_thr c_fst c_snd c_let c_many c_val c_ord c_free c_code c_next c_com c_met) → va_S A xs.heap H locs → lv_has ls 1 [(0, .ref a_m)] → W xp l xe { frames := 1, cells := 0, slots := 0, locals := 23 } xs xm ([.ref a_m] : List Value).toArray xb xme xc H locs 0 0 Q (F0 xm 13 ls [.int z5, .ref a_m]) := by
    intro z5 hzz5 ey H locs ls hP hD hS hl
    subst ey
    try dsimp only at h
    refine lv_iconst (v := 1) hx hb d_Model_take_13 (by decide) ?_
    obtain ⟨r6, hr6, h⟩ := ob h
    refine zcalli (wr := []) (w2 := fun _ => (wM G a_m a_mfst a_msnd a_mlet a_mmany a_mval a_mord a_mfree a_mcode a_mnext a_mcom a_mmet c_sort c_cnt c_frees c_cur r6.2 c_fst c_snd c_let c_many c_val c_ord c_free c_code c_next c_com c_met)) (zrunV (As := [.int z5, .int 1]) (rest := []) ⟨hx, hb, hml, hown, hts⟩ hN hK (c_Model_fails l G H.size a_m a_mfst a_msnd a_mlet a_mmany a_mval a_mord a_mfree a_mcode a_mnext a_mcom a_mmet c_sort c_cnt c_frees c_cur c_thr c_fst c_snd c_let c_many c_val c_ord c_free c_code c_next c_com c_met z5 1 hzz5 r6 hr6) ⟨rfl, rfl⟩ kv_Model_70 ⟨Nat.le_of_ble_eq_true rfl, Nat.le_of_ble_eq_true rfl⟩ 0 rfl rfl rfl hl.1 (Nat.le_of_ble_eq_true rfl) d_Model_take_14 ⟨Nat.le_of_ble_eq_true rfl, Nat.le_of_ble_eq_true rfl⟩) hP hD hS hA [0, 1, 2, 3, 4, 5, 6, 7, 8, 9, 10, 11] [] [0, 1, 2, 3, 4, 5, 6, 7, 8, 9, 10, 11] rfl rfl rfl rfl (by decide) rfl (fun _ => rfl) (fun rr _ H locs hw hP hD hS => ?_)
    obtain ⟨hw, hz7⟩ := hw
    have hw := hw.symm
    subst hw
    refine lv_if_eq (tgt := 21) hx hb d_Model_take_17 (by decide) (fun q8 => ?_) (fun q8 => ?_)
    · have h := it h q8
      refine lv_aload_n hx hb d_Model_take_21 rfl (lv_at hl 0 rfl) ?_
      refine lv_sipush (v := 1500) hx hb d_Model_take_22 (by decide) ?_
      refine lv_sipush (v := 1502) hx hb d_Model_take_25 (by decide) ?_
      obtain ⟨r9, hr9, h⟩ := ob h
      refine zcallv (wr := []) (w2 := fun _ => (wM G a_m a_mfst a_msnd a_mlet a_mmany a_mval a_mord a_mfree a_mcode a_mnext a_mcom a_mmet c_sort c_cnt c_frees c_cur r6.2 r9.1 r9.2.1 r9.2.2.1 r9.2.2.2 c_val c_ord c_free c_code c_next c_com c_met)) (zrunV (As := [.int 1500, .int 1502]) (rest := []) ⟨hx, hb, hml, hown, hts⟩ hN hK (c_Model_copy l G H.size a_m a_mfst a_msnd a_mlet a_mmany a_mval a_mord a_mfree a_mcode a_mnext a_mcom a_mmet c_sort c_cnt c_frees c_cur r6.2 c_fst c_snd c_let c_many c_val c_ord c_free c_code c_next c_com c_met 1500 1502 r9 hr9) ⟨rfl, rfl⟩ kv_Model_66 ⟨Nat.le_of_ble_eq_true rfl, Nat.le_of_ble_eq_true rfl⟩ 0 rfl rfl rfl hl.1 (Nat.le_of_ble_eq_true rfl) d_Model_take_28 ⟨Nat.le_of_ble_eq_true rfl, Nat.le_of_ble_eq_true rfl⟩) hP hD hS hA [0, 1, 2, 3, 4, 5, 6, 7, 8, 9, 10, 11] [] [0, 1, 2, 3, 4, 5, 6, 7, 8, 9, 10, 11] rfl rfl rfl rfl (by decide) rfl (fun _ => rfl) (fun _ H locs _ hP hD hS => ?_)
      obtain rfl := Option.some.inj h
      exact zretv () hQ hS.2.2 hx hb hr hlocks hP hD hS trivial (Nat.le_refl _) (Nat.le_refl _) d_Model_take_31
    · have h := ie h q8
      obtain rfl := Option.some.inj h
      exact zretv () hQ hS.2.2 hx hb hr hlocks hP hD hS trivial (Nat.le_refl _) (Nat.le_refl _) d_Model_take_20
  have h := hy3
  refine lv_if_ne (tgt := 12) hx hb d_Model_take_5 (by decide) (fun q2 => ?_) (fun q2 => ?_)
  · have h := ie h q2
    refine lv_iconst (v := 0) hx hb d_Model_take_12 (by decide) ?_
    exact J13 0 rfl (Option.some.inj h) H locs ls hP hD hS (lv_sub hl [0] rfl)
  · have h := it h q2
    refine lv_iconst (v := 1) hx hb d_Model_take_8 (by decide) ?_
    refine lv_goto (tgt := 13) hx hb d_Model_take_9 (by decide) ?_
    exact J13 1 rfl (Option.some.inj h) H locs ls hP hD hS (lv_sub hl [0] rfl)

theorem kv_Model_83 : zKV "BranchStoreModel" 83 y_Model_below prog_9_method_8_code 5 (some .int) 1 := ⟨k_865, k_867, kp_30, k_8, k_868, by decide +kernel⟩
theorem kv_Model_87 : zKV "BranchStoreModel" 87 y_Model_isAt prog_9_method_9_code 3 (some .boolean) 2 := ⟨k_876, k_878, kp_32, k_8, k_879, by decide +kernel⟩
theorem kv_Model_91 : zKV "BranchStoreModel" 91 y_Model_insert prog_9_method_10_code 6 none 3 := ⟨k_880, k_882, kp_33, k_8, k_883, by decide +kernel⟩
noncomputable def f_Model_put (c_sort : Int32) (c_cnt : Int32) (c_frees : Int32) (c_thr : Int32) (c_fst : (Nat → Int64)) (c_snd : (Nat → Int64)) (c_let : (Nat → Int32)) (c_many : (Nat → Int32)) (c_val : (Nat → Int64)) (c_ord : (Nat → Int32)) (c_free : (Nat → Int32)) (p_1 : Int64) : Option (Int32 × Int32 × Int32 × Int32 × (Nat → Int64) × (Nat → Int64) × (Nat → Int32) × (Nat → Int32) × (Nat → Int64) × (Nat → Int32)) :=
(f_Model_below c_sort c_cnt c_fst c_snd c_let c_many c_ord 1500).bind fun r1 =>
(f_Model_isAt c_sort c_cnt c_fst c_snd c_let c_many c_ord r1 1500).bind fun r2 =>
(if r2 = 0 then
(if c_cnt = 1500 then
(some 1)
else
(some 0))
else
(some 0)).bind fun y8 =>
(f_Model_fails c_thr y8 1).bind fun r10 =>
if r10.1 = 0 then
(if r2 = 0 then
((f_Model_insert c_cnt c_frees c_fst c_snd c_let c_many c_val c_ord c_free r1 1500 p_1).bind fun r14 =>
some (1, r14.1, r14.2.1, r10.2, r14.2.2.1, r14.2.2.2.1, r14.2.2.2.2.1, r14.2.2.2.2.2.1, r14.2.2.2.2.2.2.1, r14.2.2.2.2.2.2.2))
else
(gi r1 1500 <|
gi (c_ord r1.toNatClampNeg) 1500 <|
nm (vp_updL c_val (c_ord r1.toNatClampNeg).toNatClampNeg p_1) fun c18 =>
some (0, c_cnt, c_frees, r10.2, c_fst, c_snd, c_let, c_many, c18, c_ord)))
else
(some (0, c_cnt, c_frees, r10.2, c_fst, c_snd, c_let, c_many, c_val, c_ord))
set_option maxHeartbeats 8000000 in
set_option maxRecDepth 100000 in
theorem c_Model_put (l : Launch) (G : zG) (sz : Nat) (a_m a_mfst a_msnd a_mlet a_mmany a_mval a_mord a_mfree a_mcode a_mnext a_mcom a_mmet : Nat) (c_sort : Int32) (c_cnt : Int32) (c_frees : Int32) (c_cur : Int32) (c_thr : Int32) (c_fst : (Nat → Int64)) (c_snd : (Nat → Int64)) (c_let : (Nat → Int32)) (c_many : (Nat → Int32)) (c_val : (Nat → Int64)) (c_ord : (Nat → Int32)) (c_free : (Nat → Int32)) (c_code : (Nat → Int32)) (c_next : (Nat → Int32)) (c_com : (Nat → Int32)) (c_met : (Nat → Int32)) (p_1 : Int64) (r0 : (Int32 × Int32 × Int32 × Int32 × (Nat → Int64) × (Nat → Int64) × (Nat → Int32) × (Nat → Int32) × (Nat → Int64) × (Nat → Int32))) (hf : f_Model_put c_sort c_cnt c_frees c_thr c_fst c_snd c_let c_many c_val c_ord c_free p_1 = some r0) :
    Met l y_Model_put (Cond.code y_Model_put prog_9_method_18_code 5 (some .boolean) :: lw_ok) { frames := 3, cells := 0, slots := 0, locals := 72 } (zPc G sz [.ref a_m, .long p_1] (wM G a_m a_mfst a_msnd a_mlet a_mmany a_mval a_mord a_mfree a_mcode a_mnext a_mcom a_mmet c_sort c_cnt c_frees c_cur c_thr c_fst c_snd c_let c_many c_val c_ord c_free c_code c_next c_com c_met))
      ((fun (A : Nat → Prop) => va_Qi (fun (r : Int32) (_ : Unit) => r = r0.1 ∧ narrow .boolean (.int r) = .int r) (fun _ t => zB G A (wM G a_m a_mfst a_msnd a_mlet a_mmany a_mval a_mord a_mfree a_mcode a_mnext a_mcom a_mmet c_sort r0.2.1 r0.2.2.1 c_cur r0.2.2.2.1 r0.2.2.2.2.1 r0.2.2.2.2.2.1 r0.2.2.2.2.2.2.1 r0.2.2.2.2.2.2.2.1 r0.2.2.2.2.2.2.2.2.1 r0.2.2.2.2.2.2.2.2.2 c_free c_code c_next c_com c_met) t) A) (va_A (wM G a_m a_mfst a_msnd a_mlet a_mmany a_mval a_mord a_mfree a_mcode a_mnext a_mcom a_mmet c_sort c_cnt c_frees c_cur c_thr c_fst c_snd c_let c_many c_val c_ord c_free c_code c_next c_com c_met) sz)) 0 0 (va_A (wM G a_m a_mfst a_msnd a_mlet a_mmany a_mval a_mord a_mfree a_mcode a_mnext a_mcom a_mmet c_sort c_cnt c_frees c_cur c_thr c_fst c_snd c_let c_many c_val c_ord c_free c_code c_next c_com c_met) sz) := by
  refine zMet (Qc := fun (A : Nat → Prop) => va_Qi (fun (r : Int32) (_ : Unit) => r = r0.1 ∧ narrow .boolean (.int r) = .int r) (fun _ t => zB G A (wM G a_m a_mfst a_msnd a_mlet a_mmany a_mval a_mord a_mfree a_mcode a_mnext a_mcom a_mmet c_sort r0.2.1 r0.2.2.1 c_cur r0.2.2.2.1 r0.2.2.2.2.1 r0.2.2.2.2.2.1 r0.2.2.2.2.2.2.1 r0.2.2.2.2.2.2.2.1 r0.2.2.2.2.2.2.2.2.1 r0.2.2.2.2.2.2.2.2.2 c_free c_code c_next c_com c_met) t) A) (by decide) (Nat.le_of_ble_eq_true rfl) (fun xp xe xs xm xb xme xc A ls Q H locs C hN hK hP hD hS hA hl hQ => ?_)
  obtain ⟨hx, hb, hr, hts, hown, hlocks, hml, hin⟩ := C
  have hl : lv_has ls 5 [(0, .ref a_m), (1, .long p_1)] := hl
  have h := hf
  unfold f_Model_put at h
  refine lv_aload_n hx hb d_Model_put_0 rfl (lv_at hl 0 rfl) ?_
  refine lv_sipush (v := 1500) hx hb d_Model_put_1 (by decide) ?_
  obtain ⟨r1, hr1, h⟩ := ob h
  refine zpcalli (wr := []) (w2 := fun _ => (wM G a_m a_mfst a_msnd a_mlet a_mmany a_mval a_mord a_mfree a_mcode a_mnext a_mcom a_mmet c_sort c_cnt c_frees c_cur c_thr c_fst c_snd c_let c_many c_val c_ord c_free c_code c_next c_com c_met)) (zrunV (As := [.int 1500]) (rest := []) ⟨hx, hb, hml, hown, hts⟩ hN hK (c_Model_below l G H.size a_m a_mfst a_msnd a_mlet a_mmany a_mval a_mord a_mfree a_mcode a_mnext a_mcom a_mmet c_sort c_cnt c_frees c_cur c_thr c_fst c_snd c_let c_many c_val c_ord c_free c_code c_next c_com c_met 1500 r1 hr1) ⟨rfl, rfl⟩ kv_Model_83 ⟨Nat.le_of_ble_eq_true rfl, Nat.le_of_ble_eq_true rfl⟩ 0 rfl rfl rfl hl.1 (Nat.le_of_ble_eq_true rfl) d_Model_put_4 ⟨Nat.le_of_ble_eq_true rfl, Nat.le_of_ble_eq_true rfl⟩) hP hD hS hA [0, 1, 2, 3, 4, 5, 6, 7, 8, 9, 10, 11] [] [0, 1, 2, 3, 4, 5, 6, 7, 8, 9, 10, 11] rfl rfl rfl rfl (by decide) rfl (fun _ => rfl) (fun rr _ H hw hP hD hS => ?_)
  have hw := hw.symm
  subst hw
  refine lv_istore_n (lv' := [(3, .int r1), (0, .ref a_m), (1, .long p_1)]) hx hb d_Model_put_7 rfl hl (by decide) rfl (fun ls hl => ?_)
  refine lv_aload_n hx hb d_Model_put_8 rfl (lv_at hl 1 rfl) ?_
  refine lv_iload_n hx hb d_Model_put_9 rfl (lv_at hl 0 rfl) ?_
  refine lv_sipush (v := 1500) hx hb d_Model_put_10 (by decide) ?_
  obtain ⟨r2, hr2, h⟩ := ob h
  refine zpcalli (wr := []) (w2 := fun _ => (wM G a_m a_mfst a_msnd a_mlet a_mmany a_mval a_mord a_mfree a_mcode a_mnext a_mcom a_mmet c_sort c_cnt c_frees c_cur c_thr c_fst c_snd c_let c_many c_val c_ord c_free c_code c_next c_com c_met)) (zrunV (As := [.int r1, .int 1500]) (rest := []) ⟨hx, hb, hml, hown, hts⟩ hN hK (c_Model_isAt l G H.size a_m a_mfst a_msnd a_mlet a_mmany a_mval a_mord a_mfree a_mcode a_mnext a_mcom a_mmet c_sort c_cnt c_frees c_cur c_thr c_fst c_snd c_let c_many c_val c_ord c_free c_code c_next c_com c_met r1 1500 r2 hr2) ⟨rfl, rfl⟩ kv_Model_87 ⟨Nat.le_of_ble_eq_true rfl, Nat.le_of_ble_eq_true rfl⟩ 0 rfl rfl rfl hl.1 (Nat.le_of_ble_eq_true rfl) d_Model_put_13 ⟨Nat.le_of_ble_eq_true rfl, Nat.le_of_ble_eq_true rfl⟩) hP hD hS hA [0, 1, 2, 3, 4, 5, 6, 7, 8, 9, 10, 11] [] [0, 1, 2, 3, 4, 5, 6, 7, 8, 9, 10, 11] rfl rfl rfl rfl (by decide) rfl (fun _ => rfl) (fun rr _ H hw hP hD hS => ?_)
  obtain ⟨hw, hz3⟩ := hw
  have hw := hw.symm
  subst hw
  refine lv_istore (lv' := [(4, .int r2), (3, .int r1), (0, .ref a_m), (1, .long p_1)]) hx hb d_Model_put_16 hl (by decide) rfl (fun ls hl => ?_)
  refine lv_aload_n hx hb d_Model_put_18 rfl (lv_at hl 2 rfl) ?_
  refine lv_iload hx hb d_Model_put_19 (lv_at hl 0 rfl) ?_
  obtain ⟨y7, hy7, h⟩ := ob h
  have J39 : ∀ (z9 : Int32), narrow .boolean (.int z9) = .int z9 → z9 = y7 → ∀ (H : Heap) (locs : List Loc) (ls : Array Slot), va_P G.1 classes (wM G a_m a_mfst a_msnd a_mlet a_mmany a_mval a_mord a_mfree a_mcode a_mnext a_mcom a_mmet c_sort c_cnt c_frees c_cur c_thr c_fst c_snd c_let c_many c_val c_ord c_free c_code c_next c_com c_met) H → va_D A (wM G a_m a_mfst a_msnd a_mlet a_mmany a_mval a_mord a_mfree a_mcode a_mnext a_mcom a_mmet c_sort c_cnt c_frees c_cur c_thr c_fst c_snd c_let c_many c_val c_ord c_free c_code c_next c_com c_met) → va_S A xs.heap H locs → lv_has ls 5 [(0, .ref a_m), (1, .long p_1), (3, .int r1), (4, .int r2)] → W xp l xe { frames := 3, cells := 0, slots := 0, locals := 72 } xs xm ([.ref a_m, .long p_1] : List Value).toArray xb xme xc H locs 0 0 Q (F0 xm 39 ls [.int z9, .ref a_m]) := by
    intro z9 hzz9 ey H locs ls hP hD hS hl
    subst ey
    try dsimp only at h
    refine lv_iconst (v := 1) hx hb d_Model_put_39 (by decide) ?_
    obtain ⟨r10, hr10, h⟩ := ob h
    refine zcalli (wr := []) (w2 := fun _ => (wM G a_m a_mfst a_msnd a_mlet a_mmany a_mval a_mord a_mfree a_mcode a_mnext a_mcom a_mmet c_sort c_cnt c_frees c_cur r10.2 c_fst c_snd c_let c_many c_val c_ord c_free c_code c_next c_com c_met)) (zrunV (As := [.int z9, .int 1]) (rest := []) ⟨hx, hb, hml, hown, hts⟩ hN hK (c_Model_fails l G H.size a_m a_mfst a_msnd a_mlet a_mmany a_mval a_mord a_mfree a_mcode a_mnext a_mcom a_mmet c_sort c_cnt c_frees c_cur c_thr c_fst c_snd c_let c_many c_val c_ord c_free c_code c_next c_com c_met z9 1 hzz9 r10 hr10) ⟨rfl, rfl⟩ kv_Model_70 ⟨Nat.le_of_ble_eq_true rfl, Nat.le_of_ble_eq_true rfl⟩ 0 rfl rfl rfl hl.1 (Nat.le_of_ble_eq_true rfl) d_Model_put_40 ⟨Nat.le_of_ble_eq_true rfl, Nat.le_of_ble_eq_true rfl⟩) hP hD hS hA [0, 1, 2, 3, 4, 5, 6, 7, 8, 9, 10, 11] [] [0, 1, 2, 3, 4, 5, 6, 7, 8, 9, 10, 11] rfl rfl rfl rfl (by decide) rfl (fun _ => rfl) (fun rr _ H locs hw hP hD hS => ?_)
    obtain ⟨hw, hz11⟩ := hw
    have hw := hw.symm
    subst hw
    refine lv_if_eq (tgt := 48) hx hb d_Model_put_43 (by decide) (fun q12 => ?_) (fun q12 => ?_)
    · have h := it h q12
      refine lv_iload hx hb d_Model_put_48 (lv_at hl 3 rfl) ?_
      refine lv_if_eq (tgt := 68) hx hb d_Model_put_50 (by decide) (fun q13 => ?_) (fun q13 => ?_)
      · have h := it h q13
        refine lv_aload_n hx hb d_Model_put_68 rfl (lv_at hl 0 rfl) ?_
        refine lv_iload_n hx hb d_Model_put_69 rfl (lv_at hl 2 rfl) ?_
        refine lv_sipush (v := 1500) hx hb d_Model_put_70 (by decide) ?_
        refine lv_lload_n hx hb d_Model_put_73 rfl (lv_at hl 1 rfl) ?_
        obtain ⟨r14, hr14, h⟩ := ob h
        refine zcallv (wr := []) (w2 := fun _ => (wM G a_m a_mfst a_msnd a_mlet a_mmany a_mval a_mord a_mfree a_mcode a_mnext a_mcom a_mmet c_sort r14.1 r14.2.1 c_cur r10.2 r14.2.2.1 r14.2.2.2.1 r14.2.2.2.2.1 r14.2.2.2.2.2.1 r14.2.2.2.2.2.2.1 r14.2.2.2.2.2.2.2 c_free c_code c_next c_com c_met)) (zrunV (As := [.int r1, .int 1500, .long p_1]) (rest := []) ⟨hx, hb, hml, hown, hts⟩ hN hK (c_Model_insert l G H.size a_m a_mfst a_msnd a_mlet a_mmany a_mval a_mord a_mfree a_mcode a_mnext a_mcom a_mmet c_sort c_cnt c_frees c_cur r10.2 c_fst c_snd c_let c_many c_val c_ord c_free c_code c_next c_com c_met r1 1500 p_1 r14 hr14) ⟨rfl, rfl⟩ kv_Model_91 ⟨Nat.le_of_ble_eq_true rfl, Nat.le_of_ble_eq_true rfl⟩ 0 rfl rfl rfl hl.1 (Nat.le_of_ble_eq_true rfl) d_Model_put_74 ⟨Nat.le_of_ble_eq_true rfl, Nat.le_of_ble_eq_true rfl⟩) hP hD hS hA [0, 1, 2, 3, 4, 5, 6, 7, 8, 9, 10, 11] [] [0, 1, 2, 3, 4, 5, 6, 7, 8, 9, 10, 11] rfl rfl rfl rfl (by decide) rfl (fun _ => rfl) (fun _ H locs _ hP hD hS => ?_)
        refine lv_iload hx hb d_Model_put_77 (lv_at hl 3 rfl) ?_
        refine lv_if_ne (tgt := 86) hx hb d_Model_put_79 (by decide) (fun q15 => absurd q13 q15) (fun _ => ?_)
        refine lv_iconst (v := 1) hx hb d_Model_put_82 (by decide) ?_
        refine lv_goto (tgt := 87) hx hb d_Model_put_83 (by decide) ?_
        obtain rfl := Option.some.inj h
        exact zretz () hQ hS.2.2 hx hb hr hlocks hP hD hS ⟨rfl, rfl⟩ (Nat.le_refl _) (Nat.le_refl _) d_Model_put_87 rfl
      · have h := ie h q13
        refine lv_aload_n hx hb d_Model_put_53 rfl (lv_at hl 0 rfl) ?_
        refine va_get (D := G.1) (ci := 6) (v := .ref a_mval) (C := "BranchStoreModel") (T := F_Model) (N := 16) hx hb hts i_Model hown hK hP 0 rfl rfl 5 (by decide) (hts _ k_775) (fun _ h9 => h9) rfl d_Model_put_54 ?_
        refine lv_aload_n hx hb d_Model_put_57 rfl (lv_at hl 0 rfl) ?_
        refine va_get (D := G.1) (ci := 6) (v := .ref a_mord) (C := "BranchStoreModel") (T := F_Model) (N := 16) hx hb hts i_Model hown hK hP 0 rfl rfl 6 (by decide) (hts _ k_776) (fun _ h9 => h9) rfl d_Model_put_58 ?_
        refine lv_iload_n hx hb d_Model_put_61 rfl (lv_at hl 2 rfl) ?_
        obtain ⟨h16, h⟩ := gi_k h
        refine va_iald hx hb hK hP 6 0 rfl rfl h16 d_Model_put_62 ?_
        refine lv_lload_n hx hb d_Model_put_63 rfl (lv_at hl 1 rfl) ?_
        obtain ⟨h17, h⟩ := gi_k h
        refine va_last hx hb hK hP hD hS 5 2 rfl rfl h17 d_Model_put_64 (fun H locs hP hD hS => ?_)
        obtain ⟨c18, ec18⟩ : ∃ y, y = vp_updL c_val (c_ord r1.toNatClampNeg).toNatClampNeg p_1 := ⟨_, rfl⟩
        have h := nm_k h c18 ec18
        have hP : va_P G.1 classes (wM G a_m a_mfst a_msnd a_mlet a_mmany a_mval a_mord a_mfree a_mcode a_mnext a_mcom a_mmet c_sort c_cnt c_frees c_cur r10.2 c_fst c_snd c_let c_many c18 c_ord c_free c_code c_next c_com c_met) H := by rw [ec18]; exact hP
        have hD : va_D A (wM G a_m a_mfst a_msnd a_mlet a_mmany a_mval a_mord a_mfree a_mcode a_mnext a_mcom a_mmet c_sort c_cnt c_frees c_cur r10.2 c_fst c_snd c_let c_many c18 c_ord c_free c_code c_next c_com c_met) := by rw [ec18]; exact hD
        refine lv_goto (tgt := 77) hx hb d_Model_put_65 (by decide) ?_
        refine lv_iload hx hb d_Model_put_77 (lv_at hl 3 rfl) ?_
        refine lv_if_ne (tgt := 86) hx hb d_Model_put_79 (by decide) (fun _ => ?_) (fun q19 => absurd q19 q13)
        refine lv_iconst (v := 0) hx hb d_Model_put_86 (by decide) ?_
        obtain rfl := Option.some.inj h
        exact zretz () hQ hS.2.2 hx hb hr hlocks hP hD hS ⟨rfl, rfl⟩ (Nat.le_refl _) (Nat.le_refl _) d_Model_put_87 rfl
    · have h := ie h q12
      refine lv_iconst (v := 0) hx hb d_Model_put_46 (by decide) ?_
      obtain rfl := Option.some.inj h
      exact zretz () hQ hS.2.2 hx hb hr hlocks hP hD hS ⟨rfl, rfl⟩ (Nat.le_refl _) (Nat.le_refl _) d_Model_put_47 rfl
  have h := hy7
  refine lv_if_ne (tgt := 38) hx hb d_Model_put_21 (by decide) (fun q5 => ?_) (fun q5 => ?_)
  · have h := ie h q5
    refine lv_iconst (v := 0) hx hb d_Model_put_38 (by decide) ?_
    exact J39 0 rfl (Option.some.inj h) H locs ls hP hD hS (lv_sub hl [2, 3, 1, 0] rfl)
  · have h := it h q5
    refine lv_aload_n hx hb d_Model_put_24 rfl (lv_at hl 2 rfl) ?_
    refine va_get (D := G.1) (ci := 6) (v := .int c_cnt) (C := "BranchStoreModel") (T := F_Model) (N := 16) hx hb hts i_Model hown hK hP 0 rfl rfl 7 (by decide) (hts _ k_777) (fun _ h9 => h9) rfl d_Model_put_25 ?_
    refine lv_sipush (v := 1500) hx hb d_Model_put_28 (by decide) ?_
    refine lv_icmp_ne (tgt := 38) hx hb d_Model_put_31 (by decide) (fun q6 => ?_) (fun q6 => ?_)
    · have h := ie h q6
      refine lv_iconst (v := 0) hx hb d_Model_put_38 (by decide) ?_
      exact J39 0 rfl (Option.some.inj h) H locs ls hP hD hS (lv_sub hl [2, 3, 1, 0] rfl)
    · have h := it h q6
      refine lv_iconst (v := 1) hx hb d_Model_put_34 (by decide) ?_
      refine lv_goto (tgt := 39) hx hb d_Model_put_35 (by decide) ?_
      exact J39 1 rfl (Option.some.inj h) H locs ls hP hD hS (lv_sub hl [2, 3, 1, 0] rfl)

noncomputable def f_Model_get (c_sort : Int32) (c_cnt : Int32) (c_thr : Int32) (c_fst : (Nat → Int64)) (c_snd : (Nat → Int64)) (c_let : (Nat → Int32)) (c_many : (Nat → Int32)) (c_val : (Nat → Int64)) (c_ord : (Nat → Int32))  : Option (Int64 × Int32) :=
(f_Model_below c_sort c_cnt c_fst c_snd c_let c_many c_ord 1500).bind fun r1 =>
(f_Model_isAt c_sort c_cnt c_fst c_snd c_let c_many c_ord r1 1500).bind fun r2 =>
(if r2 = 0 then
(some 1)
else
(some 0)).bind fun y7 =>
(f_Model_fails c_thr y7 1).bind fun r9 =>
if r9.1 = 0 then
(gi r1 1500 <|
gi (c_ord r1.toNatClampNeg) 1500 <|
some (c_val (c_ord r1.toNatClampNeg).toNatClampNeg, r9.2))
else
(some (0, r9.2))
set_option maxHeartbeats 8000000 in
set_option maxRecDepth 100000 in
theorem c_Model_get (l : Launch) (G : zG) (sz : Nat) (a_m a_mfst a_msnd a_mlet a_mmany a_mval a_mord a_mfree a_mcode a_mnext a_mcom a_mmet : Nat) (c_sort : Int32) (c_cnt : Int32) (c_frees : Int32) (c_cur : Int32) (c_thr : Int32) (c_fst : (Nat → Int64)) (c_snd : (Nat → Int64)) (c_let : (Nat → Int32)) (c_many : (Nat → Int32)) (c_val : (Nat → Int64)) (c_ord : (Nat → Int32)) (c_free : (Nat → Int32)) (c_code : (Nat → Int32)) (c_next : (Nat → Int32)) (c_com : (Nat → Int32)) (c_met : (Nat → Int32)) (r0 : (Int64 × Int32)) (hf : f_Model_get c_sort c_cnt c_thr c_fst c_snd c_let c_many c_val c_ord = some r0) :
    Met l y_Model_get (Cond.code y_Model_get prog_9_method_19_code 2 (some .long) :: lw_ok) { frames := 3, cells := 0, slots := 0, locals := 72 } (zPc G sz [.ref a_m] (wM G a_m a_mfst a_msnd a_mlet a_mmany a_mval a_mord a_mfree a_mcode a_mnext a_mcom a_mmet c_sort c_cnt c_frees c_cur c_thr c_fst c_snd c_let c_many c_val c_ord c_free c_code c_next c_com c_met))
      ((fun (A : Nat → Prop) => va_Ql (fun (r : Int64) (_ : Unit) => r = r0.1) (fun _ t => zB G A (wM G a_m a_mfst a_msnd a_mlet a_mmany a_mval a_mord a_mfree a_mcode a_mnext a_mcom a_mmet c_sort c_cnt c_frees c_cur r0.2 c_fst c_snd c_let c_many c_val c_ord c_free c_code c_next c_com c_met) t) A) (va_A (wM G a_m a_mfst a_msnd a_mlet a_mmany a_mval a_mord a_mfree a_mcode a_mnext a_mcom a_mmet c_sort c_cnt c_frees c_cur c_thr c_fst c_snd c_let c_many c_val c_ord c_free c_code c_next c_com c_met) sz)) 0 0 (va_A (wM G a_m a_mfst a_msnd a_mlet a_mmany a_mval a_mord a_mfree a_mcode a_mnext a_mcom a_mmet c_sort c_cnt c_frees c_cur c_thr c_fst c_snd c_let c_many c_val c_ord c_free c_code c_next c_com c_met) sz) := by
  refine zMet (Qc := fun (A : Nat → Prop) => va_Ql (fun (r : Int64) (_ : Unit) => r = r0.1) (fun _ t => zB G A (wM G a_m a_mfst a_msnd a_mlet a_mmany a_mval a_mord a_mfree a_mcode a_mnext a_mcom a_mmet c_sort c_cnt c_frees c_cur r0.2 c_fst c_snd c_let c_many c_val c_ord c_free c_code c_next c_com c_met) t) A) (by decide) (Nat.le_of_ble_eq_true rfl) (fun xp xe xs xm xb xme xc A ls Q H locs C hN hK hP hD hS hA hl hQ => ?_)
  obtain ⟨hx, hb, hr, hts, hown, hlocks, hml, hin⟩ := C
  have hl : lv_has ls 2 [(0, .ref a_m)] := hl
  have h := hf
  unfold f_Model_get at h
  refine lv_aload_n hx hb d_Model_get_0 rfl (lv_at hl 0 rfl) ?_
  refine lv_sipush (v := 1500) hx hb d_Model_get_1 (by decide) ?_
  obtain ⟨r1, hr1, h⟩ := ob h
  refine zpcalli (wr := []) (w2 := fun _ => (wM G a_m a_mfst a_msnd a_mlet a_mmany a_mval a_mord a_mfree a_mcode a_mnext a_mcom a_mmet c_sort c_cnt c_frees c_cur c_thr c_fst c_snd c_let c_many c_val c_ord c_free c_code c_next c_com c_met)) (zrunV (As := [.int 1500]) (rest := []) ⟨hx, hb, hml, hown, hts⟩ hN hK (c_Model_below l G H.size a_m a_mfst a_msnd a_mlet a_mmany a_mval a_mord a_mfree a_mcode a_mnext a_mcom a_mmet c_sort c_cnt c_frees c_cur c_thr c_fst c_snd c_let c_many c_val c_ord c_free c_code c_next c_com c_met 1500 r1 hr1) ⟨rfl, rfl⟩ kv_Model_83 ⟨Nat.le_of_ble_eq_true rfl, Nat.le_of_ble_eq_true rfl⟩ 0 rfl rfl rfl hl.1 (Nat.le_of_ble_eq_true rfl) d_Model_get_4 ⟨Nat.le_of_ble_eq_true rfl, Nat.le_of_ble_eq_true rfl⟩) hP hD hS hA [0, 1, 2, 3, 4, 5, 6, 7, 8, 9, 10, 11] [] [0, 1, 2, 3, 4, 5, 6, 7, 8, 9, 10, 11] rfl rfl rfl rfl (by decide) rfl (fun _ => rfl) (fun rr _ H hw hP hD hS => ?_)
  have hw := hw.symm
  subst hw
  refine lv_istore_n (lv' := [(1, .int r1), (0, .ref a_m)]) hx hb d_Model_get_7 rfl hl (by decide) rfl (fun ls hl => ?_)
  refine lv_aload_n hx hb d_Model_get_8 rfl (lv_at hl 1 rfl) ?_
  refine lv_aload_n hx hb d_Model_get_9 rfl (lv_at hl 1 rfl) ?_
  refine lv_iload_n hx hb d_Model_get_10 rfl (lv_at hl 0 rfl) ?_
  refine lv_sipush (v := 1500) hx hb d_Model_get_11 (by decide) ?_
  obtain ⟨r2, hr2, h⟩ := ob h
  refine zpcalli (wr := []) (w2 := fun _ => (wM G a_m a_mfst a_msnd a_mlet a_mmany a_mval a_mord a_mfree a_mcode a_mnext a_mcom a_mmet c_sort c_cnt c_frees c_cur c_thr c_fst c_snd c_let c_many c_val c_ord c_free c_code c_next c_com c_met)) (zrunV (As := [.int r1, .int 1500]) (rest := [.ref a_m]) ⟨hx, hb, hml, hown, hts⟩ hN hK (c_Model_isAt l G H.size a_m a_mfst a_msnd a_mlet a_mmany a_mval a_mord a_mfree a_mcode a_mnext a_mcom a_mmet c_sort c_cnt c_frees c_cur c_thr c_fst c_snd c_let c_many c_val c_ord c_free c_code c_next c_com c_met r1 1500 r2 hr2) ⟨rfl, rfl⟩ kv_Model_87 ⟨Nat.le_of_ble_eq_true rfl, Nat.le_of_ble_eq_true rfl⟩ 0 rfl rfl rfl hl.1 (Nat.le_of_ble_eq_true rfl) d_Model_get_14 ⟨Nat.le_of_ble_eq_true rfl, Nat.le_of_ble_eq_true rfl⟩) hP hD hS hA [0, 1, 2, 3, 4, 5, 6, 7, 8, 9, 10, 11] [] [0, 1, 2, 3, 4, 5, 6, 7, 8, 9, 10, 11] rfl rfl rfl rfl (by decide) rfl (fun _ => rfl) (fun rr _ H hw hP hD hS => ?_)
  obtain ⟨hw, hz3⟩ := hw
  have hw := hw.symm
  subst hw
  obtain ⟨y6, hy6, h⟩ := ob h
  have J25 : ∀ (z8 : Int32), narrow .boolean (.int z8) = .int z8 → z8 = y6 → ∀ (H : Heap) (locs : List Loc) (ls : Array Slot), va_P G.1 classes (wM G a_m a_mfst a_msnd a_mlet a_mmany a_mval a_mord a_mfree a_mcode a_mnext a_mcom a_mmet c_sort c_cnt c_frees c_cur c_thr c_fst c_snd c_let c_many c_val c_ord c_free c_code c_next c_com c_met) H → va_D A (wM G a_m a_mfst a_msnd a_mlet a_mmany a_mval a_mord a_mfree a_mcode a_mnext a_mcom a_mmet c_sort c_cnt c_frees c_cur c_thr c_fst c_snd c_let c_many c_val c_ord c_free c_code c_next c_com c_met) → va_S A xs.heap H locs → lv_has ls 2 [(0, .ref a_m), (1, .int r1)] → W xp l xe { frames := 3, cells := 0, slots := 0, locals := 72 } xs xm ([.ref a_m] : List Value).toArray xb xme xc H locs 0 0 Q (F0 xm 25 ls [.int z8, .ref a_m]) := by
    intro z8 hzz8 ey H locs ls hP hD hS hl
    subst ey
    try dsimp only at h
    refine lv_iconst (v := 1) hx hb d_Model_get_25 (by decide) ?_
    obtain ⟨r9, hr9, h⟩ := ob h
    refine zcalli (wr := []) (w2 := fun _ => (wM G a_m a_mfst a_msnd a_mlet a_mmany a_mval a_mord a_mfree a_mcode a_mnext a_mcom a_mmet c_sort c_cnt c_frees c_cur r9.2 c_fst c_snd c_let c_many c_val c_ord c_free c_code c_next c_com c_met)) (zrunV (As := [.int z8, .int 1]) (rest := []) ⟨hx, hb, hml, hown, hts⟩ hN hK (c_Model_fails l G H.size a_m a_mfst a_msnd a_mlet a_mmany a_mval a_mord a_mfree a_mcode a_mnext a_mcom a_mmet c_sort c_cnt c_frees c_cur c_thr c_fst c_snd c_let c_many c_val c_ord c_free c_code c_next c_com c_met z8 1 hzz8 r9 hr9) ⟨rfl, rfl⟩ kv_Model_70 ⟨Nat.le_of_ble_eq_true rfl, Nat.le_of_ble_eq_true rfl⟩ 0 rfl rfl rfl hl.1 (Nat.le_of_ble_eq_true rfl) d_Model_get_26 ⟨Nat.le_of_ble_eq_true rfl, Nat.le_of_ble_eq_true rfl⟩) hP hD hS hA [0, 1, 2, 3, 4, 5, 6, 7, 8, 9, 10, 11] [] [0, 1, 2, 3, 4, 5, 6, 7, 8, 9, 10, 11] rfl rfl rfl rfl (by decide) rfl (fun _ => rfl) (fun rr _ H locs hw hP hD hS => ?_)
    obtain ⟨hw, hz10⟩ := hw
    have hw := hw.symm
    subst hw
    refine lv_if_eq (tgt := 34) hx hb d_Model_get_29 (by decide) (fun q11 => ?_) (fun q11 => ?_)
    · have h := it h q11
      refine lv_aload_n hx hb d_Model_get_34 rfl (lv_at hl 0 rfl) ?_
      refine va_get (D := G.1) (ci := 6) (v := .ref a_mval) (C := "BranchStoreModel") (T := F_Model) (N := 16) hx hb hts i_Model hown hK hP 0 rfl rfl 5 (by decide) (hts _ k_775) (fun _ h9 => h9) rfl d_Model_get_35 ?_
      refine lv_aload_n hx hb d_Model_get_38 rfl (lv_at hl 0 rfl) ?_
      refine va_get (D := G.1) (ci := 6) (v := .ref a_mord) (C := "BranchStoreModel") (T := F_Model) (N := 16) hx hb hts i_Model hown hK hP 0 rfl rfl 6 (by decide) (hts _ k_776) (fun _ h9 => h9) rfl d_Model_get_39 ?_
      refine lv_iload_n hx hb d_Model_get_42 rfl (lv_at hl 1 rfl) ?_
      obtain ⟨h12, h⟩ := gi_k h
      refine va_iald hx hb hK hP 6 0 rfl rfl h12 d_Model_get_43 ?_
      obtain ⟨h13, h⟩ := gi_k h
      refine va_lald hx hb hK hP 5 2 rfl rfl h13 d_Model_get_44 ?_
      obtain rfl := Option.some.inj h
      exact zretl () hQ hS.2.2 hx hb hr hlocks hP hD hS rfl (Nat.le_refl _) (Nat.le_refl _) d_Model_get_45
    · have h := ie h q11
      refine lv_lconst (v := 0) hx hb d_Model_get_32 (by decide) ?_
      obtain rfl := Option.some.inj h
      exact zretl () hQ hS.2.2 hx hb hr hlocks hP hD hS rfl (Nat.le_refl _) (Nat.le_refl _) d_Model_get_33
  have h := hy6
  refine lv_if_ne (tgt := 24) hx hb d_Model_get_17 (by decide) (fun q5 => ?_) (fun q5 => ?_)
  · have h := ie h q5
    refine lv_iconst (v := 0) hx hb d_Model_get_24 (by decide) ?_
    exact J25 0 rfl (Option.some.inj h) H locs ls hP hD hS (lv_sub hl [1, 0] rfl)
  · have h := it h q5
    refine lv_iconst (v := 1) hx hb d_Model_get_20 (by decide) ?_
    refine lv_goto (tgt := 25) hx hb d_Model_get_21 (by decide) ?_
    exact J25 1 rfl (Option.some.inj h) H locs ls hP hD hS (lv_sub hl [1, 0] rfl)

theorem kv_Model_95 : zKV "BranchStoreModel" 95 y_Model_delete prog_9_method_11_code 3 none 1 := ⟨k_892, k_894, kp_34, k_8, k_895, by decide +kernel⟩
noncomputable def f_Model_remove (c_sort : Int32) (c_cnt : Int32) (c_frees : Int32) (c_thr : Int32) (c_fst : (Nat → Int64)) (c_snd : (Nat → Int64)) (c_let : (Nat → Int32)) (c_many : (Nat → Int32)) (c_val : (Nat → Int64)) (c_ord : (Nat → Int32)) (c_free : (Nat → Int32))  : Option (Int64 × Int32 × Int32 × Int32 × (Nat → Int32) × (Nat → Int32)) :=
(f_Model_below c_sort c_cnt c_fst c_snd c_let c_many c_ord 1500).bind fun r1 =>
(f_Model_isAt c_sort c_cnt c_fst c_snd c_let c_many c_ord r1 1500).bind fun r2 =>
(if r2 = 0 then
(some 1)
else
(some 0)).bind fun y7 =>
(f_Model_fails c_thr y7 1).bind fun r9 =>
if r9.1 = 0 then
(gi r1 1500 <|
gi (c_ord r1.toNatClampNeg) 1500 <|
nm (c_val (c_ord r1.toNatClampNeg).toNatClampNeg) fun v14 =>
(f_Model_delete c_cnt c_frees c_ord c_free r1).bind fun r15 =>
some (v14, r15.1, r15.2.1, r9.2, r15.2.2.1, r15.2.2.2))
else
(some (0, c_cnt, c_frees, r9.2, c_ord, c_free))
set_option maxHeartbeats 8000000 in
set_option maxRecDepth 100000 in
theorem c_Model_remove (l : Launch) (G : zG) (sz : Nat) (a_m a_mfst a_msnd a_mlet a_mmany a_mval a_mord a_mfree a_mcode a_mnext a_mcom a_mmet : Nat) (c_sort : Int32) (c_cnt : Int32) (c_frees : Int32) (c_cur : Int32) (c_thr : Int32) (c_fst : (Nat → Int64)) (c_snd : (Nat → Int64)) (c_let : (Nat → Int32)) (c_many : (Nat → Int32)) (c_val : (Nat → Int64)) (c_ord : (Nat → Int32)) (c_free : (Nat → Int32)) (c_code : (Nat → Int32)) (c_next : (Nat → Int32)) (c_com : (Nat → Int32)) (c_met : (Nat → Int32)) (r0 : (Int64 × Int32 × Int32 × Int32 × (Nat → Int32) × (Nat → Int32))) (hf : f_Model_remove c_sort c_cnt c_frees c_thr c_fst c_snd c_let c_many c_val c_ord c_free = some r0) :
    Met l y_Model_remove (Cond.code y_Model_remove prog_9_method_20_code 4 (some .long) :: lw_ok) { frames := 3, cells := 0, slots := 0, locals := 72 } (zPc G sz [.ref a_m] (wM G a_m a_mfst a_msnd a_mlet a_mmany a_mval a_mord a_mfree a_mcode a_mnext a_mcom a_mmet c_sort c_cnt c_frees c_cur c_thr c_fst c_snd c_let c_many c_val c_ord c_free c_code c_next c_com c_met))
      ((fun (A : Nat → Prop) => va_Ql (fun (r : Int64) (_ : Unit) => r = r0.1) (fun _ t => zB G A (wM G a_m a_mfst a_msnd a_mlet a_mmany a_mval a_mord a_mfree a_mcode a_mnext a_mcom a_mmet c_sort r0.2.1 r0.2.2.1 c_cur r0.2.2.2.1 c_fst c_snd c_let c_many c_val r0.2.2.2.2.1 r0.2.2.2.2.2 c_code c_next c_com c_met) t) A) (va_A (wM G a_m a_mfst a_msnd a_mlet a_mmany a_mval a_mord a_mfree a_mcode a_mnext a_mcom a_mmet c_sort c_cnt c_frees c_cur c_thr c_fst c_snd c_let c_many c_val c_ord c_free c_code c_next c_com c_met) sz)) 0 0 (va_A (wM G a_m a_mfst a_msnd a_mlet a_mmany a_mval a_mord a_mfree a_mcode a_mnext a_mcom a_mmet c_sort c_cnt c_frees c_cur c_thr c_fst c_snd c_let c_many c_val c_ord c_free c_code c_next c_com c_met) sz) := by
  refine zMet (Qc := fun (A : Nat → Prop) => va_Ql (fun (r : Int64) (_ : Unit) => r = r0.1) (fun _ t => zB G A (wM G a_m a_mfst a_msnd a_mlet a_mmany a_mval a_mord a_mfree a_mcode a_mnext a_mcom a_mmet c_sort r0.2.1 r0.2.2.1 c_cur r0.2.2.2.1 c_fst c_snd c_let c_many c_val r0.2.2.2.2.1 r0.2.2.2.2.2 c_code c_next c_com c_met) t) A) (by decide) (Nat.le_of_ble_eq_true rfl) (fun xp xe xs xm xb xme xc A ls Q H locs C hN hK hP hD hS hA hl hQ => ?_)
  obtain ⟨hx, hb, hr, hts, hown, hlocks, hml, hin⟩ := C
  have hl : lv_has ls 4 [(0, .ref a_m)] := hl
  have h := hf
  unfold f_Model_remove at h
  refine lv_aload_n hx hb d_Model_remove_0 rfl (lv_at hl 0 rfl) ?_
  refine lv_sipush (v := 1500) hx hb d_Model_remove_1 (by decide) ?_
  obtain ⟨r1, hr1, h⟩ := ob h
  refine zpcalli (wr := []) (w2 := fun _ => (wM G a_m a_mfst a_msnd a_mlet a_mmany a_mval a_mord a_mfree a_mcode a_mnext a_mcom a_mmet c_sort c_cnt c_frees c_cur c_thr c_fst c_snd c_let c_many c_val c_ord c_free c_code c_next c_com c_met)) (zrunV (As := [.int 1500]) (rest := []) ⟨hx, hb, hml, hown, hts⟩ hN hK (c_Model_below l G H.size a_m a_mfst a_msnd a_mlet a_mmany a_mval a_mord a_mfree a_mcode a_mnext a_mcom a_mmet c_sort c_cnt c_frees c_cur c_thr c_fst c_snd c_let c_many c_val c_ord c_free c_code c_next c_com c_met 1500 r1 hr1) ⟨rfl, rfl⟩ kv_Model_83 ⟨Nat.le_of_ble_eq_true rfl, Nat.le_of_ble_eq_true rfl⟩ 0 rfl rfl rfl hl.1 (Nat.le_of_ble_eq_true rfl) d_Model_remove_4 ⟨Nat.le_of_ble_eq_true rfl, Nat.le_of_ble_eq_true rfl⟩) hP hD hS hA [0, 1, 2, 3, 4, 5, 6, 7, 8, 9, 10, 11] [] [0, 1, 2, 3, 4, 5, 6, 7, 8, 9, 10, 11] rfl rfl rfl rfl (by decide) rfl (fun _ => rfl) (fun rr _ H hw hP hD hS => ?_)
  have hw := hw.symm
  subst hw
  refine lv_istore_n (lv' := [(1, .int r1), (0, .ref a_m)]) hx hb d_Model_remove_7 rfl hl (by decide) rfl (fun ls hl => ?_)
  refine lv_aload_n hx hb d_Model_remove_8 rfl (lv_at hl 1 rfl) ?_
  refine lv_aload_n hx hb d_Model_remove_9 rfl (lv_at hl 1 rfl) ?_
  refine lv_iload_n hx hb d_Model_remove_10 rfl (lv_at hl 0 rfl) ?_
  refine lv_sipush (v := 1500) hx hb d_Model_remove_11 (by decide) ?_
  obtain ⟨r2, hr2, h⟩ := ob h
  refine zpcalli (wr := []) (w2 := fun _ => (wM G a_m a_mfst a_msnd a_mlet a_mmany a_mval a_mord a_mfree a_mcode a_mnext a_mcom a_mmet c_sort c_cnt c_frees c_cur c_thr c_fst c_snd c_let c_many c_val c_ord c_free c_code c_next c_com c_met)) (zrunV (As := [.int r1, .int 1500]) (rest := [.ref a_m]) ⟨hx, hb, hml, hown, hts⟩ hN hK (c_Model_isAt l G H.size a_m a_mfst a_msnd a_mlet a_mmany a_mval a_mord a_mfree a_mcode a_mnext a_mcom a_mmet c_sort c_cnt c_frees c_cur c_thr c_fst c_snd c_let c_many c_val c_ord c_free c_code c_next c_com c_met r1 1500 r2 hr2) ⟨rfl, rfl⟩ kv_Model_87 ⟨Nat.le_of_ble_eq_true rfl, Nat.le_of_ble_eq_true rfl⟩ 0 rfl rfl rfl hl.1 (Nat.le_of_ble_eq_true rfl) d_Model_remove_14 ⟨Nat.le_of_ble_eq_true rfl, Nat.le_of_ble_eq_true rfl⟩) hP hD hS hA [0, 1, 2, 3, 4, 5, 6, 7, 8, 9, 10, 11] [] [0, 1, 2, 3, 4, 5, 6, 7, 8, 9, 10, 11] rfl rfl rfl rfl (by decide) rfl (fun _ => rfl) (fun rr _ H hw hP hD hS => ?_)
  obtain ⟨hw, hz3⟩ := hw
  have hw := hw.symm
  subst hw
  obtain ⟨y6, hy6, h⟩ := ob h
  have J25 : ∀ (z8 : Int32), narrow .boolean (.int z8) = .int z8 → z8 = y6 → ∀ (H : Heap) (locs : List Loc) (ls : Array Slot), va_P G.1 classes (wM G a_m a_mfst a_msnd a_mlet a_mmany a_mval a_mord a_mfree a_mcode a_mnext a_mcom a_mmet c_sort c_cnt c_frees c_cur c_thr c_fst c_snd c_let c_many c_val c_ord c_free c_code c_next c_com c_met) H → va_D A (wM G a_m a_mfst a_msnd a_mlet a_mmany a_mval a_mord a_mfree a_mcode a_mnext a_mcom a_mmet c_sort c_cnt c_frees c_cur c_thr c_fst c_snd c_let c_many c_val c_ord c_free c_code c_next c_com c_met) → va_S A xs.heap H locs → lv_has ls 4 [(0, .ref a_m), (1, .int r1)] → W xp l xe { frames := 3, cells := 0, slots := 0, locals := 72 } xs xm ([.ref a_m] : List Value).toArray xb xme xc H locs 0 0 Q (F0 xm 25 ls [.int z8, .ref a_m]) := by
    intro z8 hzz8 ey H locs ls hP hD hS hl
    subst ey
    try dsimp only at h
    refine lv_iconst (v := 1) hx hb d_Model_remove_25 (by decide) ?_
    obtain ⟨r9, hr9, h⟩ := ob h
    refine zcalli (wr := []) (w2 := fun _ => (wM G a_m a_mfst a_msnd a_mlet a_mmany a_mval a_mord a_mfree a_mcode a_mnext a_mcom a_mmet c_sort c_cnt c_frees c_cur r9.2 c_fst c_snd c_let c_many c_val c_ord c_free c_code c_next c_com c_met)) (zrunV (As := [.int z8, .int 1]) (rest := []) ⟨hx, hb, hml, hown, hts⟩ hN hK (c_Model_fails l G H.size a_m a_mfst a_msnd a_mlet a_mmany a_mval a_mord a_mfree a_mcode a_mnext a_mcom a_mmet c_sort c_cnt c_frees c_cur c_thr c_fst c_snd c_let c_many c_val c_ord c_free c_code c_next c_com c_met z8 1 hzz8 r9 hr9) ⟨rfl, rfl⟩ kv_Model_70 ⟨Nat.le_of_ble_eq_true rfl, Nat.le_of_ble_eq_true rfl⟩ 0 rfl rfl rfl hl.1 (Nat.le_of_ble_eq_true rfl) d_Model_remove_26 ⟨Nat.le_of_ble_eq_true rfl, Nat.le_of_ble_eq_true rfl⟩) hP hD hS hA [0, 1, 2, 3, 4, 5, 6, 7, 8, 9, 10, 11] [] [0, 1, 2, 3, 4, 5, 6, 7, 8, 9, 10, 11] rfl rfl rfl rfl (by decide) rfl (fun _ => rfl) (fun rr _ H locs hw hP hD hS => ?_)
    obtain ⟨hw, hz10⟩ := hw
    have hw := hw.symm
    subst hw
    refine lv_if_eq (tgt := 34) hx hb d_Model_remove_29 (by decide) (fun q11 => ?_) (fun q11 => ?_)
    · have h := it h q11
      refine lv_aload_n hx hb d_Model_remove_34 rfl (lv_at hl 0 rfl) ?_
      refine va_get (D := G.1) (ci := 6) (v := .ref a_mval) (C := "BranchStoreModel") (T := F_Model) (N := 16) hx hb hts i_Model hown hK hP 0 rfl rfl 5 (by decide) (hts _ k_775) (fun _ h9 => h9) rfl d_Model_remove_35 ?_
      refine lv_aload_n hx hb d_Model_remove_38 rfl (lv_at hl 0 rfl) ?_
      refine va_get (D := G.1) (ci := 6) (v := .ref a_mord) (C := "BranchStoreModel") (T := F_Model) (N := 16) hx hb hts i_Model hown hK hP 0 rfl rfl 6 (by decide) (hts _ k_776) (fun _ h9 => h9) rfl d_Model_remove_39 ?_
      refine lv_iload_n hx hb d_Model_remove_42 rfl (lv_at hl 1 rfl) ?_
      obtain ⟨h12, h⟩ := gi_k h
      refine va_iald hx hb hK hP 6 0 rfl rfl h12 d_Model_remove_43 ?_
      obtain ⟨h13, h⟩ := gi_k h
      refine va_lald hx hb hK hP 5 2 rfl rfl h13 d_Model_remove_44 ?_
      refine lv_topl (fun v14 ev14 => ?_)
      have h := nm_k h v14 ev14
      refine lv_lstore_n (lv' := [(2, .long v14), (0, .ref a_m), (1, .int r1)]) hx hb d_Model_remove_45 rfl hl (by decide) rfl (fun ls hl => ?_)
      refine lv_aload_n hx hb d_Model_remove_46 rfl (lv_at hl 1 rfl) ?_
      refine lv_iload_n hx hb d_Model_remove_47 rfl (lv_at hl 2 rfl) ?_
      obtain ⟨r15, hr15, h⟩ := ob h
      refine zcallv (wr := []) (w2 := fun _ => (wM G a_m a_mfst a_msnd a_mlet a_mmany a_mval a_mord a_mfree a_mcode a_mnext a_mcom a_mmet c_sort r15.1 r15.2.1 c_cur r9.2 c_fst c_snd c_let c_many c_val r15.2.2.1 r15.2.2.2 c_code c_next c_com c_met)) (zrunV (As := [.int r1]) (rest := []) ⟨hx, hb, hml, hown, hts⟩ hN hK (c_Model_delete l G H.size a_m a_mfst a_msnd a_mlet a_mmany a_mval a_mord a_mfree a_mcode a_mnext a_mcom a_mmet c_sort c_cnt c_frees c_cur r9.2 c_fst c_snd c_let c_many c_val c_ord c_free c_code c_next c_com c_met r1 r15 hr15) ⟨rfl, rfl⟩ kv_Model_95 ⟨Nat.le_of_ble_eq_true rfl, Nat.le_of_ble_eq_true rfl⟩ 0 rfl rfl rfl hl.1 (Nat.le_of_ble_eq_true rfl) d_Model_remove_48 ⟨Nat.le_of_ble_eq_true rfl, Nat.le_of_ble_eq_true rfl⟩) hP hD hS hA [0, 1, 2, 3, 4, 5, 6, 7, 8, 9, 10, 11] [] [0, 1, 2, 3, 4, 5, 6, 7, 8, 9, 10, 11] rfl rfl rfl rfl (by decide) rfl (fun _ => rfl) (fun _ H locs _ hP hD hS => ?_)
      refine lv_lload_n hx hb d_Model_remove_51 rfl (lv_at hl 0 rfl) ?_
      obtain rfl := Option.some.inj h
      exact zretl () hQ hS.2.2 hx hb hr hlocks hP hD hS rfl (Nat.le_refl _) (Nat.le_refl _) d_Model_remove_52
    · have h := ie h q11
      refine lv_lconst (v := 0) hx hb d_Model_remove_32 (by decide) ?_
      obtain rfl := Option.some.inj h
      exact zretl () hQ hS.2.2 hx hb hr hlocks hP hD hS rfl (Nat.le_refl _) (Nat.le_refl _) d_Model_remove_33
  have h := hy6
  refine lv_if_ne (tgt := 24) hx hb d_Model_remove_17 (by decide) (fun q5 => ?_) (fun q5 => ?_)
  · have h := ie h q5
    refine lv_iconst (v := 0) hx hb d_Model_remove_24 (by decide) ?_
    exact J25 0 rfl (Option.some.inj h) H locs ls hP hD hS (lv_sub hl [1, 0] rfl)
  · have h := it h q5
    refine lv_iconst (v := 1) hx hb d_Model_remove_20 (by decide) ?_
    refine lv_goto (tgt := 25) hx hb d_Model_remove_21 (by decide) ?_
    exact J25 1 rfl (Option.some.inj h) H locs ls hP hD hS (lv_sub hl [1, 0] rfl)

noncomputable def f_Model_goes (c_cnt : Int32) (c_cur : Int32) (c_fst : (Nat → Int64)) (c_snd : (Nat → Int64)) (c_let : (Nat → Int32)) (c_many : (Nat → Int32)) (c_ord : (Nat → Int32)) (p_1 : Int32) : Option (Int32 × Int32 × (Nat → Int64) × (Nat → Int64) × (Nat → Int32) × (Nat → Int32)) :=
if p_1 < 0 then
(some (0, c_cur, c_fst, c_snd, c_let, c_many))
else
(if p_1 < c_cnt then
(gi p_1 1500 <|
(f_Model_copy c_fst c_snd c_let c_many 1502 (c_ord p_1.toNatClampNeg)).bind fun r4 =>
some (1, 1, r4.1, r4.2.1, r4.2.2.1, r4.2.2.2))
else
(some (0, c_cur, c_fst, c_snd, c_let, c_many)))
set_option maxHeartbeats 8000000 in
set_option maxRecDepth 100000 in
theorem c_Model_goes (l : Launch) (G : zG) (sz : Nat) (a_m a_mfst a_msnd a_mlet a_mmany a_mval a_mord a_mfree a_mcode a_mnext a_mcom a_mmet : Nat) (c_sort : Int32) (c_cnt : Int32) (c_frees : Int32) (c_cur : Int32) (c_thr : Int32) (c_fst : (Nat → Int64)) (c_snd : (Nat → Int64)) (c_let : (Nat → Int32)) (c_many : (Nat → Int32)) (c_val : (Nat → Int64)) (c_ord : (Nat → Int32)) (c_free : (Nat → Int32)) (c_code : (Nat → Int32)) (c_next : (Nat → Int32)) (c_com : (Nat → Int32)) (c_met : (Nat → Int32)) (p_1 : Int32) (r0 : (Int32 × Int32 × (Nat → Int64) × (Nat → Int64) × (Nat → Int32) × (Nat → Int32))) (hf : f_Model_goes c_cnt c_cur c_fst c_snd c_let c_many c_ord p_1 = some r0) :
    Met l y_Model_goes (Cond.code y_Model_goes prog_9_method_21_code 2 (some .boolean) :: lw_ok) { frames := 1, cells := 0, slots := 0, locals := 23 } (zPc G sz [.ref a_m, .int p_1] (wM G a_m a_mfst a_msnd a_mlet a_mmany a_mval a_mord a_mfree a_mcode a_mnext a_mcom a_mmet c_sort c_cnt c_frees c_cur c_thr c_fst c_snd c_let c_many c_val c_ord c_free c_code c_next c_com c_met))
      ((fun (A : Nat → Prop) => va_Qi (fun (r : Int32) (_ : Unit) => r = r0.1 ∧ narrow .boolean (.int r) = .int r) (fun _ t => zB G A (wM G a_m a_mfst a_msnd a_mlet a_mmany a_mval a_mord a_mfree a_mcode a_mnext a_mcom a_mmet c_sort c_cnt c_frees r0.2.1 c_thr r0.2.2.1 r0.2.2.2.1 r0.2.2.2.2.1 r0.2.2.2.2.2 c_val c_ord c_free c_code c_next c_com c_met) t) A) (va_A (wM G a_m a_mfst a_msnd a_mlet a_mmany a_mval a_mord a_mfree a_mcode a_mnext a_mcom a_mmet c_sort c_cnt c_frees c_cur c_thr c_fst c_snd c_let c_many c_val c_ord c_free c_code c_next c_com c_met) sz)) 0 0 (va_A (wM G a_m a_mfst a_msnd a_mlet a_mmany a_mval a_mord a_mfree a_mcode a_mnext a_mcom a_mmet c_sort c_cnt c_frees c_cur c_thr c_fst c_snd c_let c_many c_val c_ord c_free c_code c_next c_com c_met) sz) := by
  refine zMet (Qc := fun (A : Nat → Prop) => va_Qi (fun (r : Int32) (_ : Unit) => r = r0.1 ∧ narrow .boolean (.int r) = .int r) (fun _ t => zB G A (wM G a_m a_mfst a_msnd a_mlet a_mmany a_mval a_mord a_mfree a_mcode a_mnext a_mcom a_mmet c_sort c_cnt c_frees r0.2.1 c_thr r0.2.2.1 r0.2.2.2.1 r0.2.2.2.2.1 r0.2.2.2.2.2 c_val c_ord c_free c_code c_next c_com c_met) t) A) (by decide) (Nat.le_of_ble_eq_true rfl) (fun xp xe xs xm xb xme xc A ls Q H locs C hN hK hP hD hS hA hl hQ => ?_)
  obtain ⟨hx, hb, hr, hts, hown, hlocks, hml, hin⟩ := C
  have hl : lv_has ls 2 [(0, .ref a_m), (1, .int p_1)] := hl
  have h := hf
  unfold f_Model_goes at h
  refine lv_iload_n hx hb d_Model_goes_0 rfl (lv_at hl 1 rfl) ?_
  refine lv_if_lt (tgt := 12) hx hb d_Model_goes_1 (by decide) (fun q1 => ?_) (fun q1 => ?_)
  · have h := it h q1
    refine lv_iconst (v := 0) hx hb d_Model_goes_12 (by decide) ?_
    obtain rfl := Option.some.inj h
    exact zretz () hQ hS.2.2 hx hb hr hlocks hP hD hS ⟨rfl, rfl⟩ (Nat.le_refl _) (Nat.le_refl _) d_Model_goes_13 rfl
  · have h := ie h q1
    refine lv_iload_n hx hb d_Model_goes_4 rfl (lv_at hl 1 rfl) ?_
    refine lv_aload_n hx hb d_Model_goes_5 rfl (lv_at hl 0 rfl) ?_
    refine va_get (D := G.1) (ci := 6) (v := .int c_cnt) (C := "BranchStoreModel") (T := F_Model) (N := 16) hx hb hts i_Model hown hK hP 0 rfl rfl 7 (by decide) (hts _ k_777) (fun _ h9 => h9) rfl d_Model_goes_6 ?_
    refine lv_icmp_lt (tgt := 14) hx hb d_Model_goes_9 (by decide) (fun q2 => ?_) (fun q2 => ?_)
    · have h := it h q2
      refine lv_aload_n hx hb d_Model_goes_14 rfl (lv_at hl 0 rfl) ?_
      refine lv_sipush (v := 1502) hx hb d_Model_goes_15 (by decide) ?_
      refine lv_aload_n hx hb d_Model_goes_18 rfl (lv_at hl 0 rfl) ?_
      refine va_get (D := G.1) (ci := 6) (v := .ref a_mord) (C := "BranchStoreModel") (T := F_Model) (N := 16) hx hb hts i_Model hown hK hP 0 rfl rfl 6 (by decide) (hts _ k_776) (fun _ h9 => h9) rfl d_Model_goes_19 ?_
      refine lv_iload_n hx hb d_Model_goes_22 rfl (lv_at hl 1 rfl) ?_
      obtain ⟨h3, h⟩ := gi_k h
      refine va_iald hx hb hK hP 6 0 rfl rfl h3 d_Model_goes_23 ?_
      obtain ⟨r4, hr4, h⟩ := ob h
      refine zcallv (wr := []) (w2 := fun _ => (wM G a_m a_mfst a_msnd a_mlet a_mmany a_mval a_mord a_mfree a_mcode a_mnext a_mcom a_mmet c_sort c_cnt c_frees c_cur c_thr r4.1 r4.2.1 r4.2.2.1 r4.2.2.2 c_val c_ord c_free c_code c_next c_com c_met)) (zrunV (As := [.int 1502, .int (c_ord p_1.toNatClampNeg)]) (rest := []) ⟨hx, hb, hml, hown, hts⟩ hN hK (c_Model_copy l G H.size a_m a_mfst a_msnd a_mlet a_mmany a_mval a_mord a_mfree a_mcode a_mnext a_mcom a_mmet c_sort c_cnt c_frees c_cur c_thr c_fst c_snd c_let c_many c_val c_ord c_free c_code c_next c_com c_met 1502 (c_ord p_1.toNatClampNeg) r4 hr4) ⟨rfl, rfl⟩ kv_Model_66 ⟨Nat.le_of_ble_eq_true rfl, Nat.le_of_ble_eq_true rfl⟩ 0 rfl rfl rfl hl.1 (Nat.le_of_ble_eq_true rfl) d_Model_goes_24 ⟨Nat.le_of_ble_eq_true rfl, Nat.le_of_ble_eq_true rfl⟩) hP hD hS hA [0, 1, 2, 3, 4, 5, 6, 7, 8, 9, 10, 11] [] [0, 1, 2, 3, 4, 5, 6, 7, 8, 9, 10, 11] rfl rfl rfl rfl (by decide) rfl (fun _ => rfl) (fun _ H locs _ hP hD hS => ?_)
      refine lv_aload_n hx hb d_Model_goes_27 rfl (lv_at hl 0 rfl) ?_
      refine lv_iconst (v := 1) hx hb d_Model_goes_28 (by decide) ?_
      refine va_put (D := G.1) (ci := 6) (v := .int 1) (ty := .boolean) (C := "BranchStoreModel") (T := F_Model) (N := 16) hx hb hts i_Model t_Model t_Model_ok n_Model hown hK hP hD hS 0 rfl rfl 10 (by decide) (hts _ k_780) (fun _ h9 => h9) rfl (by decide +kernel) rfl rfl (Nat.le_of_ble_eq_true rfl) d_Model_goes_29 (fun H locs hP hD hS => ?_)
      have hP : va_P G.1 classes (wM G a_m a_mfst a_msnd a_mlet a_mmany a_mval a_mord a_mfree a_mcode a_mnext a_mcom a_mmet c_sort c_cnt c_frees 1 c_thr r4.1 r4.2.1 r4.2.2.1 r4.2.2.2 c_val c_ord c_free c_code c_next c_com c_met) H := hP
      have hD : va_D A (wM G a_m a_mfst a_msnd a_mlet a_mmany a_mval a_mord a_mfree a_mcode a_mnext a_mcom a_mmet c_sort c_cnt c_frees 1 c_thr r4.1 r4.2.1 r4.2.2.1 r4.2.2.2 c_val c_ord c_free c_code c_next c_com c_met) := hD
      refine lv_iconst (v := 1) hx hb d_Model_goes_32 (by decide) ?_
      obtain rfl := Option.some.inj h
      exact zretz () hQ hS.2.2 hx hb hr hlocks hP hD hS ⟨rfl, rfl⟩ (Nat.le_refl _) (Nat.le_refl _) d_Model_goes_33 rfl
    · have h := ie h q2
      refine lv_iconst (v := 0) hx hb d_Model_goes_12 (by decide) ?_
      obtain rfl := Option.some.inj h
      exact zretz () hQ hS.2.2 hx hb hr hlocks hP hD hS ⟨rfl, rfl⟩ (Nat.le_refl _) (Nat.le_refl _) d_Model_goes_13 rfl

theorem kv_Model_98 : zKV "BranchStoreModel" 98 y_Model_goes prog_9_method_21_code 2 (some .boolean) 1 := ⟨k_900, k_902, kp_35, k_8, k_903, by decide +kernel⟩
noncomputable def f_Model_seek (c_sort : Int32) (c_cnt : Int32) (c_cur : Int32) (c_thr : Int32) (c_fst : (Nat → Int64)) (c_snd : (Nat → Int64)) (c_let : (Nat → Int32)) (c_many : (Nat → Int32)) (c_ord : (Nat → Int32)) (p_1 : Int32) : Option (Int32 × Int32 × Int32 × (Nat → Int64) × (Nat → Int64) × (Nat → Int32) × (Nat → Int32)) :=
(if p_1 < 0 then
(some 1)
else
(if p_1 ≤ 5 then
(some 0)
else
(some 1))).bind fun y5 =>
(f_Model_fails c_thr y5 1).bind fun r7 =>
if r7.1 = 0 then
((f_Model_below c_sort c_cnt c_fst c_snd c_let c_many c_ord 1500).bind fun r10 =>
(f_Model_isAt c_sort c_cnt c_fst c_snd c_let c_many c_ord r10 1500).bind fun r11 =>
if p_1 = 0 then
((if r11 = 0 then
(some (r10 - 1))
else
(some r10)).bind fun y17 =>
(f_Model_goes c_cnt c_cur c_fst c_snd c_let c_many c_ord y17).bind fun r19 =>
some (r19.1, r19.2.1, r7.2, r19.2.2.1, r19.2.2.2.1, r19.2.2.2.2.1, r19.2.2.2.2.2))
else
(if p_1 = 1 then
((f_Model_goes c_cnt c_cur c_fst c_snd c_let c_many c_ord r10).bind fun r22 =>
some (r22.1, r22.2.1, r7.2, r22.2.2.1, r22.2.2.2.1, r22.2.2.2.2.1, r22.2.2.2.2.2))
else
(if p_1 = 2 then
((f_Model_goes c_cnt c_cur c_fst c_snd c_let c_many c_ord (r10 - 1)).bind fun r25 =>
some (r25.1, r25.2.1, r7.2, r25.2.2.1, r25.2.2.2.1, r25.2.2.2.2.1, r25.2.2.2.2.2))
else
(if p_1 = 3 then
((if r11 = 0 then
(some r10)
else
(some (r10 + 1))).bind fun y31 =>
(f_Model_goes c_cnt c_cur c_fst c_snd c_let c_many c_ord y31).bind fun r33 =>
some (r33.1, r33.2.1, r7.2, r33.2.2.1, r33.2.2.2.1, r33.2.2.2.2.1, r33.2.2.2.2.2))
else
(if p_1 = 4 then
((f_Model_goes c_cnt c_cur c_fst c_snd c_let c_many c_ord 0).bind fun r36 =>
some (r36.1, r36.2.1, r7.2, r36.2.2.1, r36.2.2.2.1, r36.2.2.2.2.1, r36.2.2.2.2.2))
else
((f_Model_goes c_cnt c_cur c_fst c_snd c_let c_many c_ord (c_cnt - 1)).bind fun r38 =>
some (r38.1, r38.2.1, r7.2, r38.2.2.1, r38.2.2.2.1, r38.2.2.2.2.1, r38.2.2.2.2.2)))))))
else
(some (0, c_cur, r7.2, c_fst, c_snd, c_let, c_many))
set_option maxHeartbeats 8000000 in
set_option maxRecDepth 100000 in
theorem c_Model_seek (l : Launch) (G : zG) (sz : Nat) (a_m a_mfst a_msnd a_mlet a_mmany a_mval a_mord a_mfree a_mcode a_mnext a_mcom a_mmet : Nat) (c_sort : Int32) (c_cnt : Int32) (c_frees : Int32) (c_cur : Int32) (c_thr : Int32) (c_fst : (Nat → Int64)) (c_snd : (Nat → Int64)) (c_let : (Nat → Int32)) (c_many : (Nat → Int32)) (c_val : (Nat → Int64)) (c_ord : (Nat → Int32)) (c_free : (Nat → Int32)) (c_code : (Nat → Int32)) (c_next : (Nat → Int32)) (c_com : (Nat → Int32)) (c_met : (Nat → Int32)) (p_1 : Int32) (r0 : (Int32 × Int32 × Int32 × (Nat → Int64) × (Nat → Int64) × (Nat → Int32) × (Nat → Int32))) (hf : f_Model_seek c_sort c_cnt c_cur c_thr c_fst c_snd c_let c_many c_ord p_1 = some r0) :
    Met l y_Model_seek (Cond.code y_Model_seek prog_9_method_22_code 4 (some .boolean) :: lw_ok) { frames := 3, cells := 0, slots := 0, locals := 72 } (zPc G sz [.ref a_m, .int p_1] (wM G a_m a_mfst a_msnd a_mlet a_mmany a_mval a_mord a_mfree a_mcode a_mnext a_mcom a_mmet c_sort c_cnt c_frees c_cur c_thr c_fst c_snd c_let c_many c_val c_ord c_free c_code c_next c_com c_met))
      ((fun (A : Nat → Prop) => va_Qi (fun (r : Int32) (_ : Unit) => r = r0.1 ∧ narrow .boolean (.int r) = .int r) (fun _ t => zB G A (wM G a_m a_mfst a_msnd a_mlet a_mmany a_mval a_mord a_mfree a_mcode a_mnext a_mcom a_mmet c_sort c_cnt c_frees r0.2.1 r0.2.2.1 r0.2.2.2.1 r0.2.2.2.2.1 r0.2.2.2.2.2.1 r0.2.2.2.2.2.2 c_val c_ord c_free c_code c_next c_com c_met) t) A) (va_A (wM G a_m a_mfst a_msnd a_mlet a_mmany a_mval a_mord a_mfree a_mcode a_mnext a_mcom a_mmet c_sort c_cnt c_frees c_cur c_thr c_fst c_snd c_let c_many c_val c_ord c_free c_code c_next c_com c_met) sz)) 0 0 (va_A (wM G a_m a_mfst a_msnd a_mlet a_mmany a_mval a_mord a_mfree a_mcode a_mnext a_mcom a_mmet c_sort c_cnt c_frees c_cur c_thr c_fst c_snd c_let c_many c_val c_ord c_free c_code c_next c_com c_met) sz) := by
  refine zMet (Qc := fun (A : Nat → Prop) => va_Qi (fun (r : Int32) (_ : Unit) => r = r0.1 ∧ narrow .boolean (.int r) = .int r) (fun _ t => zB G A (wM G a_m a_mfst a_msnd a_mlet a_mmany a_mval a_mord a_mfree a_mcode a_mnext a_mcom a_mmet c_sort c_cnt c_frees r0.2.1 r0.2.2.1 r0.2.2.2.1 r0.2.2.2.2.1 r0.2.2.2.2.2.1 r0.2.2.2.2.2.2 c_val c_ord c_free c_code c_next c_com c_met) t) A) (by decide) (Nat.le_of_ble_eq_true rfl) (fun xp xe xs xm xb xme xc A ls Q H locs C hN hK hP hD hS hA hl hQ => ?_)
  obtain ⟨hx, hb, hr, hts, hown, hlocks, hml, hin⟩ := C
  have hl : lv_has ls 4 [(0, .ref a_m), (1, .int p_1)] := hl
  have h := hf
  unfold f_Model_seek at h
  refine lv_aload_n hx hb d_Model_seek_0 rfl (lv_at hl 0 rfl) ?_
  refine lv_iload_n hx hb d_Model_seek_1 rfl (lv_at hl 1 rfl) ?_
  obtain ⟨y4, hy4, h⟩ := ob h
  have J15 : ∀ (z6 : Int32), narrow .boolean (.int z6) = .int z6 → z6 = y4 → ∀ (H : Heap) (locs : List Loc) (ls : Array Slot), va_P G.1 classes (wM G a_m a_mfst a_msnd a_mlet a_mmany a_mval a_mord a_mfree a_mcode a_mnext a_mcom a_mmet c_sort c_cnt c_frees c_cur c_thr c_fst c_snd c_let c_many c_val c_ord c_free c_code c_next c_com c_met) H → va_D A (wM G a_m a_mfst a_msnd a_mlet a_mmany a_mval a_mord a_mfree a_mcode a_mnext a_mcom a_mmet c_sort c_cnt c_frees c_cur c_thr c_fst c_snd c_let c_many c_val c_ord c_free c_code c_next c_com c_met) → va_S A xs.heap H locs → lv_has ls 4 [(0, .ref a_m), (1, .int p_1)] → W xp l xe { frames := 3, cells := 0, slots := 0, locals := 72 } xs xm ([.ref a_m, .int p_1] : List Value).toArray xb xme xc H locs 0 0 Q (F0 xm 15 ls [.int z6, .ref a_m]) := by
    intro z6 hzz6 ey H locs ls hP hD hS hl
    subst ey
    try dsimp only at h
    refine lv_iconst (v := 1) hx hb d_Model_seek_15 (by decide) ?_
    obtain ⟨r7, hr7, h⟩ := ob h
    refine zcalli (wr := []) (w2 := fun _ => (wM G a_m a_mfst a_msnd a_mlet a_mmany a_mval a_mord a_mfree a_mcode a_mnext a_mcom a_mmet c_sort c_cnt c_frees c_cur r7.2 c_fst c_snd c_let c_many c_val c_ord c_free c_code c_next c_com c_met)) (zrunV (As := [.int z6, .int 1]) (rest := []) ⟨hx, hb, hml, hown, hts⟩ hN hK (c_Model_fails l G H.size a_m a_mfst a_msnd a_mlet a_mmany a_mval a_mord a_mfree a_mcode a_mnext a_mcom a_mmet c_sort c_cnt c_frees c_cur c_thr c_fst c_snd c_let c_many c_val c_ord c_free c_code c_next c_com c_met z6 1 hzz6 r7 hr7) ⟨rfl, rfl⟩ kv_Model_70 ⟨Nat.le_of_ble_eq_true rfl, Nat.le_of_ble_eq_true rfl⟩ 0 rfl rfl rfl hl.1 (Nat.le_of_ble_eq_true rfl) d_Model_seek_16 ⟨Nat.le_of_ble_eq_true rfl, Nat.le_of_ble_eq_true rfl⟩) hP hD hS hA [0, 1, 2, 3, 4, 5, 6, 7, 8, 9, 10, 11] [] [0, 1, 2, 3, 4, 5, 6, 7, 8, 9, 10, 11] rfl rfl rfl rfl (by decide) rfl (fun _ => rfl) (fun rr _ H locs hw hP hD hS => ?_)
    obtain ⟨hw, hz8⟩ := hw
    have hw := hw.symm
    subst hw
    refine lv_if_eq (tgt := 24) hx hb d_Model_seek_19 (by decide) (fun q9 => ?_) (fun q9 => ?_)
    · have h := it h q9
      refine lv_aload_n hx hb d_Model_seek_24 rfl (lv_at hl 0 rfl) ?_
      refine lv_sipush (v := 1500) hx hb d_Model_seek_25 (by decide) ?_
      obtain ⟨r10, hr10, h⟩ := ob h
      refine zpcalli (wr := []) (w2 := fun _ => (wM G a_m a_mfst a_msnd a_mlet a_mmany a_mval a_mord a_mfree a_mcode a_mnext a_mcom a_mmet c_sort c_cnt c_frees c_cur r7.2 c_fst c_snd c_let c_many c_val c_ord c_free c_code c_next c_com c_met)) (zrunV (As := [.int 1500]) (rest := []) ⟨hx, hb, hml, hown, hts⟩ hN hK (c_Model_below l G H.size a_m a_mfst a_msnd a_mlet a_mmany a_mval a_mord a_mfree a_mcode a_mnext a_mcom a_mmet c_sort c_cnt c_frees c_cur r7.2 c_fst c_snd c_let c_many c_val c_ord c_free c_code c_next c_com c_met 1500 r10 hr10) ⟨rfl, rfl⟩ kv_Model_83 ⟨Nat.le_of_ble_eq_true rfl, Nat.le_of_ble_eq_true rfl⟩ 0 rfl rfl rfl hl.1 (Nat.le_of_ble_eq_true rfl) d_Model_seek_28 ⟨Nat.le_of_ble_eq_true rfl, Nat.le_of_ble_eq_true rfl⟩) hP hD hS hA [0, 1, 2, 3, 4, 5, 6, 7, 8, 9, 10, 11] [] [0, 1, 2, 3, 4, 5, 6, 7, 8, 9, 10, 11] rfl rfl rfl rfl (by decide) rfl (fun _ => rfl) (fun rr _ H hw hP hD hS => ?_)
      have hw := hw.symm
      subst hw
      refine lv_istore_n (lv' := [(2, .int r10), (0, .ref a_m), (1, .int p_1)]) hx hb d_Model_seek_31 rfl hl (by decide) rfl (fun ls hl => ?_)
      refine lv_aload_n hx hb d_Model_seek_32 rfl (lv_at hl 1 rfl) ?_
      refine lv_iload_n hx hb d_Model_seek_33 rfl (lv_at hl 0 rfl) ?_
      refine lv_sipush (v := 1500) hx hb d_Model_seek_34 (by decide) ?_
      obtain ⟨r11, hr11, h⟩ := ob h
      refine zpcalli (wr := []) (w2 := fun _ => (wM G a_m a_mfst a_msnd a_mlet a_mmany a_mval a_mord a_mfree a_mcode a_mnext a_mcom a_mmet c_sort c_cnt c_frees c_cur r7.2 c_fst c_snd c_let c_many c_val c_ord c_free c_code c_next c_com c_met)) (zrunV (As := [.int r10, .int 1500]) (rest := []) ⟨hx, hb, hml, hown, hts⟩ hN hK (c_Model_isAt l G H.size a_m a_mfst a_msnd a_mlet a_mmany a_mval a_mord a_mfree a_mcode a_mnext a_mcom a_mmet c_sort c_cnt c_frees c_cur r7.2 c_fst c_snd c_let c_many c_val c_ord c_free c_code c_next c_com c_met r10 1500 r11 hr11) ⟨rfl, rfl⟩ kv_Model_87 ⟨Nat.le_of_ble_eq_true rfl, Nat.le_of_ble_eq_true rfl⟩ 0 rfl rfl rfl hl.1 (Nat.le_of_ble_eq_true rfl) d_Model_seek_37 ⟨Nat.le_of_ble_eq_true rfl, Nat.le_of_ble_eq_true rfl⟩) hP hD hS hA [0, 1, 2, 3, 4, 5, 6, 7, 8, 9, 10, 11] [] [0, 1, 2, 3, 4, 5, 6, 7, 8, 9, 10, 11] rfl rfl rfl rfl (by decide) rfl (fun _ => rfl) (fun rr _ H hw hP hD hS => ?_)
      obtain ⟨hw, hz12⟩ := hw
      have hw := hw.symm
      subst hw
      refine lv_istore_n (lv' := [(3, .int r11), (2, .int r10), (0, .ref a_m), (1, .int p_1)]) hx hb d_Model_seek_40 rfl hl (by decide) rfl (fun ls hl => ?_)
      refine lv_iload_n hx hb d_Model_seek_41 rfl (lv_at hl 3 rfl) ?_
      by_cases q13 : p_1 = 0
      · have h := it h q13
        refine lv_tableIn (tgt := 76) hx hb d_Model_seek_42 (by rw [q13]; decide) (by rw [q13]; decide) (by rw [q13]; rfl) (by decide) ?_
        refine lv_aload_n hx hb d_Model_seek_76 rfl (lv_at hl 2 rfl) ?_
        refine lv_iload_n hx hb d_Model_seek_77 rfl (lv_at hl 0 rfl) ?_
        obtain ⟨y16, hy16, h⟩ := ob h
        have J88 : ∀ (z18 : Int32), z18 = y16 → ∀ (H : Heap) (locs : List Loc) (ls : Array Slot), va_P G.1 classes (wM G a_m a_mfst a_msnd a_mlet a_mmany a_mval a_mord a_mfree a_mcode a_mnext a_mcom a_mmet c_sort c_cnt c_frees c_cur r7.2 c_fst c_snd c_let c_many c_val c_ord c_free c_code c_next c_com c_met) H → va_D A (wM G a_m a_mfst a_msnd a_mlet a_mmany a_mval a_mord a_mfree a_mcode a_mnext a_mcom a_mmet c_sort c_cnt c_frees c_cur r7.2 c_fst c_snd c_let c_many c_val c_ord c_free c_code c_next c_com c_met) → va_S A xs.heap H locs → lv_has ls 4 [] → W xp l xe { frames := 3, cells := 0, slots := 0, locals := 72 } xs xm ([.ref a_m, .int p_1] : List Value).toArray xb xme xc H locs 0 0 Q (F0 xm 88 ls [.int z18, .ref a_m]) := by
          intro z18 ey H locs ls hP hD hS hl
          subst ey
          try dsimp only at h
          obtain ⟨r19, hr19, h⟩ := ob h
          refine zcalli (wr := []) (w2 := fun _ => (wM G a_m a_mfst a_msnd a_mlet a_mmany a_mval a_mord a_mfree a_mcode a_mnext a_mcom a_mmet c_sort c_cnt c_frees r19.2.1 r7.2 r19.2.2.1 r19.2.2.2.1 r19.2.2.2.2.1 r19.2.2.2.2.2 c_val c_ord c_free c_code c_next c_com c_met)) (zrunV (As := [.int z18]) (rest := []) ⟨hx, hb, hml, hown, hts⟩ hN hK (c_Model_goes l G H.size a_m a_mfst a_msnd a_mlet a_mmany a_mval a_mord a_mfree a_mcode a_mnext a_mcom a_mmet c_sort c_cnt c_frees c_cur r7.2 c_fst c_snd c_let c_many c_val c_ord c_free c_code c_next c_com c_met z18 r19 hr19) ⟨rfl, rfl⟩ kv_Model_98 ⟨Nat.le_of_ble_eq_true rfl, Nat.le_of_ble_eq_true rfl⟩ 0 rfl rfl rfl hl.1 (Nat.le_of_ble_eq_true rfl) d_Model_seek_88 ⟨Nat.le_of_ble_eq_true rfl, Nat.le_of_ble_eq_true rfl⟩) hP hD hS hA [0, 1, 2, 3, 4, 5, 6, 7, 8, 9, 10, 11] [] [0, 1, 2, 3, 4, 5, 6, 7, 8, 9, 10, 11] rfl rfl rfl rfl (by decide) rfl (fun _ => rfl) (fun rr _ H locs hw hP hD hS => ?_)
          obtain ⟨hw, hz20⟩ := hw
          have hw := hw.symm
          subst hw
          obtain rfl := Option.some.inj h
          exact zretz () hQ hS.2.2 hx hb hr hlocks hP hD hS ⟨rfl, hz20⟩ (Nat.le_refl _) (Nat.le_refl _) d_Model_seek_91 hz20
        have h := hy16
        refine lv_if_eq (tgt := 85) hx hb d_Model_seek_78 (by decide) (fun q15 => ?_) (fun q15 => ?_)
        · have h := it h q15
          refine lv_iload_n hx hb d_Model_seek_85 rfl (lv_at hl 1 rfl) ?_
          refine lv_iconst (v := 1) hx hb d_Model_seek_86 (by decide) ?_
          refine lv_isub hx hb d_Model_seek_87 ?_
          exact J88 (r10 - 1) (Option.some.inj h) H locs ls hP hD hS (lv_sub hl [] rfl)
        · have h := ie h q15
          refine lv_iload_n hx hb d_Model_seek_81 rfl (lv_at hl 1 rfl) ?_
          refine lv_goto (tgt := 88) hx hb d_Model_seek_82 (by decide) ?_
          exact J88 r10 (Option.some.inj h) H locs ls hP hD hS (lv_sub hl [] rfl)
      have h := ie h q13
      by_cases q21 : p_1 = 1
      · have h := it h q21
        refine lv_tableIn (tgt := 92) hx hb d_Model_seek_42 (by rw [q21]; decide) (by rw [q21]; decide) (by rw [q21]; rfl) (by decide) ?_
        refine lv_aload_n hx hb d_Model_seek_92 rfl (lv_at hl 2 rfl) ?_
        refine lv_iload_n hx hb d_Model_seek_93 rfl (lv_at hl 1 rfl) ?_
        obtain ⟨r22, hr22, h⟩ := ob h
        refine zcalli (wr := []) (w2 := fun _ => (wM G a_m a_mfst a_msnd a_mlet a_mmany a_mval a_mord a_mfree a_mcode a_mnext a_mcom a_mmet c_sort c_cnt c_frees r22.2.1 r7.2 r22.2.2.1 r22.2.2.2.1 r22.2.2.2.2.1 r22.2.2.2.2.2 c_val c_ord c_free c_code c_next c_com c_met)) (zrunV (As := [.int r10]) (rest := []) ⟨hx, hb, hml, hown, hts⟩ hN hK (c_Model_goes l G H.size a_m a_mfst a_msnd a_mlet a_mmany a_mval a_mord a_mfree a_mcode a_mnext a_mcom a_mmet c_sort c_cnt c_frees c_cur r7.2 c_fst c_snd c_let c_many c_val c_ord c_free c_code c_next c_com c_met r10 r22 hr22) ⟨rfl, rfl⟩ kv_Model_98 ⟨Nat.le_of_ble_eq_true rfl, Nat.le_of_ble_eq_true rfl⟩ 0 rfl rfl rfl hl.1 (Nat.le_of_ble_eq_true rfl) d_Model_seek_94 ⟨Nat.le_of_ble_eq_true rfl, Nat.le_of_ble_eq_true rfl⟩) hP hD hS hA [0, 1, 2, 3, 4, 5, 6, 7, 8, 9, 10, 11] [] [0, 1, 2, 3, 4, 5, 6, 7, 8, 9, 10, 11] rfl rfl rfl rfl (by decide) rfl (fun _ => rfl) (fun rr _ H locs hw hP hD hS => ?_)
        obtain ⟨hw, hz23⟩ := hw
        have hw := hw.symm
        subst hw
        obtain rfl := Option.some.inj h
        exact zretz () hQ hS.2.2 hx hb hr hlocks hP hD hS ⟨rfl, hz23⟩ (Nat.le_refl _) (Nat.le_refl _) d_Model_seek_97 hz23
      have h := ie h q21
      by_cases q24 : p_1 = 2
      · have h := it h q24
        refine lv_tableIn (tgt := 98) hx hb d_Model_seek_42 (by rw [q24]; decide) (by rw [q24]; decide) (by rw [q24]; rfl) (by decide) ?_
        refine lv_aload_n hx hb d_Model_seek_98 rfl (lv_at hl 2 rfl) ?_
        refine lv_iload_n hx hb d_Model_seek_99 rfl (lv_at hl 1 rfl) ?_
        refine lv_iconst (v := 1) hx hb d_Model_seek_100 (by decide) ?_
        refine lv_isub hx hb d_Model_seek_101 ?_
        obtain ⟨r25, hr25, h⟩ := ob h
        refine zcalli (wr := []) (w2 := fun _ => (wM G a_m a_mfst a_msnd a_mlet a_mmany a_mval a_mord a_mfree a_mcode a_mnext a_mcom a_mmet c_sort c_cnt c_frees r25.2.1 r7.2 r25.2.2.1 r25.2.2.2.1 r25.2.2.2.2.1 r25.2.2.2.2.2 c_val c_ord c_free c_code c_next c_com c_met)) (zrunV (As := [.int (r10 - 1)]) (rest := []) ⟨hx, hb, hml, hown, hts⟩ hN hK (c_Model_goes l G H.size a_m a_mfst a_msnd a_mlet a_mmany a_mval a_mord a_mfree a_mcode a_mnext a_mcom a_mmet c_sort c_cnt c_frees c_cur r7.2 c_fst c_snd c_let c_many c_val c_ord c_free c_code c_next c_com c_met (r10 - 1) r25 hr25) ⟨rfl, rfl⟩ kv_Model_98 ⟨Nat.le_of_ble_eq_true rfl, Nat.le_of_ble_eq_true rfl⟩ 0 rfl rfl rfl hl.1 (Nat.le_of_ble_eq_true rfl) d_Model_seek_102 ⟨Nat.le_of_ble_eq_true rfl, Nat.le_of_ble_eq_true rfl⟩) hP hD hS hA [0, 1, 2, 3, 4, 5, 6, 7, 8, 9, 10, 11] [] [0, 1, 2, 3, 4, 5, 6, 7, 8, 9, 10, 11] rfl rfl rfl rfl (by decide) rfl (fun _ => rfl) (fun rr _ H locs hw hP hD hS => ?_)
        obtain ⟨hw, hz26⟩ := hw
        have hw := hw.symm
        subst hw
        obtain rfl := Option.some.inj h
        exact zretz () hQ hS.2.2 hx hb hr hlocks hP hD hS ⟨rfl, hz26⟩ (Nat.le_refl _) (Nat.le_refl _) d_Model_seek_105 hz26
      have h := ie h q24
      by_cases q27 : p_1 = 3
      · have h := it h q27
        refine lv_tableIn (tgt := 106) hx hb d_Model_seek_42 (by rw [q27]; decide) (by rw [q27]; decide) (by rw [q27]; rfl) (by decide) ?_
        refine lv_aload_n hx hb d_Model_seek_106 rfl (lv_at hl 2 rfl) ?_
        refine lv_iload_n hx hb d_Model_seek_107 rfl (lv_at hl 0 rfl) ?_
        obtain ⟨y30, hy30, h⟩ := ob h
        have J118 : ∀ (z32 : Int32), z32 = y30 → ∀ (H : Heap) (locs : List Loc) (ls : Array Slot), va_P G.1 classes (wM G a_m a_mfst a_msnd a_mlet a_mmany a_mval a_mord a_mfree a_mcode a_mnext a_mcom a_mmet c_sort c_cnt c_frees c_cur r7.2 c_fst c_snd c_let c_many c_val c_ord c_free c_code c_next c_com c_met) H → va_D A (wM G a_m a_mfst a_msnd a_mlet a_mmany a_mval a_mord a_mfree a_mcode a_mnext a_mcom a_mmet c_sort c_cnt c_frees c_cur r7.2 c_fst c_snd c_let c_many c_val c_ord c_free c_code c_next c_com c_met) → va_S A xs.heap H locs → lv_has ls 4 [] → W xp l xe { frames := 3, cells := 0, slots := 0, locals := 72 } xs xm ([.ref a_m, .int p_1] : List Value).toArray xb xme xc H locs 0 0 Q (F0 xm 118 ls [.int z32, .ref a_m]) := by
          intro z32 ey H locs ls hP hD hS hl
          subst ey
          try dsimp only at h
          obtain ⟨r33, hr33, h⟩ := ob h
          refine zcalli (wr := []) (w2 := fun _ => (wM G a_m a_mfst a_msnd a_mlet a_mmany a_mval a_mord a_mfree a_mcode a_mnext a_mcom a_mmet c_sort c_cnt c_frees r33.2.1 r7.2 r33.2.2.1 r33.2.2.2.1 r33.2.2.2.2.1 r33.2.2.2.2.2 c_val c_ord c_free c_code c_next c_com c_met)) (zrunV (As := [.int z32]) (rest := []) ⟨hx, hb, hml, hown, hts⟩ hN hK (c_Model_goes l G H.size a_m a_mfst a_msnd a_mlet a_mmany a_mval a_mord a_mfree a_mcode a_mnext a_mcom a_mmet c_sort c_cnt c_frees c_cur r7.2 c_fst c_snd c_let c_many c_val c_ord c_free c_code c_next c_com c_met z32 r33 hr33) ⟨rfl, rfl⟩ kv_Model_98 ⟨Nat.le_of_ble_eq_true rfl, Nat.le_of_ble_eq_true rfl⟩ 0 rfl rfl rfl hl.1 (Nat.le_of_ble_eq_true rfl) d_Model_seek_118 ⟨Nat.le_of_ble_eq_true rfl, Nat.le_of_ble_eq_true rfl⟩) hP hD hS hA [0, 1, 2, 3, 4, 5, 6, 7, 8, 9, 10, 11] [] [0, 1, 2, 3, 4, 5, 6, 7, 8, 9, 10, 11] rfl rfl rfl rfl (by decide) rfl (fun _ => rfl) (fun rr _ H locs hw hP hD hS => ?_)
          obtain ⟨hw, hz34⟩ := hw
          have hw := hw.symm
          subst hw
          obtain rfl := Option.some.inj h
          exact zretz () hQ hS.2.2 hx hb hr hlocks hP hD hS ⟨rfl, hz34⟩ (Nat.le_refl _) (Nat.le_refl _) d_Model_seek_121 hz34
        have h := hy30
        refine lv_if_eq (tgt := 117) hx hb d_Model_seek_108 (by decide) (fun q29 => ?_) (fun q29 => ?_)
        · have h := it h q29
          refine lv_iload_n hx hb d_Model_seek_117 rfl (lv_at hl 1 rfl) ?_
          exact J118 r10 (Option.some.inj h) H locs ls hP hD hS (lv_sub hl [] rfl)
        · have h := ie h q29
          refine lv_iload_n hx hb d_Model_seek_111 rfl (lv_at hl 1 rfl) ?_
          refine lv_iconst (v := 1) hx hb d_Model_seek_112 (by decide) ?_
          refine lv_iadd hx hb d_Model_seek_113 ?_
          refine lv_goto (tgt := 118) hx hb d_Model_seek_114 (by decide) ?_
          exact J118 (r10 + 1) (Option.some.inj h) H locs ls hP hD hS (lv_sub hl [] rfl)
      have h := ie h q27
      by_cases q35 : p_1 = 4
      · have h := it h q35
        refine lv_tableIn (tgt := 122) hx hb d_Model_seek_42 (by rw [q35]; decide) (by rw [q35]; decide) (by rw [q35]; rfl) (by decide) ?_
        refine lv_aload_n hx hb d_Model_seek_122 rfl (lv_at hl 2 rfl) ?_
        refine lv_iconst (v := 0) hx hb d_Model_seek_123 (by decide) ?_
        obtain ⟨r36, hr36, h⟩ := ob h
        refine zcalli (wr := []) (w2 := fun _ => (wM G a_m a_mfst a_msnd a_mlet a_mmany a_mval a_mord a_mfree a_mcode a_mnext a_mcom a_mmet c_sort c_cnt c_frees r36.2.1 r7.2 r36.2.2.1 r36.2.2.2.1 r36.2.2.2.2.1 r36.2.2.2.2.2 c_val c_ord c_free c_code c_next c_com c_met)) (zrunV (As := [.int 0]) (rest := []) ⟨hx, hb, hml, hown, hts⟩ hN hK (c_Model_goes l G H.size a_m a_mfst a_msnd a_mlet a_mmany a_mval a_mord a_mfree a_mcode a_mnext a_mcom a_mmet c_sort c_cnt c_frees c_cur r7.2 c_fst c_snd c_let c_many c_val c_ord c_free c_code c_next c_com c_met 0 r36 hr36) ⟨rfl, rfl⟩ kv_Model_98 ⟨Nat.le_of_ble_eq_true rfl, Nat.le_of_ble_eq_true rfl⟩ 0 rfl rfl rfl hl.1 (Nat.le_of_ble_eq_true rfl) d_Model_seek_124 ⟨Nat.le_of_ble_eq_true rfl, Nat.le_of_ble_eq_true rfl⟩) hP hD hS hA [0, 1, 2, 3, 4, 5, 6, 7, 8, 9, 10, 11] [] [0, 1, 2, 3, 4, 5, 6, 7, 8, 9, 10, 11] rfl rfl rfl rfl (by decide) rfl (fun _ => rfl) (fun rr _ H locs hw hP hD hS => ?_)
        obtain ⟨hw, hz37⟩ := hw
        have hw := hw.symm
        subst hw
        obtain rfl := Option.some.inj h
        exact zretz () hQ hS.2.2 hx hb hr hlocks hP hD hS ⟨rfl, hz37⟩ (Nat.le_refl _) (Nat.le_refl _) d_Model_seek_127 hz37
      have h := ie h q35
      refine lv_tableOut (tgt := 128) hx hb d_Model_seek_42 (zsw_out 0 4 (by decide) (by decide) (by decide) (fun j h1 h2 => by rcases (show j = 0 ∨ j = 1 ∨ j = 2 ∨ j = 3 ∨ j = 4 by omega) with rfl | rfl | rfl | rfl | rfl <;> assumption)) (by decide) ?_
      refine lv_aload_n hx hb d_Model_seek_128 rfl (lv_at hl 2 rfl) ?_
      refine lv_aload_n hx hb d_Model_seek_129 rfl (lv_at hl 2 rfl) ?_
      refine va_get (D := G.1) (ci := 6) (v := .int c_cnt) (C := "BranchStoreModel") (T := F_Model) (N := 16) hx hb hts i_Model hown hK hP 0 rfl rfl 7 (by decide) (hts _ k_777) (fun _ h9 => h9) rfl d_Model_seek_130 ?_
      refine lv_iconst (v := 1) hx hb d_Model_seek_133 (by decide) ?_
      refine lv_isub hx hb d_Model_seek_134 ?_
      obtain ⟨r38, hr38, h⟩ := ob h
      refine zcalli (wr := []) (w2 := fun _ => (wM G a_m a_mfst a_msnd a_mlet a_mmany a_mval a_mord a_mfree a_mcode a_mnext a_mcom a_mmet c_sort c_cnt c_frees r38.2.1 r7.2 r38.2.2.1 r38.2.2.2.1 r38.2.2.2.2.1 r38.2.2.2.2.2 c_val c_ord c_free c_code c_next c_com c_met)) (zrunV (As := [.int (c_cnt - 1)]) (rest := []) ⟨hx, hb, hml, hown, hts⟩ hN hK (c_Model_goes l G H.size a_m a_mfst a_msnd a_mlet a_mmany a_mval a_mord a_mfree a_mcode a_mnext a_mcom a_mmet c_sort c_cnt c_frees c_cur r7.2 c_fst c_snd c_let c_many c_val c_ord c_free c_code c_next c_com c_met (c_cnt - 1) r38 hr38) ⟨rfl, rfl⟩ kv_Model_98 ⟨Nat.le_of_ble_eq_true rfl, Nat.le_of_ble_eq_true rfl⟩ 0 rfl rfl rfl hl.1 (Nat.le_of_ble_eq_true rfl) d_Model_seek_135 ⟨Nat.le_of_ble_eq_true rfl, Nat.le_of_ble_eq_true rfl⟩) hP hD hS hA [0, 1, 2, 3, 4, 5, 6, 7, 8, 9, 10, 11] [] [0, 1, 2, 3, 4, 5, 6, 7, 8, 9, 10, 11] rfl rfl rfl rfl (by decide) rfl (fun _ => rfl) (fun rr _ H locs hw hP hD hS => ?_)
      obtain ⟨hw, hz39⟩ := hw
      have hw := hw.symm
      subst hw
      obtain rfl := Option.some.inj h
      exact zretz () hQ hS.2.2 hx hb hr hlocks hP hD hS ⟨rfl, hz39⟩ (Nat.le_refl _) (Nat.le_refl _) d_Model_seek_138 hz39
    · have h := ie h q9
      refine lv_iconst (v := 0) hx hb d_Model_seek_22 (by decide) ?_
      obtain rfl := Option.some.inj h
      exact zretz () hQ hS.2.2 hx hb hr hlocks hP hD hS ⟨rfl, rfl⟩ (Nat.le_refl _) (Nat.le_refl _) d_Model_seek_23 rfl
  have h := hy4
  refine lv_if_lt (tgt := 10) hx hb d_Model_seek_2 (by decide) (fun q2 => ?_) (fun q2 => ?_)
  · have h := it h q2
    refine lv_iconst (v := 1) hx hb d_Model_seek_10 (by decide) ?_
    refine lv_goto (tgt := 15) hx hb d_Model_seek_11 (by decide) ?_
    exact J15 1 rfl (Option.some.inj h) H locs ls hP hD hS (lv_sub hl [0, 1] rfl)
  · have h := ie h q2
    refine lv_iload_n hx hb d_Model_seek_5 rfl (lv_at hl 1 rfl) ?_
    refine lv_iconst (v := 5) hx hb d_Model_seek_6 (by decide) ?_
    refine lv_icmp_le (tgt := 14) hx hb d_Model_seek_7 (by decide) (fun q3 => ?_) (fun q3 => ?_)
    · have h := it h q3
      refine lv_iconst (v := 0) hx hb d_Model_seek_14 (by decide) ?_
      exact J15 0 rfl (Option.some.inj h) H locs ls hP hD hS (lv_sub hl [0, 1] rfl)
    · have h := ie h q3
      refine lv_iconst (v := 1) hx hb d_Model_seek_10 (by decide) ?_
      refine lv_goto (tgt := 15) hx hb d_Model_seek_11 (by decide) ?_
      exact J15 1 rfl (Option.some.inj h) H locs ls hP hD hS (lv_sub hl [0, 1] rfl)

noncomputable def f_Model_move (c_sort : Int32) (c_cnt : Int32) (c_cur : Int32) (c_thr : Int32) (c_fst : (Nat → Int64)) (c_snd : (Nat → Int64)) (c_let : (Nat → Int32)) (c_many : (Nat → Int32)) (c_ord : (Nat → Int32)) (p_1 : Int32) : Option (Int32 × Int32 × Int32 × (Nat → Int64) × (Nat → Int64) × (Nat → Int32) × (Nat → Int32)) :=
(if c_cur = 0 then
(some 1)
else
(some 0)).bind fun y4 =>
(f_Model_fails c_thr y4 1).bind fun r6 =>
if r6.1 = 0 then
((f_Model_below c_sort c_cnt c_fst c_snd c_let c_many c_ord 1502).bind fun r9 =>
(if p_1 = 0 then
(some (r9 - 1))
else
((f_Model_isAt c_sort c_cnt c_fst c_snd c_let c_many c_ord r9 1502).bind fun r12 =>
if r12 = 0 then
(some r9)
else
(some (r9 + 1)))).bind fun y16 =>
(f_Model_goes c_cnt c_cur c_fst c_snd c_let c_many c_ord y16).bind fun r18 =>
some (r18.1, r18.2.1, r6.2, r18.2.2.1, r18.2.2.2.1, r18.2.2.2.2.1, r18.2.2.2.2.2))
else
(some (0, c_cur, r6.2, c_fst, c_snd, c_let, c_many))
set_option maxHeartbeats 8000000 in
set_option maxRecDepth 100000 in
theorem c_Model_move (l : Launch) (G : zG) (sz : Nat) (a_m a_mfst a_msnd a_mlet a_mmany a_mval a_mord a_mfree a_mcode a_mnext a_mcom a_mmet : Nat) (c_sort : Int32) (c_cnt : Int32) (c_frees : Int32) (c_cur : Int32) (c_thr : Int32) (c_fst : (Nat → Int64)) (c_snd : (Nat → Int64)) (c_let : (Nat → Int32)) (c_many : (Nat → Int32)) (c_val : (Nat → Int64)) (c_ord : (Nat → Int32)) (c_free : (Nat → Int32)) (c_code : (Nat → Int32)) (c_next : (Nat → Int32)) (c_com : (Nat → Int32)) (c_met : (Nat → Int32)) (p_1 : Int32) (b_1 : narrow .boolean (.int p_1) = .int p_1) (r0 : (Int32 × Int32 × Int32 × (Nat → Int64) × (Nat → Int64) × (Nat → Int32) × (Nat → Int32))) (hf : f_Model_move c_sort c_cnt c_cur c_thr c_fst c_snd c_let c_many c_ord p_1 = some r0) :
    Met l y_Model_move (Cond.code y_Model_move prog_9_method_23_code 3 (some .boolean) :: lw_ok) { frames := 3, cells := 0, slots := 0, locals := 72 } (zPc G sz [.ref a_m, .int p_1] (wM G a_m a_mfst a_msnd a_mlet a_mmany a_mval a_mord a_mfree a_mcode a_mnext a_mcom a_mmet c_sort c_cnt c_frees c_cur c_thr c_fst c_snd c_let c_many c_val c_ord c_free c_code c_next c_com c_met))
      ((fun (A : Nat → Prop) => va_Qi (fun (r : Int32) (_ : Unit) => r = r0.1 ∧ narrow .boolean (.int r) = .int r) (fun _ t => zB G A (wM G a_m a_mfst a_msnd a_mlet a_mmany a_mval a_mord a_mfree a_mcode a_mnext a_mcom a_mmet c_sort c_cnt c_frees r0.2.1 r0.2.2.1 r0.2.2.2.1 r0.2.2.2.2.1 r0.2.2.2.2.2.1 r0.2.2.2.2.2.2 c_val c_ord c_free c_code c_next c_com c_met) t) A) (va_A (wM G a_m a_mfst a_msnd a_mlet a_mmany a_mval a_mord a_mfree a_mcode a_mnext a_mcom a_mmet c_sort c_cnt c_frees c_cur c_thr c_fst c_snd c_let c_many c_val c_ord c_free c_code c_next c_com c_met) sz)) 0 0 (va_A (wM G a_m a_mfst a_msnd a_mlet a_mmany a_mval a_mord a_mfree a_mcode a_mnext a_mcom a_mmet c_sort c_cnt c_frees c_cur c_thr c_fst c_snd c_let c_many c_val c_ord c_free c_code c_next c_com c_met) sz) := by
  refine zMet (Qc := fun (A : Nat → Prop) => va_Qi (fun (r : Int32) (_ : Unit) => r = r0.1 ∧ narrow .boolean (.int r) = .int r) (fun _ t => zB G A (wM G a_m a_mfst a_msnd a_mlet a_mmany a_mval a_mord a_mfree a_mcode a_mnext a_mcom a_mmet c_sort c_cnt c_frees r0.2.1 r0.2.2.1 r0.2.2.2.1 r0.2.2.2.2.1 r0.2.2.2.2.2.1 r0.2.2.2.2.2.2 c_val c_ord c_free c_code c_next c_com c_met) t) A) (by decide) (Nat.le_of_ble_eq_true rfl) (fun xp xe xs xm xb xme xc A ls Q H locs C hN hK hP hD hS hA hl hQ => ?_)
  obtain ⟨hx, hb, hr, hts, hown, hlocks, hml, hin⟩ := C
  have hl : lv_has ls 3 [(0, .ref a_m), (1, .int p_1)] := hl
  have h := hf
  unfold f_Model_move at h
  refine lv_aload_n hx hb d_Model_move_0 rfl (lv_at hl 0 rfl) ?_
  refine lv_aload_n hx hb d_Model_move_1 rfl (lv_at hl 0 rfl) ?_
  refine va_get (D := G.1) (ci := 6) (v := .int c_cur) (C := "BranchStoreModel") (T := F_Model) (N := 16) hx hb hts i_Model hown hK hP 0 rfl rfl 10 (by decide) (hts _ k_780) (fun _ h9 => h9) rfl d_Model_move_2 ?_
  obtain ⟨y3, hy3, h⟩ := ob h
  have J13 : ∀ (z5 : Int32), narrow .boolean (.int z5) = .int z5 → z5 = y3 → ∀ (H : Heap) (locs : List Loc) (ls : Array Slot), va_P G.1 classes (wM G a_m a_mfst a_msnd a_mlet a_mmany a_mval a_mord a_mfree a_mcode a_mnext a_mcom a_mmet c_sort c_cnt c_frees c_cur c_thr c_fst c_snd c_let c_many c_val c_ord c_free c_code c_next c_com c_met) H → va_D A (wM G a_m a_mfst a_msnd a_mlet a_mmany a_mval a_mord a_mfree a_mcode a_mnext a_mcom a_mmet c_sort c_cnt c_frees c_cur c_thr c_fst c_snd c_let c_many c_val c_ord c_free c_code c_next c_com c_met) → va_S A xs.heap H locs → lv_has ls 3 [(0, .ref a_m), (1, .int p_1)] → W xp l xe { frames := 3, cells := 0, slots := 0, locals := 72 } xs xm ([.ref a_m, .int p_1] : List Value).toArray xb xme xc H locs 0 0 Q (F0 xm 13 ls [.int z5, .ref a_m]) := by
    intro z5 hzz5 ey H locs ls hP hD hS hl
    subst ey
    try dsimp only at h
    refine lv_iconst (v := 1) hx hb d_Model_move_13 (by decide) ?_
    obtain ⟨r6, hr6, h⟩ := ob h
    refine zcalli (wr := []) (w2 := fun _ => (wM G a_m a_mfst a_msnd a_mlet a_mmany a_mval a_mord a_mfree a_mcode a_mnext a_mcom a_mmet c_sort c_cnt c_frees c_cur r6.2 c_fst c_snd c_let c_many c_val c_ord c_free c_code c_next c_com c_met)) (zrunV (As := [.int z5, .int 1]) (rest := []) ⟨hx, hb, hml, hown, hts⟩ hN hK (c_Model_fails l G H.size a_m a_mfst a_msnd a_mlet a_mmany a_mval a_mord a_mfree a_mcode a_mnext a_mcom a_mmet c_sort c_cnt c_frees c_cur c_thr c_fst c_snd c_let c_many c_val c_ord c_free c_code c_next c_com c_met z5 1 hzz5 r6 hr6) ⟨rfl, rfl⟩ kv_Model_70 ⟨Nat.le_of_ble_eq_true rfl, Nat.le_of_ble_eq_true rfl⟩ 0 rfl rfl rfl hl.1 (Nat.le_of_ble_eq_true rfl) d_Model_move_14 ⟨Nat.le_of_ble_eq_true rfl, Nat.le_of_ble_eq_true rfl⟩) hP hD hS hA [0, 1, 2, 3, 4, 5, 6, 7, 8, 9, 10, 11] [] [0, 1, 2, 3, 4, 5, 6, 7, 8, 9, 10, 11] rfl rfl rfl rfl (by decide) rfl (fun _ => rfl) (fun rr _ H locs hw hP hD hS => ?_)
    obtain ⟨hw, hz7⟩ := hw
    have hw := hw.symm
    subst hw
    refine lv_if_eq (tgt := 22) hx hb d_Model_move_17 (by decide) (fun q8 => ?_) (fun q8 => ?_)
    · have h := it h q8
      refine lv_aload_n hx hb d_Model_move_22 rfl (lv_at hl 0 rfl) ?_
      refine lv_sipush (v := 1502) hx hb d_Model_move_23 (by decide) ?_
      obtain ⟨r9, hr9, h⟩ := ob h
      refine zpcalli (wr := []) (w2 := fun _ => (wM G a_m a_mfst a_msnd a_mlet a_mmany a_mval a_mord a_mfree a_mcode a_mnext a_mcom a_mmet c_sort c_cnt c_frees c_cur r6.2 c_fst c_snd c_let c_many c_val c_ord c_free c_code c_next c_com c_met)) (zrunV (As := [.int 1502]) (rest := []) ⟨hx, hb, hml, hown, hts⟩ hN hK (c_Model_below l G H.size a_m a_mfst a_msnd a_mlet a_mmany a_mval a_mord a_mfree a_mcode a_mnext a_mcom a_mmet c_sort c_cnt c_frees c_cur r6.2 c_fst c_snd c_let c_many c_val c_ord c_free c_code c_next c_com c_met 1502 r9 hr9) ⟨rfl, rfl⟩ kv_Model_83 ⟨Nat.le_of_ble_eq_true rfl, Nat.le_of_ble_eq_true rfl⟩ 0 rfl rfl rfl hl.1 (Nat.le_of_ble_eq_true rfl) d_Model_move_26 ⟨Nat.le_of_ble_eq_true rfl, Nat.le_of_ble_eq_true rfl⟩) hP hD hS hA [0, 1, 2, 3, 4, 5, 6, 7, 8, 9, 10, 11] [] [0, 1, 2, 3, 4, 5, 6, 7, 8, 9, 10, 11] rfl rfl rfl rfl (by decide) rfl (fun _ => rfl) (fun rr _ H hw hP hD hS => ?_)
      have hw := hw.symm
      subst hw
      refine lv_istore_n (lv' := [(2, .int r9), (0, .ref a_m), (1, .int p_1)]) hx hb d_Model_move_29 rfl hl (by decide) rfl (fun ls hl => ?_)
      refine lv_aload_n hx hb d_Model_move_30 rfl (lv_at hl 1 rfl) ?_
      refine lv_iload_n hx hb d_Model_move_31 rfl (lv_at hl 2 rfl) ?_
      obtain ⟨y15, hy15, h⟩ := ob h
      have J59 : ∀ (z17 : Int32), z17 = y15 → ∀ (H : Heap) (locs : List Loc) (ls : Array Slot), va_P G.1 classes (wM G a_m a_mfst a_msnd a_mlet a_mmany a_mval a_mord a_mfree a_mcode a_mnext a_mcom a_mmet c_sort c_cnt c_frees c_cur r6.2 c_fst c_snd c_let c_many c_val c_ord c_free c_code c_next c_com c_met) H → va_D A (wM G a_m a_mfst a_msnd a_mlet a_mmany a_mval a_mord a_mfree a_mcode a_mnext a_mcom a_mmet c_sort c_cnt c_frees c_cur r6.2 c_fst c_snd c_let c_many c_val c_ord c_free c_code c_next c_com c_met) → va_S A xs.heap H locs → lv_has ls 3 [] → W xp l xe { frames := 3, cells := 0, slots := 0, locals := 72 } xs xm ([.ref a_m, .int p_1] : List Value).toArray xb xme xc H locs 0 0 Q (F0 xm 59 ls [.int z17, .ref a_m]) := by
        intro z17 ey H locs ls hP hD hS hl
        subst ey
        try dsimp only at h
        obtain ⟨r18, hr18, h⟩ := ob h
        refine zcalli (wr := []) (w2 := fun _ => (wM G a_m a_mfst a_msnd a_mlet a_mmany a_mval a_mord a_mfree a_mcode a_mnext a_mcom a_mmet c_sort c_cnt c_frees r18.2.1 r6.2 r18.2.2.1 r18.2.2.2.1 r18.2.2.2.2.1 r18.2.2.2.2.2 c_val c_ord c_free c_code c_next c_com c_met)) (zrunV (As := [.int z17]) (rest := []) ⟨hx, hb, hml, hown, hts⟩ hN hK (c_Model_goes l G H.size a_m a_mfst a_msnd a_mlet a_mmany a_mval a_mord a_mfree a_mcode a_mnext a_mcom a_mmet c_sort c_cnt c_frees c_cur r6.2 c_fst c_snd c_let c_many c_val c_ord c_free c_code c_next c_com c_met z17 r18 hr18) ⟨rfl, rfl⟩ kv_Model_98 ⟨Nat.le_of_ble_eq_true rfl, Nat.le_of_ble_eq_true rfl⟩ 0 rfl rfl rfl hl.1 (Nat.le_of_ble_eq_true rfl) d_Model_move_59 ⟨Nat.le_of_ble_eq_true rfl, Nat.le_of_ble_eq_true rfl⟩) hP hD hS hA [0, 1, 2, 3, 4, 5, 6, 7, 8, 9, 10, 11] [] [0, 1, 2, 3, 4, 5, 6, 7, 8, 9, 10, 11] rfl rfl rfl rfl (by decide) rfl (fun _ => rfl) (fun rr _ H locs hw hP hD hS => ?_)
        obtain ⟨hw, hz19⟩ := hw
        have hw := hw.symm
        subst hw
        obtain rfl := Option.some.inj h
        exact zretz () hQ hS.2.2 hx hb hr hlocks hP hD hS ⟨rfl, hz19⟩ (Nat.le_refl _) (Nat.le_refl _) d_Model_move_62 hz19
      have h := hy15
      refine lv_if_ne (tgt := 41) hx hb d_Model_move_32 (by decide) (fun q11 => ?_) (fun q11 => ?_)
      · have h := ie h q11
        refine lv_aload_n hx hb d_Model_move_41 rfl (lv_at hl 1 rfl) ?_
        refine lv_iload_n hx hb d_Model_move_42 rfl (lv_at hl 0 rfl) ?_
        refine lv_sipush (v := 1502) hx hb d_Model_move_43 (by decide) ?_
        obtain ⟨r12, hr12, h⟩ := ob h
        refine zpcalli (wr := []) (w2 := fun _ => (wM G a_m a_mfst a_msnd a_mlet a_mmany a_mval a_mord a_mfree a_mcode a_mnext a_mcom a_mmet c_sort c_cnt c_frees c_cur r6.2 c_fst c_snd c_let c_many c_val c_ord c_free c_code c_next c_com c_met)) (zrunV (As := [.int r9, .int 1502]) (rest := [.ref a_m]) ⟨hx, hb, hml, hown, hts⟩ hN hK (c_Model_isAt l G H.size a_m a_mfst a_msnd a_mlet a_mmany a_mval a_mord a_mfree a_mcode a_mnext a_mcom a_mmet c_sort c_cnt c_frees c_cur r6.2 c_fst c_snd c_let c_many c_val c_ord c_free c_code c_next c_com c_met r9 1502 r12 hr12) ⟨rfl, rfl⟩ kv_Model_87 ⟨Nat.le_of_ble_eq_true rfl, Nat.le_of_ble_eq_true rfl⟩ 0 rfl rfl rfl hl.1 (Nat.le_of_ble_eq_true rfl) d_Model_move_46 ⟨Nat.le_of_ble_eq_true rfl, Nat.le_of_ble_eq_true rfl⟩) hP hD hS hA [0, 1, 2, 3, 4, 5, 6, 7, 8, 9, 10, 11] [] [0, 1, 2, 3, 4, 5, 6, 7, 8, 9, 10, 11] rfl rfl rfl rfl (by decide) rfl (fun _ => rfl) (fun rr _ H hw hP hD hS => ?_)
        obtain ⟨hw, hz13⟩ := hw
        have hw := hw.symm
        subst hw
        refine lv_if_eq (tgt := 58) hx hb d_Model_move_49 (by decide) (fun q14 => ?_) (fun q14 => ?_)
        · have h := it h q14
          refine lv_iload_n hx hb d_Model_move_58 rfl (lv_at hl 0 rfl) ?_
          exact J59 r9 (Option.some.inj h) H locs ls hP hD hS (lv_sub hl [] rfl)
        · have h := ie h q14
          refine lv_iload_n hx hb d_Model_move_52 rfl (lv_at hl 0 rfl) ?_
          refine lv_iconst (v := 1) hx hb d_Model_move_53 (by decide) ?_
          refine lv_iadd hx hb d_Model_move_54 ?_
          refine lv_goto (tgt := 59) hx hb d_Model_move_55 (by decide) ?_
          exact J59 (r9 + 1) (Option.some.inj h) H locs ls hP hD hS (lv_sub hl [] rfl)
      · have h := it h q11
        refine lv_iload_n hx hb d_Model_move_35 rfl (lv_at hl 0 rfl) ?_
        refine lv_iconst (v := 1) hx hb d_Model_move_36 (by decide) ?_
        refine lv_isub hx hb d_Model_move_37 ?_
        refine lv_goto (tgt := 59) hx hb d_Model_move_38 (by decide) ?_
        exact J59 (r9 - 1) (Option.some.inj h) H locs ls hP hD hS (lv_sub hl [] rfl)
    · have h := ie h q8
      refine lv_iconst (v := 0) hx hb d_Model_move_20 (by decide) ?_
      obtain rfl := Option.some.inj h
      exact zretz () hQ hS.2.2 hx hb hr hlocks hP hD hS ⟨rfl, rfl⟩ (Nat.le_refl _) (Nat.le_refl _) d_Model_move_21 rfl
  have h := hy3
  refine lv_if_ne (tgt := 12) hx hb d_Model_move_5 (by decide) (fun q2 => ?_) (fun q2 => ?_)
  · have h := ie h q2
    refine lv_iconst (v := 0) hx hb d_Model_move_12 (by decide) ?_
    exact J13 0 rfl (Option.some.inj h) H locs ls hP hD hS (lv_sub hl [0, 1] rfl)
  · have h := it h q2
    refine lv_iconst (v := 1) hx hb d_Model_move_8 (by decide) ?_
    refine lv_goto (tgt := 13) hx hb d_Model_move_9 (by decide) ?_
    exact J13 1 rfl (Option.some.inj h) H locs ls hP hD hS (lv_sub hl [0, 1] rfl)

noncomputable def f_Model_there (c_sort : Int32) (c_cnt : Int32) (c_cur : Int32) (c_thr : Int32) (c_fst : (Nat → Int64)) (c_snd : (Nat → Int64)) (c_let : (Nat → Int32)) (c_many : (Nat → Int32)) (c_ord : (Nat → Int32))  : Option (Int32 × Int32) :=
if c_cur = 0 then
(some (0, 0))
else
((f_Model_below c_sort c_cnt c_fst c_snd c_let c_many c_ord 1502).bind fun r2 =>
(f_Model_isAt c_sort c_cnt c_fst c_snd c_let c_many c_ord r2 1502).bind fun r3 =>
if r3 = 0 then
(some (0, 0))
else
(some (1, 0)))
set_option maxHeartbeats 8000000 in
set_option maxRecDepth 100000 in
theorem c_Model_there (l : Launch) (G : zG) (sz : Nat) (a_m a_mfst a_msnd a_mlet a_mmany a_mval a_mord a_mfree a_mcode a_mnext a_mcom a_mmet : Nat) (c_sort : Int32) (c_cnt : Int32) (c_frees : Int32) (c_cur : Int32) (c_thr : Int32) (c_fst : (Nat → Int64)) (c_snd : (Nat → Int64)) (c_let : (Nat → Int32)) (c_many : (Nat → Int32)) (c_val : (Nat → Int64)) (c_ord : (Nat → Int32)) (c_free : (Nat → Int32)) (c_code : (Nat → Int32)) (c_next : (Nat → Int32)) (c_com : (Nat → Int32)) (c_met : (Nat → Int32)) (r0 : (Int32 × Int32)) (hf : f_Model_there c_sort c_cnt c_cur c_thr c_fst c_snd c_let c_many c_ord = some r0) :
    Met l y_Model_there (Cond.code y_Model_there prog_9_method_24_code 1 (some .boolean) :: lw_ok) { frames := 3, cells := 0, slots := 0, locals := 72 } (zPc G sz [.ref a_m] (wM G a_m a_mfst a_msnd a_mlet a_mmany a_mval a_mord a_mfree a_mcode a_mnext a_mcom a_mmet c_sort c_cnt c_frees c_cur c_thr c_fst c_snd c_let c_many c_val c_ord c_free c_code c_next c_com c_met))
      ((fun (A : Nat → Prop) => va_Qi (fun (r : Int32) (_ : Unit) => r = r0.1 ∧ narrow .boolean (.int r) = .int r) (fun _ t => zB G A (wM G a_m a_mfst a_msnd a_mlet a_mmany a_mval a_mord a_mfree a_mcode a_mnext a_mcom a_mmet c_sort c_cnt c_frees c_cur r0.2 c_fst c_snd c_let c_many c_val c_ord c_free c_code c_next c_com c_met) t) A) (va_A (wM G a_m a_mfst a_msnd a_mlet a_mmany a_mval a_mord a_mfree a_mcode a_mnext a_mcom a_mmet c_sort c_cnt c_frees c_cur c_thr c_fst c_snd c_let c_many c_val c_ord c_free c_code c_next c_com c_met) sz)) 0 0 (va_A (wM G a_m a_mfst a_msnd a_mlet a_mmany a_mval a_mord a_mfree a_mcode a_mnext a_mcom a_mmet c_sort c_cnt c_frees c_cur c_thr c_fst c_snd c_let c_many c_val c_ord c_free c_code c_next c_com c_met) sz) := by
  refine zMet (Qc := fun (A : Nat → Prop) => va_Qi (fun (r : Int32) (_ : Unit) => r = r0.1 ∧ narrow .boolean (.int r) = .int r) (fun _ t => zB G A (wM G a_m a_mfst a_msnd a_mlet a_mmany a_mval a_mord a_mfree a_mcode a_mnext a_mcom a_mmet c_sort c_cnt c_frees c_cur r0.2 c_fst c_snd c_let c_many c_val c_ord c_free c_code c_next c_com c_met) t) A) (by decide) (Nat.le_of_ble_eq_true rfl) (fun xp xe xs xm xb xme xc A ls Q H locs C hN hK hP hD hS hA hl hQ => ?_)
  obtain ⟨hx, hb, hr, hts, hown, hlocks, hml, hin⟩ := C
  have hl : lv_has ls 1 [(0, .ref a_m)] := hl
  have h := hf
  unfold f_Model_there at h
  refine lv_aload_n hx hb d_Model_there_0 rfl (lv_at hl 0 rfl) ?_
  refine lv_iconst (v := 0) hx hb d_Model_there_1 (by decide) ?_
  refine va_put (D := G.1) (ci := 6) (v := .int 0) (ty := .int) (C := "BranchStoreModel") (T := F_Model) (N := 16) hx hb hts i_Model t_Model t_Model_ok n_Model hown hK hP hD hS 0 rfl rfl 11 (by decide) (hts _ k_781) (fun _ h9 => h9) rfl (by decide +kernel) rfl rfl (Nat.le_of_ble_eq_true rfl) d_Model_there_2 (fun H locs hP hD hS => ?_)
  have hP : va_P G.1 classes (wM G a_m a_mfst a_msnd a_mlet a_mmany a_mval a_mord a_mfree a_mcode a_mnext a_mcom a_mmet c_sort c_cnt c_frees c_cur 0 c_fst c_snd c_let c_many c_val c_ord c_free c_code c_next c_com c_met) H := hP
  have hD : va_D A (wM G a_m a_mfst a_msnd a_mlet a_mmany a_mval a_mord a_mfree a_mcode a_mnext a_mcom a_mmet c_sort c_cnt c_frees c_cur 0 c_fst c_snd c_let c_many c_val c_ord c_free c_code c_next c_com c_met) := hD
  refine lv_aload_n hx hb d_Model_there_5 rfl (lv_at hl 0 rfl) ?_
  refine va_get (D := G.1) (ci := 6) (v := .int c_cur) (C := "BranchStoreModel") (T := F_Model) (N := 16) hx hb hts i_Model hown hK hP 0 rfl rfl 10 (by decide) (hts _ k_780) (fun _ h9 => h9) rfl d_Model_there_6 ?_
  refine lv_if_eq (tgt := 33) hx hb d_Model_there_9 (by decide) (fun q1 => ?_) (fun q1 => ?_)
  · have h := it h q1
    refine lv_iconst (v := 0) hx hb d_Model_there_33 (by decide) ?_
    obtain rfl := Option.some.inj h
    exact zretz () hQ hS.2.2 hx hb hr hlocks hP hD hS ⟨rfl, rfl⟩ (Nat.le_refl _) (Nat.le_refl _) d_Model_there_34 rfl
  · have h := ie h q1
    refine lv_aload_n hx hb d_Model_there_12 rfl (lv_at hl 0 rfl) ?_
    refine lv_aload_n hx hb d_Model_there_13 rfl (lv_at hl 0 rfl) ?_
    refine lv_sipush (v := 1502) hx hb d_Model_there_14 (by decide) ?_
    obtain ⟨r2, hr2, h⟩ := ob h
    refine zpcalli (wr := []) (w2 := fun _ => (wM G a_m a_mfst a_msnd a_mlet a_mmany a_mval a_mord a_mfree a_mcode a_mnext a_mcom a_mmet c_sort c_cnt c_frees c_cur 0 c_fst c_snd c_let c_many c_val c_ord c_free c_code c_next c_com c_met)) (zrunV (As := [.int 1502]) (rest := [.ref a_m]) ⟨hx, hb, hml, hown, hts⟩ hN hK (c_Model_below l G H.size a_m a_mfst a_msnd a_mlet a_mmany a_mval a_mord a_mfree a_mcode a_mnext a_mcom a_mmet c_sort c_cnt c_frees c_cur 0 c_fst c_snd c_let c_many c_val c_ord c_free c_code c_next c_com c_met 1502 r2 hr2) ⟨rfl, rfl⟩ kv_Model_83 ⟨Nat.le_of_ble_eq_true rfl, Nat.le_of_ble_eq_true rfl⟩ 0 rfl rfl rfl hl.1 (Nat.le_of_ble_eq_true rfl) d_Model_there_17 ⟨Nat.le_of_ble_eq_true rfl, Nat.le_of_ble_eq_true rfl⟩) hP hD hS hA [0, 1, 2, 3, 4, 5, 6, 7, 8, 9, 10, 11] [] [0, 1, 2, 3, 4, 5, 6, 7, 8, 9, 10, 11] rfl rfl rfl rfl (by decide) rfl (fun _ => rfl) (fun rr _ H hw hP hD hS => ?_)
    have hw := hw.symm
    subst hw
    refine lv_sipush (v := 1502) hx hb d_Model_there_20 (by decide) ?_
    obtain ⟨r3, hr3, h⟩ := ob h
    refine zpcalli (wr := []) (w2 := fun _ => (wM G a_m a_mfst a_msnd a_mlet a_mmany a_mval a_mord a_mfree a_mcode a_mnext a_mcom a_mmet c_sort c_cnt c_frees c_cur 0 c_fst c_snd c_let c_many c_val c_ord c_free c_code c_next c_com c_met)) (zrunV (As := [.int r2, .int 1502]) (rest := []) ⟨hx, hb, hml, hown, hts⟩ hN hK (c_Model_isAt l G H.size a_m a_mfst a_msnd a_mlet a_mmany a_mval a_mord a_mfree a_mcode a_mnext a_mcom a_mmet c_sort c_cnt c_frees c_cur 0 c_fst c_snd c_let c_many c_val c_ord c_free c_code c_next c_com c_met r2 1502 r3 hr3) ⟨rfl, rfl⟩ kv_Model_87 ⟨Nat.le_of_ble_eq_true rfl, Nat.le_of_ble_eq_true rfl⟩ 0 rfl rfl rfl hl.1 (Nat.le_of_ble_eq_true rfl) d_Model_there_23 ⟨Nat.le_of_ble_eq_true rfl, Nat.le_of_ble_eq_true rfl⟩) hP hD hS hA [0, 1, 2, 3, 4, 5, 6, 7, 8, 9, 10, 11] [] [0, 1, 2, 3, 4, 5, 6, 7, 8, 9, 10, 11] rfl rfl rfl rfl (by decide) rfl (fun _ => rfl) (fun rr _ H hw hP hD hS => ?_)
    obtain ⟨hw, hz4⟩ := hw
    have hw := hw.symm
    subst hw
    refine lv_if_eq (tgt := 33) hx hb d_Model_there_26 (by decide) (fun q5 => ?_) (fun q5 => ?_)
    · have h := it h q5
      refine lv_iconst (v := 0) hx hb d_Model_there_33 (by decide) ?_
      obtain rfl := Option.some.inj h
      exact zretz () hQ hS.2.2 hx hb hr hlocks hP hD hS ⟨rfl, rfl⟩ (Nat.le_refl _) (Nat.le_refl _) d_Model_there_34 rfl
    · have h := ie h q5
      refine lv_iconst (v := 1) hx hb d_Model_there_29 (by decide) ?_
      refine lv_goto (tgt := 34) hx hb d_Model_there_30 (by decide) ?_
      obtain rfl := Option.some.inj h
      exact zretz () hQ hS.2.2 hx hb hr hlocks hP hD hS ⟨rfl, rfl⟩ (Nat.le_refl _) (Nat.le_refl _) d_Model_there_34 rfl

noncomputable def f_Model_length (c_sort : Int32) (c_cur : Int32) (c_thr : Int32) (c_many : (Nat → Int32))  : Option (Int32 × Int32) :=
(if c_cur = 0 then
(some 1)
else
(some 0)).bind fun y4 =>
(f_Model_fails c_thr y4 1).bind fun r6 =>
if r6.1 = 0 then
(if 2 ≤ c_sort then
(gi 1502 1503 <|
some (c_many (1502 : Int32).toNatClampNeg, r6.2))
else
(some (c_sort + 1, r6.2)))
else
(some (0, r6.2))
set_option maxHeartbeats 8000000 in
set_option maxRecDepth 100000 in
theorem c_Model_length (l : Launch) (G : zG) (sz : Nat) (a_m a_mfst a_msnd a_mlet a_mmany a_mval a_mord a_mfree a_mcode a_mnext a_mcom a_mmet : Nat) (c_sort : Int32) (c_cnt : Int32) (c_frees : Int32) (c_cur : Int32) (c_thr : Int32) (c_fst : (Nat → Int64)) (c_snd : (Nat → Int64)) (c_let : (Nat → Int32)) (c_many : (Nat → Int32)) (c_val : (Nat → Int64)) (c_ord : (Nat → Int32)) (c_free : (Nat → Int32)) (c_code : (Nat → Int32)) (c_next : (Nat → Int32)) (c_com : (Nat → Int32)) (c_met : (Nat → Int32)) (r0 : (Int32 × Int32)) (hf : f_Model_length c_sort c_cur c_thr c_many = some r0) :
    Met l y_Model_length (Cond.code y_Model_length prog_9_method_25_code 1 (some .int) :: lw_ok) { frames := 1, cells := 0, slots := 0, locals := 22 } (zPc G sz [.ref a_m] (wM G a_m a_mfst a_msnd a_mlet a_mmany a_mval a_mord a_mfree a_mcode a_mnext a_mcom a_mmet c_sort c_cnt c_frees c_cur c_thr c_fst c_snd c_let c_many c_val c_ord c_free c_code c_next c_com c_met))
      ((fun (A : Nat → Prop) => va_Qi (fun (r : Int32) (_ : Unit) => r = r0.1) (fun _ t => zB G A (wM G a_m a_mfst a_msnd a_mlet a_mmany a_mval a_mord a_mfree a_mcode a_mnext a_mcom a_mmet c_sort c_cnt c_frees c_cur r0.2 c_fst c_snd c_let c_many c_val c_ord c_free c_code c_next c_com c_met) t) A) (va_A (wM G a_m a_mfst a_msnd a_mlet a_mmany a_mval a_mord a_mfree a_mcode a_mnext a_mcom a_mmet c_sort c_cnt c_frees c_cur c_thr c_fst c_snd c_let c_many c_val c_ord c_free c_code c_next c_com c_met) sz)) 0 0 (va_A (wM G a_m a_mfst a_msnd a_mlet a_mmany a_mval a_mord a_mfree a_mcode a_mnext a_mcom a_mmet c_sort c_cnt c_frees c_cur c_thr c_fst c_snd c_let c_many c_val c_ord c_free c_code c_next c_com c_met) sz) := by
  refine zMet (Qc := fun (A : Nat → Prop) => va_Qi (fun (r : Int32) (_ : Unit) => r = r0.1) (fun _ t => zB G A (wM G a_m a_mfst a_msnd a_mlet a_mmany a_mval a_mord a_mfree a_mcode a_mnext a_mcom a_mmet c_sort c_cnt c_frees c_cur r0.2 c_fst c_snd c_let c_many c_val c_ord c_free c_code c_next c_com c_met) t) A) (by decide) (Nat.le_of_ble_eq_true rfl) (fun xp xe xs xm xb xme xc A ls Q H locs C hN hK hP hD hS hA hl hQ => ?_)
  obtain ⟨hx, hb, hr, hts, hown, hlocks, hml, hin⟩ := C
  have hl : lv_has ls 1 [(0, .ref a_m)] := hl
  have h := hf
  unfold f_Model_length at h
  refine lv_aload_n hx hb d_Model_length_0 rfl (lv_at hl 0 rfl) ?_
  refine lv_aload_n hx hb d_Model_length_1 rfl (lv_at hl 0 rfl) ?_
  refine va_get (D := G.1) (ci := 6) (v := .int c_cur) (C := "BranchStoreModel") (T := F_Model) (N := 16) hx hb hts i_Model hown hK hP 0 rfl rfl 10 (by decide) (hts _ k_780) (fun _ h9 => h9) rfl d_Model_length_2 ?_
  obtain ⟨y3, hy3, h⟩ := ob h
  have J13 : ∀ (z5 : Int32), narrow .boolean (.int z5) = .int z5 → z5 = y3 → ∀ (H : Heap) (locs : List Loc) (ls : Array Slot), va_P G.1 classes (wM G a_m a_mfst a_msnd a_mlet a_mmany a_mval a_mord a_mfree a_mcode a_mnext a_mcom a_mmet c_sort c_cnt c_frees c_cur c_thr c_fst c_snd c_let c_many c_val c_ord c_free c_code c_next c_com c_met) H → va_D A (wM G a_m a_mfst a_msnd a_mlet a_mmany a_mval a_mord a_mfree a_mcode a_mnext a_mcom a_mmet c_sort c_cnt c_frees c_cur c_thr c_fst c_snd c_let c_many c_val c_ord c_free c_code c_next c_com c_met) → va_S A xs.heap H locs → lv_has ls 1 [(0, .ref a_m)] → W xp l xe { frames := 1, cells := 0, slots := 0, locals := 22 } xs xm ([.ref a_m] : List Value).toArray xb xme xc H locs 0 0 Q (F0 xm 13 ls [.int z5, .ref a_m]) := by
    intro z5 hzz5 ey H locs ls hP hD hS hl
    subst ey
    try dsimp only at h
    refine lv_iconst (v := 1) hx hb d_Model_length_13 (by decide) ?_
    obtain ⟨r6, hr6, h⟩ := ob h
    refine zcalli (wr := []) (w2 := fun _ => (wM G a_m a_mfst a_msnd a_mlet a_mmany a_mval a_mord a_mfree a_mcode a_mnext a_mcom a_mmet c_sort c_cnt c_frees c_cur r6.2 c_fst c_snd c_let c_many c_val c_ord c_free c_code c_next c_com c_met)) (zrunV (As := [.int z5, .int 1]) (rest := []) ⟨hx, hb, hml, hown, hts⟩ hN hK (c_Model_fails l G H.size a_m a_mfst a_msnd a_mlet a_mmany a_mval a_mord a_mfree a_mcode a_mnext a_mcom a_mmet c_sort c_cnt c_frees c_cur c_thr c_fst c_snd c_let c_many c_val c_ord c_free c_code c_next c_com c_met z5 1 hzz5 r6 hr6) ⟨rfl, rfl⟩ kv_Model_70 ⟨Nat.le_of_ble_eq_true rfl, Nat.le_of_ble_eq_true rfl⟩ 0 rfl rfl rfl hl.1 (Nat.le_of_ble_eq_true rfl) d_Model_length_14 ⟨Nat.le_of_ble_eq_true rfl, Nat.le_of_ble_eq_true rfl⟩) hP hD hS hA [0, 1, 2, 3, 4, 5, 6, 7, 8, 9, 10, 11] [] [0, 1, 2, 3, 4, 5, 6, 7, 8, 9, 10, 11] rfl rfl rfl rfl (by decide) rfl (fun _ => rfl) (fun rr _ H locs hw hP hD hS => ?_)
    obtain ⟨hw, hz7⟩ := hw
    have hw := hw.symm
    subst hw
    refine lv_if_eq (tgt := 22) hx hb d_Model_length_17 (by decide) (fun q8 => ?_) (fun q8 => ?_)
    · have h := it h q8
      refine lv_aload_n hx hb d_Model_length_22 rfl (lv_at hl 0 rfl) ?_
      refine va_get (D := G.1) (ci := 6) (v := .int c_sort) (C := "BranchStoreModel") (T := F_Model) (N := 16) hx hb hts i_Model hown hK hP 0 rfl rfl 0 (by decide) (hts _ k_770) (fun _ h9 => h9) rfl d_Model_length_23 ?_
      refine lv_iconst (v := 2) hx hb d_Model_length_26 (by decide) ?_
      refine lv_icmp_ge (tgt := 39) hx hb d_Model_length_27 (by decide) (fun q9 => ?_) (fun q9 => ?_)
      · have h := it h q9
        refine lv_aload_n hx hb d_Model_length_39 rfl (lv_at hl 0 rfl) ?_
        refine va_get (D := G.1) (ci := 6) (v := .ref a_mmany) (C := "BranchStoreModel") (T := F_Model) (N := 16) hx hb hts i_Model hown hK hP 0 rfl rfl 4 (by decide) (hts _ k_774) (fun _ h9 => h9) rfl d_Model_length_40 ?_
        refine lv_sipush (v := 1502) hx hb d_Model_length_43 (by decide) ?_
        obtain ⟨h10, h⟩ := gi_k h
        refine va_iald hx hb hK hP 4 0 rfl rfl h10 d_Model_length_46 ?_
        obtain rfl := Option.some.inj h
        exact zreti () hQ hS.2.2 hx hb hr hlocks hP hD hS rfl (Nat.le_refl _) (Nat.le_refl _) d_Model_length_47
      · have h := ie h q9
        refine lv_aload_n hx hb d_Model_length_30 rfl (lv_at hl 0 rfl) ?_
        refine va_get (D := G.1) (ci := 6) (v := .int c_sort) (C := "BranchStoreModel") (T := F_Model) (N := 16) hx hb hts i_Model hown hK hP 0 rfl rfl 0 (by decide) (hts _ k_770) (fun _ h9 => h9) rfl d_Model_length_31 ?_
        refine lv_iconst (v := 1) hx hb d_Model_length_34 (by decide) ?_
        refine lv_iadd hx hb d_Model_length_35 ?_
        refine lv_goto (tgt := 47) hx hb d_Model_length_36 (by decide) ?_
        obtain rfl := Option.some.inj h
        exact zreti () hQ hS.2.2 hx hb hr hlocks hP hD hS rfl (Nat.le_refl _) (Nat.le_refl _) d_Model_length_47
    · have h := ie h q8
      refine lv_iconst (v := 0) hx hb d_Model_length_20 (by decide) ?_
      obtain rfl := Option.some.inj h
      exact zreti () hQ hS.2.2 hx hb hr hlocks hP hD hS rfl (Nat.le_refl _) (Nat.le_refl _) d_Model_length_21
  have h := hy3
  refine lv_if_ne (tgt := 12) hx hb d_Model_length_5 (by decide) (fun q2 => ?_) (fun q2 => ?_)
  · have h := ie h q2
    refine lv_iconst (v := 0) hx hb d_Model_length_12 (by decide) ?_
    exact J13 0 rfl (Option.some.inj h) H locs ls hP hD hS (lv_sub hl [0] rfl)
  · have h := it h q2
    refine lv_iconst (v := 1) hx hb d_Model_length_8 (by decide) ?_
    refine lv_goto (tgt := 13) hx hb d_Model_length_9 (by decide) ?_
    exact J13 1 rfl (Option.some.inj h) H locs ls hP hD hS (lv_sub hl [0] rfl)

noncomputable def f_Model_part (c_sort : Int32) (c_cur : Int32) (c_thr : Int32) (c_fst : (Nat → Int64)) (c_snd : (Nat → Int64)) (c_let : (Nat → Int32)) (c_many : (Nat → Int32)) (p_1 : Int32) : Option (Int64 × Int32) :=
(if c_cur = 0 then
(some 1)
else
(some 0)).bind fun y4 =>
(f_Model_fails c_thr y4 1).bind fun r6 =>
if r6.1 = 0 then
((if 2 ≤ c_sort then
(gi 1502 1503 <|
some (c_many (1502 : Int32).toNatClampNeg))
else
(some (c_sort + 1))).bind fun y13 =>
(if p_1 < 0 then
(some 1)
else
(if p_1 < y13 then
(some 0)
else
(some 1))).bind fun y19 =>
(f_Model_fails r6.2 y19 2).bind fun r21 =>
if r21.1 = 0 then
(if c_sort = 2 then
(gi (36048 + p_1) 36072 <|
some ((c_let (36048 + p_1).toNatClampNeg).toInt64, r21.2))
else
(if p_1 = 0 then
(gi 1502 1503 <|
some (c_fst (1502 : Int32).toNatClampNeg, r21.2))
else
(gi 1502 1503 <|
some (c_snd (1502 : Int32).toNatClampNeg, r21.2))))
else
(some (0, r21.2)))
else
(some (0, r6.2))
set_option maxHeartbeats 8000000 in
set_option maxRecDepth 100000 in
theorem c_Model_part (l : Launch) (G : zG) (sz : Nat) (a_m a_mfst a_msnd a_mlet a_mmany a_mval a_mord a_mfree a_mcode a_mnext a_mcom a_mmet : Nat) (c_sort : Int32) (c_cnt : Int32) (c_frees : Int32) (c_cur : Int32) (c_thr : Int32) (c_fst : (Nat → Int64)) (c_snd : (Nat → Int64)) (c_let : (Nat → Int32)) (c_many : (Nat → Int32)) (c_val : (Nat → Int64)) (c_ord : (Nat → Int32)) (c_free : (Nat → Int32)) (c_code : (Nat → Int32)) (c_next : (Nat → Int32)) (c_com : (Nat → Int32)) (c_met : (Nat → Int32)) (p_1 : Int32) (r0 : (Int64 × Int32)) (hf : f_Model_part c_sort c_cur c_thr c_fst c_snd c_let c_many p_1 = some r0) :
    Met l y_Model_part (Cond.code y_Model_part prog_9_method_26_code 3 (some .long) :: lw_ok) { frames := 1, cells := 0, slots := 0, locals := 22 } (zPc G sz [.ref a_m, .int p_1] (wM G a_m a_mfst a_msnd a_mlet a_mmany a_mval a_mord a_mfree a_mcode a_mnext a_mcom a_mmet c_sort c_cnt c_frees c_cur c_thr c_fst c_snd c_let c_many c_val c_ord c_free c_code c_next c_com c_met))
      ((fun (A : Nat → Prop) => va_Ql (fun (r : Int64) (_ : Unit) => r = r0.1) (fun _ t => zB G A (wM G a_m a_mfst a_msnd a_mlet a_mmany a_mval a_mord a_mfree a_mcode a_mnext a_mcom a_mmet c_sort c_cnt c_frees c_cur r0.2 c_fst c_snd c_let c_many c_val c_ord c_free c_code c_next c_com c_met) t) A) (va_A (wM G a_m a_mfst a_msnd a_mlet a_mmany a_mval a_mord a_mfree a_mcode a_mnext a_mcom a_mmet c_sort c_cnt c_frees c_cur c_thr c_fst c_snd c_let c_many c_val c_ord c_free c_code c_next c_com c_met) sz)) 0 0 (va_A (wM G a_m a_mfst a_msnd a_mlet a_mmany a_mval a_mord a_mfree a_mcode a_mnext a_mcom a_mmet c_sort c_cnt c_frees c_cur c_thr c_fst c_snd c_let c_many c_val c_ord c_free c_code c_next c_com c_met) sz) := by
  refine zMet (Qc := fun (A : Nat → Prop) => va_Ql (fun (r : Int64) (_ : Unit) => r = r0.1) (fun _ t => zB G A (wM G a_m a_mfst a_msnd a_mlet a_mmany a_mval a_mord a_mfree a_mcode a_mnext a_mcom a_mmet c_sort c_cnt c_frees c_cur r0.2 c_fst c_snd c_let c_many c_val c_ord c_free c_code c_next c_com c_met) t) A) (by decide) (Nat.le_of_ble_eq_true rfl) (fun xp xe xs xm xb xme xc A ls Q H locs C hN hK hP hD hS hA hl hQ => ?_)
  obtain ⟨hx, hb, hr, hts, hown, hlocks, hml, hin⟩ := C
  have hl : lv_has ls 3 [(0, .ref a_m), (1, .int p_1)] := hl
  have h := hf
  unfold f_Model_part at h
  refine lv_aload_n hx hb d_Model_part_0 rfl (lv_at hl 0 rfl) ?_
  refine lv_aload_n hx hb d_Model_part_1 rfl (lv_at hl 0 rfl) ?_
  refine va_get (D := G.1) (ci := 6) (v := .int c_cur) (C := "BranchStoreModel") (T := F_Model) (N := 16) hx hb hts i_Model hown hK hP 0 rfl rfl 10 (by decide) (hts _ k_780) (fun _ h9 => h9) rfl d_Model_part_2 ?_
  obtain ⟨y3, hy3, h⟩ := ob h
  have J13 : ∀ (z5 : Int32), narrow .boolean (.int z5) = .int z5 → z5 = y3 → ∀ (H : Heap) (locs : List Loc) (ls : Array Slot), va_P G.1 classes (wM G a_m a_mfst a_msnd a_mlet a_mmany a_mval a_mord a_mfree a_mcode a_mnext a_mcom a_mmet c_sort c_cnt c_frees c_cur c_thr c_fst c_snd c_let c_many c_val c_ord c_free c_code c_next c_com c_met) H → va_D A (wM G a_m a_mfst a_msnd a_mlet a_mmany a_mval a_mord a_mfree a_mcode a_mnext a_mcom a_mmet c_sort c_cnt c_frees c_cur c_thr c_fst c_snd c_let c_many c_val c_ord c_free c_code c_next c_com c_met) → va_S A xs.heap H locs → lv_has ls 3 [(0, .ref a_m), (1, .int p_1)] → W xp l xe { frames := 1, cells := 0, slots := 0, locals := 22 } xs xm ([.ref a_m, .int p_1] : List Value).toArray xb xme xc H locs 0 0 Q (F0 xm 13 ls [.int z5, .ref a_m]) := by
    intro z5 hzz5 ey H locs ls hP hD hS hl
    subst ey
    try dsimp only at h
    refine lv_iconst (v := 1) hx hb d_Model_part_13 (by decide) ?_
    obtain ⟨r6, hr6, h⟩ := ob h
    refine zcalli (wr := []) (w2 := fun _ => (wM G a_m a_mfst a_msnd a_mlet a_mmany a_mval a_mord a_mfree a_mcode a_mnext a_mcom a_mmet c_sort c_cnt c_frees c_cur r6.2 c_fst c_snd c_let c_many c_val c_ord c_free c_code c_next c_com c_met)) (zrunV (As := [.int z5, .int 1]) (rest := []) ⟨hx, hb, hml, hown, hts⟩ hN hK (c_Model_fails l G H.size a_m a_mfst a_msnd a_mlet a_mmany a_mval a_mord a_mfree a_mcode a_mnext a_mcom a_mmet c_sort c_cnt c_frees c_cur c_thr c_fst c_snd c_let c_many c_val c_ord c_free c_code c_next c_com c_met z5 1 hzz5 r6 hr6) ⟨rfl, rfl⟩ kv_Model_70 ⟨Nat.le_of_ble_eq_true rfl, Nat.le_of_ble_eq_true rfl⟩ 0 rfl rfl rfl hl.1 (Nat.le_of_ble_eq_true rfl) d_Model_part_14 ⟨Nat.le_of_ble_eq_true rfl, Nat.le_of_ble_eq_true rfl⟩) hP hD hS hA [0, 1, 2, 3, 4, 5, 6, 7, 8, 9, 10, 11] [] [0, 1, 2, 3, 4, 5, 6, 7, 8, 9, 10, 11] rfl rfl rfl rfl (by decide) rfl (fun _ => rfl) (fun rr _ H locs hw hP hD hS => ?_)
    obtain ⟨hw, hz7⟩ := hw
    have hw := hw.symm
    subst hw
    refine lv_if_eq (tgt := 22) hx hb d_Model_part_17 (by decide) (fun q8 => ?_) (fun q8 => ?_)
    · have h := it h q8
      refine lv_aload_n hx hb d_Model_part_22 rfl (lv_at hl 0 rfl) ?_
      refine va_get (D := G.1) (ci := 6) (v := .int c_sort) (C := "BranchStoreModel") (T := F_Model) (N := 16) hx hb hts i_Model hown hK hP 0 rfl rfl 0 (by decide) (hts _ k_770) (fun _ h9 => h9) rfl d_Model_part_23 ?_
      refine lv_iconst (v := 2) hx hb d_Model_part_26 (by decide) ?_
      obtain ⟨y12, hy12, h⟩ := ob h
      have J47 : ∀ (z14 : Int32), z14 = y12 → ∀ (H : Heap) (locs : List Loc) (ls : Array Slot), va_P G.1 classes (wM G a_m a_mfst a_msnd a_mlet a_mmany a_mval a_mord a_mfree a_mcode a_mnext a_mcom a_mmet c_sort c_cnt c_frees c_cur r6.2 c_fst c_snd c_let c_many c_val c_ord c_free c_code c_next c_com c_met) H → va_D A (wM G a_m a_mfst a_msnd a_mlet a_mmany a_mval a_mord a_mfree a_mcode a_mnext a_mcom a_mmet c_sort c_cnt c_frees c_cur r6.2 c_fst c_snd c_let c_many c_val c_ord c_free c_code c_next c_com c_met) → va_S A xs.heap H locs → lv_has ls 3 [(0, .ref a_m), (1, .int p_1)] → W xp l xe { frames := 1, cells := 0, slots := 0, locals := 22 } xs xm ([.ref a_m, .int p_1] : List Value).toArray xb xme xc H locs 0 0 Q (F0 xm 47 ls [.int z14]) := by
        intro z14 ey H locs ls hP hD hS hl
        subst ey
        try dsimp only at h
        refine lv_istore_n (lv' := [(2, .int z14), (0, .ref a_m), (1, .int p_1)]) hx hb d_Model_part_47 rfl hl (by decide) rfl (fun ls hl => ?_)
        refine lv_aload_n hx hb d_Model_part_48 rfl (lv_at hl 1 rfl) ?_
        refine lv_iload_n hx hb d_Model_part_49 rfl (lv_at hl 2 rfl) ?_
        obtain ⟨y18, hy18, h⟩ := ob h
        have J63 : ∀ (z20 : Int32), narrow .boolean (.int z20) = .int z20 → z20 = y18 → ∀ (H : Heap) (locs : List Loc) (ls : Array Slot), va_P G.1 classes (wM G a_m a_mfst a_msnd a_mlet a_mmany a_mval a_mord a_mfree a_mcode a_mnext a_mcom a_mmet c_sort c_cnt c_frees c_cur r6.2 c_fst c_snd c_let c_many c_val c_ord c_free c_code c_next c_com c_met) H → va_D A (wM G a_m a_mfst a_msnd a_mlet a_mmany a_mval a_mord a_mfree a_mcode a_mnext a_mcom a_mmet c_sort c_cnt c_frees c_cur r6.2 c_fst c_snd c_let c_many c_val c_ord c_free c_code c_next c_com c_met) → va_S A xs.heap H locs → lv_has ls 3 [(0, .ref a_m), (1, .int p_1)] → W xp l xe { frames := 1, cells := 0, slots := 0, locals := 22 } xs xm ([.ref a_m, .int p_1] : List Value).toArray xb xme xc H locs 0 0 Q (F0 xm 63 ls [.int z20, .ref a_m]) := by
          intro z20 hzz20 ey H locs ls hP hD hS hl
          subst ey
          try dsimp only at h
          refine lv_iconst (v := 2) hx hb d_Model_part_63 (by decide) ?_
          obtain ⟨r21, hr21, h⟩ := ob h
          refine zcalli (wr := []) (w2 := fun _ => (wM G a_m a_mfst a_msnd a_mlet a_mmany a_mval a_mord a_mfree a_mcode a_mnext a_mcom a_mmet c_sort c_cnt c_frees c_cur r21.2 c_fst c_snd c_let c_many c_val c_ord c_free c_code c_next c_com c_met)) (zrunV (As := [.int z20, .int 2]) (rest := []) ⟨hx, hb, hml, hown, hts⟩ hN hK (c_Model_fails l G H.size a_m a_mfst a_msnd a_mlet a_mmany a_mval a_mord a_mfree a_mcode a_mnext a_mcom a_mmet c_sort c_cnt c_frees c_cur r6.2 c_fst c_snd c_let c_many c_val c_ord c_free c_code c_next c_com c_met z20 2 hzz20 r21 hr21) ⟨rfl, rfl⟩ kv_Model_70 ⟨Nat.le_of_ble_eq_true rfl, Nat.le_of_ble_eq_true rfl⟩ 0 rfl rfl rfl hl.1 (Nat.le_of_ble_eq_true rfl) d_Model_part_64 ⟨Nat.le_of_ble_eq_true rfl, Nat.le_of_ble_eq_true rfl⟩) hP hD hS hA [0, 1, 2, 3, 4, 5, 6, 7, 8, 9, 10, 11] [] [0, 1, 2, 3, 4, 5, 6, 7, 8, 9, 10, 11] rfl rfl rfl rfl (by decide) rfl (fun _ => rfl) (fun rr _ H locs hw hP hD hS => ?_)
          obtain ⟨hw, hz22⟩ := hw
          have hw := hw.symm
          subst hw
          refine lv_if_eq (tgt := 72) hx hb d_Model_part_67 (by decide) (fun q23 => ?_) (fun q23 => ?_)
          · have h := it h q23
            refine lv_aload_n hx hb d_Model_part_72 rfl (lv_at hl 0 rfl) ?_
            refine va_get (D := G.1) (ci := 6) (v := .int c_sort) (C := "BranchStoreModel") (T := F_Model) (N := 16) hx hb hts i_Model hown hK hP 0 rfl rfl 0 (by decide) (hts _ k_770) (fun _ h9 => h9) rfl d_Model_part_73 ?_
            refine lv_iconst (v := 2) hx hb d_Model_part_76 (by decide) ?_
            refine lv_icmp_ne (tgt := 93) hx hb d_Model_part_77 (by decide) (fun q24 => ?_) (fun q24 => ?_)
            · have h := ie h q24
              refine lv_iload_n hx hb d_Model_part_93 rfl (lv_at hl 1 rfl) ?_
              refine lv_if_ne (tgt := 108) hx hb d_Model_part_94 (by decide) (fun q25 => ?_) (fun q25 => ?_)
              · have h := ie h q25
                refine lv_aload_n hx hb d_Model_part_108 rfl (lv_at hl 0 rfl) ?_
                refine va_get (D := G.1) (ci := 6) (v := .ref a_msnd) (C := "BranchStoreModel") (T := F_Model) (N := 16) hx hb hts i_Model hown hK hP 0 rfl rfl 2 (by decide) (hts _ k_772) (fun _ h9 => h9) rfl d_Model_part_109 ?_
                refine lv_sipush (v := 1502) hx hb d_Model_part_112 (by decide) ?_
                obtain ⟨h26, h⟩ := gi_k h
                refine va_lald hx hb hK hP 2 2 rfl rfl h26 d_Model_part_115 ?_
                obtain rfl := Option.some.inj h
                exact zretl () hQ hS.2.2 hx hb hr hlocks hP hD hS rfl (Nat.le_refl _) (Nat.le_refl _) d_Model_part_116
              · have h := it h q25
                refine lv_aload_n hx hb d_Model_part_97 rfl (lv_at hl 0 rfl) ?_
                refine va_get (D := G.1) (ci := 6) (v := .ref a_mfst) (C := "BranchStoreModel") (T := F_Model) (N := 16) hx hb hts i_Model hown hK hP 0 rfl rfl 1 (by decide) (hts _ k_771) (fun _ h9 => h9) rfl d_Model_part_98 ?_
                refine lv_sipush (v := 1502) hx hb d_Model_part_101 (by decide) ?_
                obtain ⟨h27, h⟩ := gi_k h
                refine va_lald hx hb hK hP 1 2 rfl rfl h27 d_Model_part_104 ?_
                refine lv_goto (tgt := 116) hx hb d_Model_part_105 (by decide) ?_
                obtain rfl := Option.some.inj h
                exact zretl () hQ hS.2.2 hx hb hr hlocks hP hD hS rfl (Nat.le_refl _) (Nat.le_refl _) d_Model_part_116
            · have h := it h q24
              refine lv_aload_n hx hb d_Model_part_80 rfl (lv_at hl 0 rfl) ?_
              refine va_get (D := G.1) (ci := 6) (v := .ref a_mlet) (C := "BranchStoreModel") (T := F_Model) (N := 16) hx hb hts i_Model hown hK hP 0 rfl rfl 3 (by decide) (hts _ k_773) (fun _ h9 => h9) rfl d_Model_part_81 ?_
              refine lv_ldc (v := 36048) hx hb hown (hts _ k_920) d_Model_part_84 ?_
              refine lv_iload_n hx hb d_Model_part_86 rfl (lv_at hl 1 rfl) ?_
              refine lv_iadd hx hb d_Model_part_87 ?_
              obtain ⟨h28, h⟩ := gi_k h
              refine va_iald hx hb hK hP 3 0 rfl rfl h28 d_Model_part_88 ?_
              refine lv_i2l (v := (c_let (36048 + p_1).toNatClampNeg).toInt64) hx hb d_Model_part_89 rfl ?_
              refine lv_goto (tgt := 116) hx hb d_Model_part_90 (by decide) ?_
              obtain rfl := Option.some.inj h
              exact zretl () hQ hS.2.2 hx hb hr hlocks hP hD hS rfl (Nat.le_refl _) (Nat.le_refl _) d_Model_part_116
          · have h := ie h q23
            refine lv_lconst (v := 0) hx hb d_Model_part_70 (by decide) ?_
            obtain rfl := Option.some.inj h
            exact zretl () hQ hS.2.2 hx hb hr hlocks hP hD hS rfl (Nat.le_refl _) (Nat.le_refl _) d_Model_part_71
        have h := hy18
        refine lv_if_lt (tgt := 58) hx hb d_Model_part_50 (by decide) (fun q16 => ?_) (fun q16 => ?_)
        · have h := it h q16
          refine lv_iconst (v := 1) hx hb d_Model_part_58 (by decide) ?_
          refine lv_goto (tgt := 63) hx hb d_Model_part_59 (by decide) ?_
          exact J63 1 rfl (Option.some.inj h) H locs ls hP hD hS (lv_sub hl [1, 2] rfl)
        · have h := ie h q16
          refine lv_iload_n hx hb d_Model_part_53 rfl (lv_at hl 2 rfl) ?_
          refine lv_iload_n hx hb d_Model_part_54 rfl (lv_at hl 0 rfl) ?_
          refine lv_icmp_lt (tgt := 62) hx hb d_Model_part_55 (by decide) (fun q17 => ?_) (fun q17 => ?_)
          · have h := it h q17
            refine lv_iconst (v := 0) hx hb d_Model_part_62 (by decide) ?_
            exact J63 0 rfl (Option.some.inj h) H locs ls hP hD hS (lv_sub hl [1, 2] rfl)
          · have h := ie h q17
            refine lv_iconst (v := 1) hx hb d_Model_part_58 (by decide) ?_
            refine lv_goto (tgt := 63) hx hb d_Model_part_59 (by decide) ?_
            exact J63 1 rfl (Option.some.inj h) H locs ls hP hD hS (lv_sub hl [1, 2] rfl)
      have h := hy12
      refine lv_icmp_ge (tgt := 39) hx hb d_Model_part_27 (by decide) (fun q10 => ?_) (fun q10 => ?_)
      · have h := it h q10
        refine lv_aload_n hx hb d_Model_part_39 rfl (lv_at hl 0 rfl) ?_
        refine va_get (D := G.1) (ci := 6) (v := .ref a_mmany) (C := "BranchStoreModel") (T := F_Model) (N := 16) hx hb hts i_Model hown hK hP 0 rfl rfl 4 (by decide) (hts _ k_774) (fun _ h9 => h9) rfl d_Model_part_40 ?_
        refine lv_sipush (v := 1502) hx hb d_Model_part_43 (by decide) ?_
        obtain ⟨h11, h⟩ := gi_k h
        refine va_iald hx hb hK hP 4 0 rfl rfl h11 d_Model_part_46 ?_
        exact J47 (c_many (1502 : Int32).toNatClampNeg) (Option.some.inj h) H locs ls hP hD hS (lv_sub hl [0, 1] rfl)
      · have h := ie h q10
        refine lv_aload_n hx hb d_Model_part_30 rfl (lv_at hl 0 rfl) ?_
        refine va_get (D := G.1) (ci := 6) (v := .int c_sort) (C := "BranchStoreModel") (T := F_Model) (N := 16) hx hb hts i_Model hown hK hP 0 rfl rfl 0 (by decide) (hts _ k_770) (fun _ h9 => h9) rfl d_Model_part_31 ?_
        refine lv_iconst (v := 1) hx hb d_Model_part_34 (by decide) ?_
        refine lv_iadd hx hb d_Model_part_35 ?_
        refine lv_goto (tgt := 47) hx hb d_Model_part_36 (by decide) ?_
        exact J47 (c_sort + 1) (Option.some.inj h) H locs ls hP hD hS (lv_sub hl [0, 1] rfl)
    · have h := ie h q8
      refine lv_lconst (v := 0) hx hb d_Model_part_20 (by decide) ?_
      obtain rfl := Option.some.inj h
      exact zretl () hQ hS.2.2 hx hb hr hlocks hP hD hS rfl (Nat.le_refl _) (Nat.le_refl _) d_Model_part_21
  have h := hy3
  refine lv_if_ne (tgt := 12) hx hb d_Model_part_5 (by decide) (fun q2 => ?_) (fun q2 => ?_)
  · have h := ie h q2
    refine lv_iconst (v := 0) hx hb d_Model_part_12 (by decide) ?_
    exact J13 0 rfl (Option.some.inj h) H locs ls hP hD hS (lv_sub hl [0, 1] rfl)
  · have h := it h q2
    refine lv_iconst (v := 1) hx hb d_Model_part_8 (by decide) ?_
    refine lv_goto (tgt := 13) hx hb d_Model_part_9 (by decide) ?_
    exact J13 1 rfl (Option.some.inj h) H locs ls hP hD hS (lv_sub hl [0, 1] rfl)

noncomputable def f_Model_value (c_sort : Int32) (c_cnt : Int32) (c_cur : Int32) (c_thr : Int32) (c_fst : (Nat → Int64)) (c_snd : (Nat → Int64)) (c_let : (Nat → Int32)) (c_many : (Nat → Int32)) (c_val : (Nat → Int64)) (c_ord : (Nat → Int32))  : Option (Int64 × Int32) :=
(if c_cur = 0 then
(some c_cnt)
else
((f_Model_below c_sort c_cnt c_fst c_snd c_let c_many c_ord 1502).bind fun r3 =>
some r3)).bind fun y5 =>
(if c_cur = 0 then
(some 1)
else
((f_Model_isAt c_sort c_cnt c_fst c_snd c_let c_many c_ord y5 1502).bind fun r9 =>
if r9 = 0 then
(some 1)
else
(some 0))).bind fun y13 =>
(f_Model_fails c_thr y13 1).bind fun r15 =>
if r15.1 = 0 then
(gi y5 1500 <|
gi (c_ord y5.toNatClampNeg) 1500 <|
some (c_val (c_ord y5.toNatClampNeg).toNatClampNeg, r15.2))
else
(some (0, r15.2))
set_option maxHeartbeats 8000000 in
set_option maxRecDepth 100000 in
theorem c_Model_value (l : Launch) (G : zG) (sz : Nat) (a_m a_mfst a_msnd a_mlet a_mmany a_mval a_mord a_mfree a_mcode a_mnext a_mcom a_mmet : Nat) (c_sort : Int32) (c_cnt : Int32) (c_frees : Int32) (c_cur : Int32) (c_thr : Int32) (c_fst : (Nat → Int64)) (c_snd : (Nat → Int64)) (c_let : (Nat → Int32)) (c_many : (Nat → Int32)) (c_val : (Nat → Int64)) (c_ord : (Nat → Int32)) (c_free : (Nat → Int32)) (c_code : (Nat → Int32)) (c_next : (Nat → Int32)) (c_com : (Nat → Int32)) (c_met : (Nat → Int32)) (r0 : (Int64 × Int32)) (hf : f_Model_value c_sort c_cnt c_cur c_thr c_fst c_snd c_let c_many c_val c_ord = some r0) :
    Met l y_Model_value (Cond.code y_Model_value prog_9_method_27_code 2 (some .long) :: lw_ok) { frames := 3, cells := 0, slots := 0, locals := 72 } (zPc G sz [.ref a_m] (wM G a_m a_mfst a_msnd a_mlet a_mmany a_mval a_mord a_mfree a_mcode a_mnext a_mcom a_mmet c_sort c_cnt c_frees c_cur c_thr c_fst c_snd c_let c_many c_val c_ord c_free c_code c_next c_com c_met))
      ((fun (A : Nat → Prop) => va_Ql (fun (r : Int64) (_ : Unit) => r = r0.1) (fun _ t => zB G A (wM G a_m a_mfst a_msnd a_mlet a_mmany a_mval a_mord a_mfree a_mcode a_mnext a_mcom a_mmet c_sort c_cnt c_frees c_cur r0.2 c_fst c_snd c_let c_many c_val c_ord c_free c_code c_next c_com c_met) t) A) (va_A (wM G a_m a_mfst a_msnd a_mlet a_mmany a_mval a_mord a_mfree a_mcode a_mnext a_mcom a_mmet c_sort c_cnt c_frees c_cur c_thr c_fst c_snd c_let c_many c_val c_ord c_free c_code c_next c_com c_met) sz)) 0 0 (va_A (wM G a_m a_mfst a_msnd a_mlet a_mmany a_mval a_mord a_mfree a_mcode a_mnext a_mcom a_mmet c_sort c_cnt c_frees c_cur c_thr c_fst c_snd c_let c_many c_val c_ord c_free c_code c_next c_com c_met) sz) := by
  refine zMet (Qc := fun (A : Nat → Prop) => va_Ql (fun (r : Int64) (_ : Unit) => r = r0.1) (fun _ t => zB G A (wM G a_m a_mfst a_msnd a_mlet a_mmany a_mval a_mord a_mfree a_mcode a_mnext a_mcom a_mmet c_sort c_cnt c_frees c_cur r0.2 c_fst c_snd c_let c_many c_val c_ord c_free c_code c_next c_com c_met) t) A) (by decide) (Nat.le_of_ble_eq_true rfl) (fun xp xe xs xm xb xme xc A ls Q H locs C hN hK hP hD hS hA hl hQ => ?_)
  obtain ⟨hx, hb, hr, hts, hown, hlocks, hml, hin⟩ := C
  have hl : lv_has ls 2 [(0, .ref a_m)] := hl
  have h := hf
  unfold f_Model_value at h
  refine lv_aload_n hx hb d_Model_value_0 rfl (lv_at hl 0 rfl) ?_
  refine va_get (D := G.1) (ci := 6) (v := .int c_cur) (C := "BranchStoreModel") (T := F_Model) (N := 16) hx hb hts i_Model hown hK hP 0 rfl rfl 10 (by decide) (hts _ k_780) (fun _ h9 => h9) rfl d_Model_value_1 ?_
  obtain ⟨y4, hy4, h⟩ := ob h
  have J21 : ∀ (z6 : Int32), z6 = y4 → ∀ (H : Heap) (locs : List Loc) (ls : Array Slot), va_P G.1 classes (wM G a_m a_mfst a_msnd a_mlet a_mmany a_mval a_mord a_mfree a_mcode a_mnext a_mcom a_mmet c_sort c_cnt c_frees c_cur c_thr c_fst c_snd c_let c_many c_val c_ord c_free c_code c_next c_com c_met) H → va_D A (wM G a_m a_mfst a_msnd a_mlet a_mmany a_mval a_mord a_mfree a_mcode a_mnext a_mcom a_mmet c_sort c_cnt c_frees c_cur c_thr c_fst c_snd c_let c_many c_val c_ord c_free c_code c_next c_com c_met) → va_S A xs.heap H locs → lv_has ls 2 [(0, .ref a_m)] → W xp l xe { frames := 3, cells := 0, slots := 0, locals := 72 } xs xm ([.ref a_m] : List Value).toArray xb xme xc H locs 0 0 Q (F0 xm 21 ls [.int z6]) := by
    intro z6 ey H locs ls hP hD hS hl
    subst ey
    try dsimp only at h
    refine lv_istore_n (lv' := [(1, .int z6), (0, .ref a_m)]) hx hb d_Model_value_21 rfl hl (by decide) rfl (fun ls hl => ?_)
    refine lv_aload_n hx hb d_Model_value_22 rfl (lv_at hl 1 rfl) ?_
    refine lv_aload_n hx hb d_Model_value_23 rfl (lv_at hl 1 rfl) ?_
    refine va_get (D := G.1) (ci := 6) (v := .int c_cur) (C := "BranchStoreModel") (T := F_Model) (N := 16) hx hb hts i_Model hown hK hP 0 rfl rfl 10 (by decide) (hts _ k_780) (fun _ h9 => h9) rfl d_Model_value_24 ?_
    obtain ⟨y12, hy12, h⟩ := ob h
    have J46 : ∀ (z14 : Int32), narrow .boolean (.int z14) = .int z14 → z14 = y12 → ∀ (H : Heap) (locs : List Loc) (ls : Array Slot), va_P G.1 classes (wM G a_m a_mfst a_msnd a_mlet a_mmany a_mval a_mord a_mfree a_mcode a_mnext a_mcom a_mmet c_sort c_cnt c_frees c_cur c_thr c_fst c_snd c_let c_many c_val c_ord c_free c_code c_next c_com c_met) H → va_D A (wM G a_m a_mfst a_msnd a_mlet a_mmany a_mval a_mord a_mfree a_mcode a_mnext a_mcom a_mmet c_sort c_cnt c_frees c_cur c_thr c_fst c_snd c_let c_many c_val c_ord c_free c_code c_next c_com c_met) → va_S A xs.heap H locs → lv_has ls 2 [(0, .ref a_m), (1, .int z6)] → W xp l xe { frames := 3, cells := 0, slots := 0, locals := 72 } xs xm ([.ref a_m] : List Value).toArray xb xme xc H locs 0 0 Q (F0 xm 46 ls [.int z14, .ref a_m]) := by
      intro z14 hzz14 ey H locs ls hP hD hS hl
      subst ey
      try dsimp only at h
      refine lv_iconst (v := 1) hx hb d_Model_value_46 (by decide) ?_
      obtain ⟨r15, hr15, h⟩ := ob h
      refine zcalli (wr := []) (w2 := fun _ => (wM G a_m a_mfst a_msnd a_mlet a_mmany a_mval a_mord a_mfree a_mcode a_mnext a_mcom a_mmet c_sort c_cnt c_frees c_cur r15.2 c_fst c_snd c_let c_many c_val c_ord c_free c_code c_next c_com c_met)) (zrunV (As := [.int z14, .int 1]) (rest := []) ⟨hx, hb, hml, hown, hts⟩ hN hK (c_Model_fails l G H.size a_m a_mfst a_msnd a_mlet a_mmany a_mval a_mord a_mfree a_mcode a_mnext a_mcom a_mmet c_sort c_cnt c_frees c_cur c_thr c_fst c_snd c_let c_many c_val c_ord c_free c_code c_next c_com c_met z14 1 hzz14 r15 hr15) ⟨rfl, rfl⟩ kv_Model_70 ⟨Nat.le_of_ble_eq_true rfl, Nat.le_of_ble_eq_true rfl⟩ 0 rfl rfl rfl hl.1 (Nat.le_of_ble_eq_true rfl) d_Model_value_47 ⟨Nat.le_of_ble_eq_true rfl, Nat.le_of_ble_eq_true rfl⟩) hP hD hS hA [0, 1, 2, 3, 4, 5, 6, 7, 8, 9, 10, 11] [] [0, 1, 2, 3, 4, 5, 6, 7, 8, 9, 10, 11] rfl rfl rfl rfl (by decide) rfl (fun _ => rfl) (fun rr _ H locs hw hP hD hS => ?_)
      obtain ⟨hw, hz16⟩ := hw
      have hw := hw.symm
      subst hw
      refine lv_if_eq (tgt := 55) hx hb d_Model_value_50 (by decide) (fun q17 => ?_) (fun q17 => ?_)
      · have h := it h q17
        refine lv_aload_n hx hb d_Model_value_55 rfl (lv_at hl 0 rfl) ?_
        refine va_get (D := G.1) (ci := 6) (v := .ref a_mval) (C := "BranchStoreModel") (T := F_Model) (N := 16) hx hb hts i_Model hown hK hP 0 rfl rfl 5 (by decide) (hts _ k_775) (fun _ h9 => h9) rfl d_Model_value_56 ?_
        refine lv_aload_n hx hb d_Model_value_59 rfl (lv_at hl 0 rfl) ?_
        refine va_get (D := G.1) (ci := 6) (v := .ref a_mord) (C := "BranchStoreModel") (T := F_Model) (N := 16) hx hb hts i_Model hown hK hP 0 rfl rfl 6 (by decide) (hts _ k_776) (fun _ h9 => h9) rfl d_Model_value_60 ?_
        refine lv_iload_n hx hb d_Model_value_63 rfl (lv_at hl 1 rfl) ?_
        obtain ⟨h18, h⟩ := gi_k h
        refine va_iald hx hb hK hP 6 0 rfl rfl h18 d_Model_value_64 ?_
        obtain ⟨h19, h⟩ := gi_k h
        refine va_lald hx hb hK hP 5 2 rfl rfl h19 d_Model_value_65 ?_
        obtain rfl := Option.some.inj h
        exact zretl () hQ hS.2.2 hx hb hr hlocks hP hD hS rfl (Nat.le_refl _) (Nat.le_refl _) d_Model_value_66
      · have h := ie h q17
        refine lv_lconst (v := 0) hx hb d_Model_value_53 (by decide) ?_
        obtain rfl := Option.some.inj h
        exact zretl () hQ hS.2.2 hx hb hr hlocks hP hD hS rfl (Nat.le_refl _) (Nat.le_refl _) d_Model_value_54
    have h := hy12
    refine lv_if_eq (tgt := 41) hx hb d_Model_value_27 (by decide) (fun q8 => ?_) (fun q8 => ?_)
    · have h := it h q8
      refine lv_iconst (v := 1) hx hb d_Model_value_41 (by decide) ?_
      refine lv_goto (tgt := 46) hx hb d_Model_value_42 (by decide) ?_
      exact J46 1 rfl (Option.some.inj h) H locs ls hP hD hS (lv_sub hl [1, 0] rfl)
    · have h := ie h q8
      refine lv_aload_n hx hb d_Model_value_30 rfl (lv_at hl 1 rfl) ?_
      refine lv_iload_n hx hb d_Model_value_31 rfl (lv_at hl 0 rfl) ?_
      refine lv_sipush (v := 1502) hx hb d_Model_value_32 (by decide) ?_
      obtain ⟨r9, hr9, h⟩ := ob h
      refine zpcalli (wr := []) (w2 := fun _ => (wM G a_m a_mfst a_msnd a_mlet a_mmany a_mval a_mord a_mfree a_mcode a_mnext a_mcom a_mmet c_sort c_cnt c_frees c_cur c_thr c_fst c_snd c_let c_many c_val c_ord c_free c_code c_next c_com c_met)) (zrunV (As := [.int z6, .int 1502]) (rest := [.ref a_m]) ⟨hx, hb, hml, hown, hts⟩ hN hK (c_Model_isAt l G H.size a_m a_mfst a_msnd a_mlet a_mmany a_mval a_mord a_mfree a_mcode a_mnext a_mcom a_mmet c_sort c_cnt c_frees c_cur c_thr c_fst c_snd c_let c_many c_val c_ord c_free c_code c_next c_com c_met z6 1502 r9 hr9) ⟨rfl, rfl⟩ kv_Model_87 ⟨Nat.le_of_ble_eq_true rfl, Nat.le_of_ble_eq_true rfl⟩ 0 rfl rfl rfl hl.1 (Nat.le_of_ble_eq_true rfl) d_Model_value_35 ⟨Nat.le_of_ble_eq_true rfl, Nat.le_of_ble_eq_true rfl⟩) hP hD hS hA [0, 1, 2, 3, 4, 5, 6, 7, 8, 9, 10, 11] [] [0, 1, 2, 3, 4, 5, 6, 7, 8, 9, 10, 11] rfl rfl rfl rfl (by decide) rfl (fun _ => rfl) (fun rr _ H hw hP hD hS => ?_)
      obtain ⟨hw, hz10⟩ := hw
      have hw := hw.symm
      subst hw
      refine lv_if_ne (tgt := 45) hx hb d_Model_value_38 (by decide) (fun q11 => ?_) (fun q11 => ?_)
      · have h := ie h q11
        refine lv_iconst (v := 0) hx hb d_Model_value_45 (by decide) ?_
        exact J46 0 rfl (Option.some.inj h) H locs ls hP hD hS (lv_sub hl [1, 0] rfl)
      · have h := it h q11
        refine lv_iconst (v := 1) hx hb d_Model_value_41 (by decide) ?_
        refine lv_goto (tgt := 46) hx hb d_Model_value_42 (by decide) ?_
        exact J46 1 rfl (Option.some.inj h) H locs ls hP hD hS (lv_sub hl [1, 0] rfl)
  have h := hy4
  refine lv_if_eq (tgt := 17) hx hb d_Model_value_4 (by decide) (fun q2 => ?_) (fun q2 => ?_)
  · have h := it h q2
    refine lv_aload_n hx hb d_Model_value_17 rfl (lv_at hl 0 rfl) ?_
    refine va_get (D := G.1) (ci := 6) (v := .int c_cnt) (C := "BranchStoreModel") (T := F_Model) (N := 16) hx hb hts i_Model hown hK hP 0 rfl rfl 7 (by decide) (hts _ k_777) (fun _ h9 => h9) rfl d_Model_value_18 ?_
    exact J21 c_cnt (Option.some.inj h) H locs ls hP hD hS (lv_sub hl [0] rfl)
  · have h := ie h q2
    refine lv_aload_n hx hb d_Model_value_7 rfl (lv_at hl 0 rfl) ?_
    refine lv_sipush (v := 1502) hx hb d_Model_value_8 (by decide) ?_
    obtain ⟨r3, hr3, h⟩ := ob h
    refine zpcalli (wr := []) (w2 := fun _ => (wM G a_m a_mfst a_msnd a_mlet a_mmany a_mval a_mord a_mfree a_mcode a_mnext a_mcom a_mmet c_sort c_cnt c_frees c_cur c_thr c_fst c_snd c_let c_many c_val c_ord c_free c_code c_next c_com c_met)) (zrunV (As := [.int 1502]) (rest := []) ⟨hx, hb, hml, hown, hts⟩ hN hK (c_Model_below l G H.size a_m a_mfst a_msnd a_mlet a_mmany a_mval a_mord a_mfree a_mcode a_mnext a_mcom a_mmet c_sort c_cnt c_frees c_cur c_thr c_fst c_snd c_let c_many c_val c_ord c_free c_code c_next c_com c_met 1502 r3 hr3) ⟨rfl, rfl⟩ kv_Model_83 ⟨Nat.le_of_ble_eq_true rfl, Nat.le_of_ble_eq_true rfl⟩ 0 rfl rfl rfl hl.1 (Nat.le_of_ble_eq_true rfl) d_Model_value_11 ⟨Nat.le_of_ble_eq_true rfl, Nat.le_of_ble_eq_true rfl⟩) hP hD hS hA [0, 1, 2, 3, 4, 5, 6, 7, 8, 9, 10, 11] [] [0, 1, 2, 3, 4, 5, 6, 7, 8, 9, 10, 11] rfl rfl rfl rfl (by decide) rfl (fun _ => rfl) (fun rr _ H hw hP hD hS => ?_)
    have hw := hw.symm
    subst hw
    refine lv_goto (tgt := 21) hx hb d_Model_value_14 (by decide) ?_
    exact J21 r3 (Option.some.inj h) H locs ls hP hD hS (lv_sub hl [0] rfl)

noncomputable def f_Model_rank (c_sort : Int32) (c_cnt : Int32) (c_thr : Int32) (c_fst : (Nat → Int64)) (c_snd : (Nat → Int64)) (c_let : (Nat → Int32)) (c_many : (Nat → Int32)) (c_ord : (Nat → Int32))  : Option (Int32 × Int32) :=
(f_Model_below c_sort c_cnt c_fst c_snd c_let c_many c_ord 1500).bind fun r1 =>
some (r1, 0)
set_option maxHeartbeats 8000000 in
set_option maxRecDepth 100000 in
theorem c_Model_rank (l : Launch) (G : zG) (sz : Nat) (a_m a_mfst a_msnd a_mlet a_mmany a_mval a_mord a_mfree a_mcode a_mnext a_mcom a_mmet : Nat) (c_sort : Int32) (c_cnt : Int32) (c_frees : Int32) (c_cur : Int32) (c_thr : Int32) (c_fst : (Nat → Int64)) (c_snd : (Nat → Int64)) (c_let : (Nat → Int32)) (c_many : (Nat → Int32)) (c_val : (Nat → Int64)) (c_ord : (Nat → Int32)) (c_free : (Nat → Int32)) (c_code : (Nat → Int32)) (c_next : (Nat → Int32)) (c_com : (Nat → Int32)) (c_met : (Nat → Int32)) (r0 : (Int32 × Int32)) (hf : f_Model_rank c_sort c_cnt c_thr c_fst c_snd c_let c_many c_ord = some r0) :
    Met l y_Model_rank (Cond.code y_Model_rank prog_9_method_28_code 1 (some .int) :: lw_ok) { frames := 3, cells := 0, slots := 0, locals := 72 } (zPc G sz [.ref a_m] (wM G a_m a_mfst a_msnd a_mlet a_mmany a_mval a_mord a_mfree a_mcode a_mnext a_mcom a_mmet c_sort c_cnt c_frees c_cur c_thr c_fst c_snd c_let c_many c_val c_ord c_free c_code c_next c_com c_met))
      ((fun (A : Nat → Prop) => va_Qi (fun (r : Int32) (_ : Unit) => r = r0.1) (fun _ t => zB G A (wM G a_m a_mfst a_msnd a_mlet a_mmany a_mval a_mord a_mfree a_mcode a_mnext a_mcom a_mmet c_sort c_cnt c_frees c_cur r0.2 c_fst c_snd c_let c_many c_val c_ord c_free c_code c_next c_com c_met) t) A) (va_A (wM G a_m a_mfst a_msnd a_mlet a_mmany a_mval a_mord a_mfree a_mcode a_mnext a_mcom a_mmet c_sort c_cnt c_frees c_cur c_thr c_fst c_snd c_let c_many c_val c_ord c_free c_code c_next c_com c_met) sz)) 0 0 (va_A (wM G a_m a_mfst a_msnd a_mlet a_mmany a_mval a_mord a_mfree a_mcode a_mnext a_mcom a_mmet c_sort c_cnt c_frees c_cur c_thr c_fst c_snd c_let c_many c_val c_ord c_free c_code c_next c_com c_met) sz) := by
  refine zMet (Qc := fun (A : Nat → Prop) => va_Qi (fun (r : Int32) (_ : Unit) => r = r0.1) (fun _ t => zB G A (wM G a_m a_mfst a_msnd a_mlet a_mmany a_mval a_mord a_mfree a_mcode a_mnext a_mcom a_mmet c_sort c_cnt c_frees c_cur r0.2 c_fst c_snd c_let c_many c_val c_ord c_free c_code c_next c_com c_met) t) A) (by decide) (Nat.le_of_ble_eq_true rfl) (fun xp xe xs xm xb xme xc A ls Q H locs C hN hK hP hD hS hA hl hQ => ?_)
  obtain ⟨hx, hb, hr, hts, hown, hlocks, hml, hin⟩ := C
  have hl : lv_has ls 1 [(0, .ref a_m)] := hl
  have h := hf
  unfold f_Model_rank at h
  refine lv_aload_n hx hb d_Model_rank_0 rfl (lv_at hl 0 rfl) ?_
  refine lv_iconst (v := 0) hx hb d_Model_rank_1 (by decide) ?_
  refine va_put (D := G.1) (ci := 6) (v := .int 0) (ty := .int) (C := "BranchStoreModel") (T := F_Model) (N := 16) hx hb hts i_Model t_Model t_Model_ok n_Model hown hK hP hD hS 0 rfl rfl 11 (by decide) (hts _ k_781) (fun _ h9 => h9) rfl (by decide +kernel) rfl rfl (Nat.le_of_ble_eq_true rfl) d_Model_rank_2 (fun H locs hP hD hS => ?_)
  have hP : va_P G.1 classes (wM G a_m a_mfst a_msnd a_mlet a_mmany a_mval a_mord a_mfree a_mcode a_mnext a_mcom a_mmet c_sort c_cnt c_frees c_cur 0 c_fst c_snd c_let c_many c_val c_ord c_free c_code c_next c_com c_met) H := hP
  have hD : va_D A (wM G a_m a_mfst a_msnd a_mlet a_mmany a_mval a_mord a_mfree a_mcode a_mnext a_mcom a_mmet c_sort c_cnt c_frees c_cur 0 c_fst c_snd c_let c_many c_val c_ord c_free c_code c_next c_com c_met) := hD
  refine lv_aload_n hx hb d_Model_rank_5 rfl (lv_at hl 0 rfl) ?_
  refine lv_sipush (v := 1500) hx hb d_Model_rank_6 (by decide) ?_
  obtain ⟨r1, hr1, h⟩ := ob h
  refine zpcalli (wr := []) (w2 := fun _ => (wM G a_m a_mfst a_msnd a_mlet a_mmany a_mval a_mord a_mfree a_mcode a_mnext a_mcom a_mmet c_sort c_cnt c_frees c_cur 0 c_fst c_snd c_let c_many c_val c_ord c_free c_code c_next c_com c_met)) (zrunV (As := [.int 1500]) (rest := []) ⟨hx, hb, hml, hown, hts⟩ hN hK (c_Model_below l G H.size a_m a_mfst a_msnd a_mlet a_mmany a_mval a_mord a_mfree a_mcode a_mnext a_mcom a_mmet c_sort c_cnt c_frees c_cur 0 c_fst c_snd c_let c_many c_val c_ord c_free c_code c_next c_com c_met 1500 r1 hr1) ⟨rfl, rfl⟩ kv_Model_83 ⟨Nat.le_of_ble_eq_true rfl, Nat.le_of_ble_eq_true rfl⟩ 0 rfl rfl rfl hl.1 (Nat.le_of_ble_eq_true rfl) d_Model_rank_9 ⟨Nat.le_of_ble_eq_true rfl, Nat.le_of_ble_eq_true rfl⟩) hP hD hS hA [0, 1, 2, 3, 4, 5, 6, 7, 8, 9, 10, 11] [] [0, 1, 2, 3, 4, 5, 6, 7, 8, 9, 10, 11] rfl rfl rfl rfl (by decide) rfl (fun _ => rfl) (fun rr _ H hw hP hD hS => ?_)
  have hw := hw.symm
  subst hw
  obtain rfl := Option.some.inj h
  exact zreti () hQ hS.2.2 hx hb hr hlocks hP hD hS rfl (Nat.le_refl _) (Nat.le_refl _) d_Model_rank_12

noncomputable def f_Model_select (c_cnt : Int32) (c_cur : Int32) (c_thr : Int32) (c_fst : (Nat → Int64)) (c_snd : (Nat → Int64)) (c_let : (Nat → Int32)) (c_many : (Nat → Int32)) (c_ord : (Nat → Int32)) (p_1 : Int32) : Option (Int32 × Int32 × (Nat → Int64) × (Nat → Int64) × (Nat → Int32) × (Nat → Int32)) :=
(if p_1 < 0 then
(some 1)
else
(if p_1 < c_cnt then
(some 0)
else
(some 1))).bind fun y5 =>
(f_Model_fails c_thr y5 1).bind fun r7 =>
if r7.1 = 0 then
((f_Model_goes c_cnt c_cur c_fst c_snd c_let c_many c_ord p_1).bind fun r10 =>
some (r10.2.1, r7.2, r10.2.2.1, r10.2.2.2.1, r10.2.2.2.2.1, r10.2.2.2.2.2))
else
(some (c_cur, r7.2, c_fst, c_snd, c_let, c_many))
set_option maxHeartbeats 8000000 in
set_option maxRecDepth 100000 in
theorem c_Model_select (l : Launch) (G : zG) (sz : Nat) (a_m a_mfst a_msnd a_mlet a_mmany a_mval a_mord a_mfree a_mcode a_mnext a_mcom a_mmet : Nat) (c_sort : Int32) (c_cnt : Int32) (c_frees : Int32) (c_cur : Int32) (c_thr : Int32) (c_fst : (Nat → Int64)) (c_snd : (Nat → Int64)) (c_let : (Nat → Int32)) (c_many : (Nat → Int32)) (c_val : (Nat → Int64)) (c_ord : (Nat → Int32)) (c_free : (Nat → Int32)) (c_code : (Nat → Int32)) (c_next : (Nat → Int32)) (c_com : (Nat → Int32)) (c_met : (Nat → Int32)) (p_1 : Int32) (r0 : (Int32 × Int32 × (Nat → Int64) × (Nat → Int64) × (Nat → Int32) × (Nat → Int32))) (hf : f_Model_select c_cnt c_cur c_thr c_fst c_snd c_let c_many c_ord p_1 = some r0) :
    Met l y_Model_select (Cond.code y_Model_select prog_9_method_29_code 2 none :: lw_ok) { frames := 2, cells := 0, slots := 0, locals := 44 } (zPc G sz [.ref a_m, .int p_1] (wM G a_m a_mfst a_msnd a_mlet a_mmany a_mval a_mord a_mfree a_mcode a_mnext a_mcom a_mmet c_sort c_cnt c_frees c_cur c_thr c_fst c_snd c_let c_many c_val c_ord c_free c_code c_next c_com c_met))
      ((fun (A : Nat → Prop) => va_Qv (fun (_ : Unit) => True) (fun _ t => zB G A (wM G a_m a_mfst a_msnd a_mlet a_mmany a_mval a_mord a_mfree a_mcode a_mnext a_mcom a_mmet c_sort c_cnt c_frees r0.1 r0.2.1 r0.2.2.1 r0.2.2.2.1 r0.2.2.2.2.1 r0.2.2.2.2.2 c_val c_ord c_free c_code c_next c_com c_met) t) A) (va_A (wM G a_m a_mfst a_msnd a_mlet a_mmany a_mval a_mord a_mfree a_mcode a_mnext a_mcom a_mmet c_sort c_cnt c_frees c_cur c_thr c_fst c_snd c_let c_many c_val c_ord c_free c_code c_next c_com c_met) sz)) 0 0 (va_A (wM G a_m a_mfst a_msnd a_mlet a_mmany a_mval a_mord a_mfree a_mcode a_mnext a_mcom a_mmet c_sort c_cnt c_frees c_cur c_thr c_fst c_snd c_let c_many c_val c_ord c_free c_code c_next c_com c_met) sz) := by
  refine zMet (Qc := fun (A : Nat → Prop) => va_Qv (fun (_ : Unit) => True) (fun _ t => zB G A (wM G a_m a_mfst a_msnd a_mlet a_mmany a_mval a_mord a_mfree a_mcode a_mnext a_mcom a_mmet c_sort c_cnt c_frees r0.1 r0.2.1 r0.2.2.1 r0.2.2.2.1 r0.2.2.2.2.1 r0.2.2.2.2.2 c_val c_ord c_free c_code c_next c_com c_met) t) A) (by decide) (Nat.le_of_ble_eq_true rfl) (fun xp xe xs xm xb xme xc A ls Q H locs C hN hK hP hD hS hA hl hQ => ?_)
  obtain ⟨hx, hb, hr, hts, hown, hlocks, hml, hin⟩ := C
  have hl : lv_has ls 2 [(0, .ref a_m), (1, .int p_1)] := hl
  have h := hf
  unfold f_Model_select at h
  refine lv_aload_n hx hb d_Model_select_0 rfl (lv_at hl 0 rfl) ?_
  refine lv_iload_n hx hb d_Model_select_1 rfl (lv_at hl 1 rfl) ?_
  obtain ⟨y4, hy4, h⟩ := ob h
  have J18 : ∀ (z6 : Int32), narrow .boolean (.int z6) = .int z6 → z6 = y4 → ∀ (H : Heap) (locs : List Loc) (ls : Array Slot), va_P G.1 classes (wM G a_m a_mfst a_msnd a_mlet a_mmany a_mval a_mord a_mfree a_mcode a_mnext a_mcom a_mmet c_sort c_cnt c_frees c_cur c_thr c_fst c_snd c_let c_many c_val c_ord c_free c_code c_next c_com c_met) H → va_D A (wM G a_m a_mfst a_msnd a_mlet a_mmany a_mval a_mord a_mfree a_mcode a_mnext a_mcom a_mmet c_sort c_cnt c_frees c_cur c_thr c_fst c_snd c_let c_many c_val c_ord c_free c_code c_next c_com c_met) → va_S A xs.heap H locs → lv_has ls 2 [(0, .ref a_m), (1, .int p_1)] → W xp l xe { frames := 2, cells := 0, slots := 0, locals := 44 } xs xm ([.ref a_m, .int p_1] : List Value).toArray xb xme xc H locs 0 0 Q (F0 xm 18 ls [.int z6, .ref a_m]) := by
    intro z6 hzz6 ey H locs ls hP hD hS hl
    subst ey
    try dsimp only at h
    refine lv_iconst (v := 1) hx hb d_Model_select_18 (by decide) ?_
    obtain ⟨r7, hr7, h⟩ := ob h
    refine zcalli (wr := []) (w2 := fun _ => (wM G a_m a_mfst a_msnd a_mlet a_mmany a_mval a_mord a_mfree a_mcode a_mnext a_mcom a_mmet c_sort c_cnt c_frees c_cur r7.2 c_fst c_snd c_let c_many c_val c_ord c_free c_code c_next c_com c_met)) (zrunV (As := [.int z6, .int 1]) (rest := []) ⟨hx, hb, hml, hown, hts⟩ hN hK (c_Model_fails l G H.size a_m a_mfst a_msnd a_mlet a_mmany a_mval a_mord a_mfree a_mcode a_mnext a_mcom a_mmet c_sort c_cnt c_frees c_cur c_thr c_fst c_snd c_let c_many c_val c_ord c_free c_code c_next c_com c_met z6 1 hzz6 r7 hr7) ⟨rfl, rfl⟩ kv_Model_70 ⟨Nat.le_of_ble_eq_true rfl, Nat.le_of_ble_eq_true rfl⟩ 0 rfl rfl rfl hl.1 (Nat.le_of_ble_eq_true rfl) d_Model_select_19 ⟨Nat.le_of_ble_eq_true rfl, Nat.le_of_ble_eq_true rfl⟩) hP hD hS hA [0, 1, 2, 3, 4, 5, 6, 7, 8, 9, 10, 11] [] [0, 1, 2, 3, 4, 5, 6, 7, 8, 9, 10, 11] rfl rfl rfl rfl (by decide) rfl (fun _ => rfl) (fun rr _ H locs hw hP hD hS => ?_)
    obtain ⟨hw, hz8⟩ := hw
    have hw := hw.symm
    subst hw
    refine lv_if_eq (tgt := 26) hx hb d_Model_select_22 (by decide) (fun q9 => ?_) (fun q9 => ?_)
    · have h := it h q9
      refine lv_aload_n hx hb d_Model_select_26 rfl (lv_at hl 0 rfl) ?_
      refine lv_iload_n hx hb d_Model_select_27 rfl (lv_at hl 1 rfl) ?_
      obtain ⟨r10, hr10, h⟩ := ob h
      refine zcalli (wr := []) (w2 := fun _ => (wM G a_m a_mfst a_msnd a_mlet a_mmany a_mval a_mord a_mfree a_mcode a_mnext a_mcom a_mmet c_sort c_cnt c_frees r10.2.1 r7.2 r10.2.2.1 r10.2.2.2.1 r10.2.2.2.2.1 r10.2.2.2.2.2 c_val c_ord c_free c_code c_next c_com c_met)) (zrunV (As := [.int p_1]) (rest := []) ⟨hx, hb, hml, hown, hts⟩ hN hK (c_Model_goes l G H.size a_m a_mfst a_msnd a_mlet a_mmany a_mval a_mord a_mfree a_mcode a_mnext a_mcom a_mmet c_sort c_cnt c_frees c_cur r7.2 c_fst c_snd c_let c_many c_val c_ord c_free c_code c_next c_com c_met p_1 r10 hr10) ⟨rfl, rfl⟩ kv_Model_98 ⟨Nat.le_of_ble_eq_true rfl, Nat.le_of_ble_eq_true rfl⟩ 0 rfl rfl rfl hl.1 (Nat.le_of_ble_eq_true rfl) d_Model_select_28 ⟨Nat.le_of_ble_eq_true rfl, Nat.le_of_ble_eq_true rfl⟩) hP hD hS hA [0, 1, 2, 3, 4, 5, 6, 7, 8, 9, 10, 11] [] [0, 1, 2, 3, 4, 5, 6, 7, 8, 9, 10, 11] rfl rfl rfl rfl (by decide) rfl (fun _ => rfl) (fun rr _ H locs hw hP hD hS => ?_)
      obtain ⟨hw, hz11⟩ := hw
      have hw := hw.symm
      subst hw
      refine lv_pop hx hb d_Model_select_31 rfl ?_
      obtain rfl := Option.some.inj h
      exact zretv () hQ hS.2.2 hx hb hr hlocks hP hD hS trivial (Nat.le_refl _) (Nat.le_refl _) d_Model_select_32
    · have h := ie h q9
      obtain rfl := Option.some.inj h
      exact zretv () hQ hS.2.2 hx hb hr hlocks hP hD hS trivial (Nat.le_refl _) (Nat.le_refl _) d_Model_select_25
  have h := hy4
  refine lv_if_lt (tgt := 13) hx hb d_Model_select_2 (by decide) (fun q2 => ?_) (fun q2 => ?_)
  · have h := it h q2
    refine lv_iconst (v := 1) hx hb d_Model_select_13 (by decide) ?_
    refine lv_goto (tgt := 18) hx hb d_Model_select_14 (by decide) ?_
    exact J18 1 rfl (Option.some.inj h) H locs ls hP hD hS (lv_sub hl [0, 1] rfl)
  · have h := ie h q2
    refine lv_iload_n hx hb d_Model_select_5 rfl (lv_at hl 1 rfl) ?_
    refine lv_aload_n hx hb d_Model_select_6 rfl (lv_at hl 0 rfl) ?_
    refine va_get (D := G.1) (ci := 6) (v := .int c_cnt) (C := "BranchStoreModel") (T := F_Model) (N := 16) hx hb hts i_Model hown hK hP 0 rfl rfl 7 (by decide) (hts _ k_777) (fun _ h9 => h9) rfl d_Model_select_7 ?_
    refine lv_icmp_lt (tgt := 17) hx hb d_Model_select_10 (by decide) (fun q3 => ?_) (fun q3 => ?_)
    · have h := it h q3
      refine lv_iconst (v := 0) hx hb d_Model_select_17 (by decide) ?_
      exact J18 0 rfl (Option.some.inj h) H locs ls hP hD hS (lv_sub hl [0, 1] rfl)
    · have h := ie h q3
      refine lv_iconst (v := 1) hx hb d_Model_select_13 (by decide) ?_
      refine lv_goto (tgt := 18) hx hb d_Model_select_14 (by decide) ?_
      exact J18 1 rfl (Option.some.inj h) H locs ls hP hD hS (lv_sub hl [0, 1] rfl)

noncomputable def f_Model_range (c_sort : Int32) (c_cnt : Int32) (c_thr : Int32) (c_fst : (Nat → Int64)) (c_snd : (Nat → Int64)) (c_let : (Nat → Int32)) (c_many : (Nat → Int32)) (c_ord : (Nat → Int32))  : Option (Int32 × Int32) :=
(f_Model_below c_sort c_cnt c_fst c_snd c_let c_many c_ord 1501).bind fun r1 =>
(f_Model_below c_sort c_cnt c_fst c_snd c_let c_many c_ord 1500).bind fun r2 =>
(f_Model_isAt c_sort c_cnt c_fst c_snd c_let c_many c_ord r2 1500).bind fun r3 =>
(if r3 = 0 then
(some 0)
else
(some 1)).bind fun y8 =>
nm (r2 + y8) fun v10 =>
if v10 ≤ r1 then
(some (0, 0))
else
(some (v10 - r1, 0))
set_option maxHeartbeats 8000000 in
set_option maxRecDepth 100000 in
theorem c_Model_range (l : Launch) (G : zG) (sz : Nat) (a_m a_mfst a_msnd a_mlet a_mmany a_mval a_mord a_mfree a_mcode a_mnext a_mcom a_mmet : Nat) (c_sort : Int32) (c_cnt : Int32) (c_frees : Int32) (c_cur : Int32) (c_thr : Int32) (c_fst : (Nat → Int64)) (c_snd : (Nat → Int64)) (c_let : (Nat → Int32)) (c_many : (Nat → Int32)) (c_val : (Nat → Int64)) (c_ord : (Nat → Int32)) (c_free : (Nat → Int32)) (c_code : (Nat → Int32)) (c_next : (Nat → Int32)) (c_com : (Nat → Int32)) (c_met : (Nat → Int32)) (r0 : (Int32 × Int32)) (hf : f_Model_range c_sort c_cnt c_thr c_fst c_snd c_let c_many c_ord = some r0) :
    Met l y_Model_range (Cond.code y_Model_range prog_9_method_30_code 3 (some .int) :: lw_ok) { frames := 3, cells := 0, slots := 0, locals := 72 } (zPc G sz [.ref a_m] (wM G a_m a_mfst a_msnd a_mlet a_mmany a_mval a_mord a_mfree a_mcode a_mnext a_mcom a_mmet c_sort c_cnt c_frees c_cur c_thr c_fst c_snd c_let c_many c_val c_ord c_free c_code c_next c_com c_met))
      ((fun (A : Nat → Prop) => va_Qi (fun (r : Int32) (_ : Unit) => r = r0.1) (fun _ t => zB G A (wM G a_m a_mfst a_msnd a_mlet a_mmany a_mval a_mord a_mfree a_mcode a_mnext a_mcom a_mmet c_sort c_cnt c_frees c_cur r0.2 c_fst c_snd c_let c_many c_val c_ord c_free c_code c_next c_com c_met) t) A) (va_A (wM G a_m a_mfst a_msnd a_mlet a_mmany a_mval a_mord a_mfree a_mcode a_mnext a_mcom a_mmet c_sort c_cnt c_frees c_cur c_thr c_fst c_snd c_let c_many c_val c_ord c_free c_code c_next c_com c_met) sz)) 0 0 (va_A (wM G a_m a_mfst a_msnd a_mlet a_mmany a_mval a_mord a_mfree a_mcode a_mnext a_mcom a_mmet c_sort c_cnt c_frees c_cur c_thr c_fst c_snd c_let c_many c_val c_ord c_free c_code c_next c_com c_met) sz) := by
  refine zMet (Qc := fun (A : Nat → Prop) => va_Qi (fun (r : Int32) (_ : Unit) => r = r0.1) (fun _ t => zB G A (wM G a_m a_mfst a_msnd a_mlet a_mmany a_mval a_mord a_mfree a_mcode a_mnext a_mcom a_mmet c_sort c_cnt c_frees c_cur r0.2 c_fst c_snd c_let c_many c_val c_ord c_free c_code c_next c_com c_met) t) A) (by decide) (Nat.le_of_ble_eq_true rfl) (fun xp xe xs xm xb xme xc A ls Q H locs C hN hK hP hD hS hA hl hQ => ?_)
  obtain ⟨hx, hb, hr, hts, hown, hlocks, hml, hin⟩ := C
  have hl : lv_has ls 3 [(0, .ref a_m)] := hl
  have h := hf
  unfold f_Model_range at h
  refine lv_aload_n hx hb d_Model_range_0 rfl (lv_at hl 0 rfl) ?_
  refine lv_iconst (v := 0) hx hb d_Model_range_1 (by decide) ?_
  refine va_put (D := G.1) (ci := 6) (v := .int 0) (ty := .int) (C := "BranchStoreModel") (T := F_Model) (N := 16) hx hb hts i_Model t_Model t_Model_ok n_Model hown hK hP hD hS 0 rfl rfl 11 (by decide) (hts _ k_781) (fun _ h9 => h9) rfl (by decide +kernel) rfl rfl (Nat.le_of_ble_eq_true rfl) d_Model_range_2 (fun H locs hP hD hS => ?_)
  have hP : va_P G.1 classes (wM G a_m a_mfst a_msnd a_mlet a_mmany a_mval a_mord a_mfree a_mcode a_mnext a_mcom a_mmet c_sort c_cnt c_frees c_cur 0 c_fst c_snd c_let c_many c_val c_ord c_free c_code c_next c_com c_met) H := hP
  have hD : va_D A (wM G a_m a_mfst a_msnd a_mlet a_mmany a_mval a_mord a_mfree a_mcode a_mnext a_mcom a_mmet c_sort c_cnt c_frees c_cur 0 c_fst c_snd c_let c_many c_val c_ord c_free c_code c_next c_com c_met) := hD
  refine lv_aload_n hx hb d_Model_range_5 rfl (lv_at hl 0 rfl) ?_
  refine lv_sipush (v := 1501) hx hb d_Model_range_6 (by decide) ?_
  obtain ⟨r1, hr1, h⟩ := ob h
  refine zpcalli (wr := []) (w2 := fun _ => (wM G a_m a_mfst a_msnd a_mlet a_mmany a_mval a_mord a_mfree a_mcode a_mnext a_mcom a_mmet c_sort c_cnt c_frees c_cur 0 c_fst c_snd c_let c_many c_val c_ord c_free c_code c_next c_com c_met)) (zrunV (As := [.int 1501]) (rest := []) ⟨hx, hb, hml, hown, hts⟩ hN hK (c_Model_below l G H.size a_m a_mfst a_msnd a_mlet a_mmany a_mval a_mord a_mfree a_mcode a_mnext a_mcom a_mmet c_sort c_cnt c_frees c_cur 0 c_fst c_snd c_let c_many c_val c_ord c_free c_code c_next c_com c_met 1501 r1 hr1) ⟨rfl, rfl⟩ kv_Model_83 ⟨Nat.le_of_ble_eq_true rfl, Nat.le_of_ble_eq_true rfl⟩ 0 rfl rfl rfl hl.1 (Nat.le_of_ble_eq_true rfl) d_Model_range_9 ⟨Nat.le_of_ble_eq_true rfl, Nat.le_of_ble_eq_true rfl⟩) hP hD hS hA [0, 1, 2, 3, 4, 5, 6, 7, 8, 9, 10, 11] [] [0, 1, 2, 3, 4, 5, 6, 7, 8, 9, 10, 11] rfl rfl rfl rfl (by decide) rfl (fun _ => rfl) (fun rr _ H hw hP hD hS => ?_)
  have hw := hw.symm
  subst hw
  refine lv_istore_n (lv' := [(1, .int r1), (0, .ref a_m)]) hx hb d_Model_range_12 rfl hl (by decide) rfl (fun ls hl => ?_)
  refine lv_aload_n hx hb d_Model_range_13 rfl (lv_at hl 1 rfl) ?_
  refine lv_sipush (v := 1500) hx hb d_Model_range_14 (by decide) ?_
  obtain ⟨r2, hr2, h⟩ := ob h
  refine zpcalli (wr := []) (w2 := fun _ => (wM G a_m a_mfst a_msnd a_mlet a_mmany a_mval a_mord a_mfree a_mcode a_mnext a_mcom a_mmet c_sort c_cnt c_frees c_cur 0 c_fst c_snd c_let c_many c_val c_ord c_free c_code c_next c_com c_met)) (zrunV (As := [.int 1500]) (rest := []) ⟨hx, hb, hml, hown, hts⟩ hN hK (c_Model_below l G H.size a_m a_mfst a_msnd a_mlet a_mmany a_mval a_mord a_mfree a_mcode a_mnext a_mcom a_mmet c_sort c_cnt c_frees c_cur 0 c_fst c_snd c_let c_many c_val c_ord c_free c_code c_next c_com c_met 1500 r2 hr2) ⟨rfl, rfl⟩ kv_Model_83 ⟨Nat.le_of_ble_eq_true rfl, Nat.le_of_ble_eq_true rfl⟩ 0 rfl rfl rfl hl.1 (Nat.le_of_ble_eq_true rfl) d_Model_range_17 ⟨Nat.le_of_ble_eq_true rfl, Nat.le_of_ble_eq_true rfl⟩) hP hD hS hA [0, 1, 2, 3, 4, 5, 6, 7, 8, 9, 10, 11] [] [0, 1, 2, 3, 4, 5, 6, 7, 8, 9, 10, 11] rfl rfl rfl rfl (by decide) rfl (fun _ => rfl) (fun rr _ H hw hP hD hS => ?_)
  have hw := hw.symm
  subst hw
  refine lv_istore_n (lv' := [(2, .int r2), (1, .int r1), (0, .ref a_m)]) hx hb d_Model_range_20 rfl hl (by decide) rfl (fun ls hl => ?_)
  refine lv_iload_n hx hb d_Model_range_21 rfl (lv_at hl 0 rfl) ?_
  refine lv_aload_n hx hb d_Model_range_22 rfl (lv_at hl 2 rfl) ?_
  refine lv_iload_n hx hb d_Model_range_23 rfl (lv_at hl 0 rfl) ?_
  refine lv_sipush (v := 1500) hx hb d_Model_range_24 (by decide) ?_
  obtain ⟨r3, hr3, h⟩ := ob h
  refine zpcalli (wr := []) (w2 := fun _ => (wM G a_m a_mfst a_msnd a_mlet a_mmany a_mval a_mord a_mfree a_mcode a_mnext a_mcom a_mmet c_sort c_cnt c_frees c_cur 0 c_fst c_snd c_let c_many c_val c_ord c_free c_code c_next c_com c_met)) (zrunV (As := [.int r2, .int 1500]) (rest := [.int r2]) ⟨hx, hb, hml, hown, hts⟩ hN hK (c_Model_isAt l G H.size a_m a_mfst a_msnd a_mlet a_mmany a_mval a_mord a_mfree a_mcode a_mnext a_mcom a_mmet c_sort c_cnt c_frees c_cur 0 c_fst c_snd c_let c_many c_val c_ord c_free c_code c_next c_com c_met r2 1500 r3 hr3) ⟨rfl, rfl⟩ kv_Model_87 ⟨Nat.le_of_ble_eq_true rfl, Nat.le_of_ble_eq_true rfl⟩ 0 rfl rfl rfl hl.1 (Nat.le_of_ble_eq_true rfl) d_Model_range_27 ⟨Nat.le_of_ble_eq_true rfl, Nat.le_of_ble_eq_true rfl⟩) hP hD hS hA [0, 1, 2, 3, 4, 5, 6, 7, 8, 9, 10, 11] [] [0, 1, 2, 3, 4, 5, 6, 7, 8, 9, 10, 11] rfl rfl rfl rfl (by decide) rfl (fun _ => rfl) (fun rr _ H hw hP hD hS => ?_)
  obtain ⟨hw, hz4⟩ := hw
  have hw := hw.symm
  subst hw
  obtain ⟨y7, hy7, h⟩ := ob h
  have J38 : ∀ (z9 : Int32), narrow .boolean (.int z9) = .int z9 → z9 = y7 → ∀ (H : Heap) (locs : List Loc) (ls : Array Slot), va_P G.1 classes (wM G a_m a_mfst a_msnd a_mlet a_mmany a_mval a_mord a_mfree a_mcode a_mnext a_mcom a_mmet c_sort c_cnt c_frees c_cur 0 c_fst c_snd c_let c_many c_val c_ord c_free c_code c_next c_com c_met) H → va_D A (wM G a_m a_mfst a_msnd a_mlet a_mmany a_mval a_mord a_mfree a_mcode a_mnext a_mcom a_mmet c_sort c_cnt c_frees c_cur 0 c_fst c_snd c_let c_many c_val c_ord c_free c_code c_next c_com c_met) → va_S A xs.heap H locs → lv_has ls 3 [(1, .int r1)] → W xp l xe { frames := 3, cells := 0, slots := 0, locals := 72 } xs xm ([.ref a_m] : List Value).toArray xb xme xc H locs 0 0 Q (F0 xm 38 ls [.int z9, .int r2]) := by
    intro z9 hzz9 ey H locs ls hP hD hS hl
    subst ey
    try dsimp only at h
    refine lv_iadd hx hb d_Model_range_38 ?_
    refine lv_topi (fun v10 ev10 => ?_)
    have h := nm_k h v10 ev10
    refine lv_istore_n (lv' := [(2, .int v10), (1, .int r1)]) hx hb d_Model_range_39 rfl hl (by decide) rfl (fun ls hl => ?_)
    refine lv_iload_n hx hb d_Model_range_40 rfl (lv_at hl 0 rfl) ?_
    refine lv_iload_n hx hb d_Model_range_41 rfl (lv_at hl 1 rfl) ?_
    refine lv_icmp_le (tgt := 51) hx hb d_Model_range_42 (by decide) (fun q11 => ?_) (fun q11 => ?_)
    · have h := it h q11
      refine lv_iconst (v := 0) hx hb d_Model_range_51 (by decide) ?_
      obtain rfl := Option.some.inj h
      exact zreti () hQ hS.2.2 hx hb hr hlocks hP hD hS rfl (Nat.le_refl _) (Nat.le_refl _) d_Model_range_52
    · have h := ie h q11
      refine lv_iload_n hx hb d_Model_range_45 rfl (lv_at hl 0 rfl) ?_
      refine lv_iload_n hx hb d_Model_range_46 rfl (lv_at hl 1 rfl) ?_
      refine lv_isub hx hb d_Model_range_47 ?_
      refine lv_goto (tgt := 52) hx hb d_Model_range_48 (by decide) ?_
      obtain rfl := Option.some.inj h
      exact zreti () hQ hS.2.2 hx hb hr hlocks hP hD hS rfl (Nat.le_refl _) (Nat.le_refl _) d_Model_range_52
  have h := hy7
  refine lv_if_eq (tgt := 37) hx hb d_Model_range_30 (by decide) (fun q6 => ?_) (fun q6 => ?_)
  · have h := it h q6
    refine lv_iconst (v := 0) hx hb d_Model_range_37 (by decide) ?_
    exact J38 0 rfl (Option.some.inj h) H locs ls hP hD hS (lv_sub hl [1] rfl)
  · have h := ie h q6
    refine lv_iconst (v := 1) hx hb d_Model_range_33 (by decide) ?_
    refine lv_goto (tgt := 38) hx hb d_Model_range_34 (by decide) ?_
    exact J38 1 rfl (Option.some.inj h) H locs ls hP hD hS (lv_sub hl [1] rfl)

theorem kv_Model_103 : zKV "BranchStoreModel" 103 y_Model_range prog_9_method_30_code 3 (some .int) 0 := ⟨k_941, k_934, k_935, k_8, k_936, by decide +kernel⟩
noncomputable def s_Model_cut_15 (x1 : Int32) (x2 : Int32) (x3 : Int32) (c_cnt : Int32) (c_frees : Int32) (c_ord : (Nat → Int32)) (c_free : (Nat → Int32)) : Option ((Int32 × Int32 × Int32 × (Nat → Int32) × (Nat → Int32)) ⊕ (Int32 × Int32 × (Nat → Int32) × (Nat → Int32))) :=
if x1 ≤ x3 then
(some (.inr (c_cnt, c_frees, c_ord, c_free)))
else
((f_Model_delete c_cnt c_frees c_ord c_free (((x2 + x1) - 1) - x3)).bind fun r10 =>
nm (x3 + 1) fun v11 =>
some (.inl (v11, r10.1, r10.2.1, r10.2.2.1, r10.2.2.2)))
noncomputable def f_Model_cut (c_sort : Int32) (c_cnt : Int32) (c_frees : Int32) (c_thr : Int32) (c_fst : (Nat → Int64)) (c_snd : (Nat → Int64)) (c_let : (Nat → Int32)) (c_many : (Nat → Int32)) (c_ord : (Nat → Int32)) (c_free : (Nat → Int32))  : Option (Int32 × Int32 × Int32 × Int32 × (Nat → Int32) × (Nat → Int32)) :=
(f_Model_range c_sort c_cnt c_thr c_fst c_snd c_let c_many c_ord).bind fun r1 =>
(f_Model_below c_sort c_cnt c_fst c_snd c_let c_many c_ord 1501).bind fun r2 =>
(lp (fun v => s_Model_cut_15 r1.1 r2 v.1 v.2.1 v.2.2.1 v.2.2.2.1 v.2.2.2.2) (0, c_cnt, c_frees, c_ord, c_free)).bind fun y16 =>
some (r1.1, y16.1, y16.2.1, r1.2, y16.2.2.1, y16.2.2.2)
set_option maxHeartbeats 8000000 in
set_option maxRecDepth 100000 in
theorem c_Model_cut (l : Launch) (G : zG) (sz : Nat) (a_m a_mfst a_msnd a_mlet a_mmany a_mval a_mord a_mfree a_mcode a_mnext a_mcom a_mmet : Nat) (c_sort : Int32) (c_cnt : Int32) (c_frees : Int32) (c_cur : Int32) (c_thr : Int32) (c_fst : (Nat → Int64)) (c_snd : (Nat → Int64)) (c_let : (Nat → Int32)) (c_many : (Nat → Int32)) (c_val : (Nat → Int64)) (c_ord : (Nat → Int32)) (c_free : (Nat → Int32)) (c_code : (Nat → Int32)) (c_next : (Nat → Int32)) (c_com : (Nat → Int32)) (c_met : (Nat → Int32)) (r0 : (Int32 × Int32 × Int32 × Int32 × (Nat → Int32) × (Nat → Int32))) (hf : f_Model_cut c_sort c_cnt c_frees c_thr c_fst c_snd c_let c_many c_ord c_free = some r0) :
    Met l y_Model_cut (Cond.code y_Model_cut prog_9_method_31_code 4 (some .int) :: lw_ok) { frames := 4, cells := 0, slots := 0, locals := 94 } (zPc G sz [.ref a_m] (wM G a_m a_mfst a_msnd a_mlet a_mmany a_mval a_mord a_mfree a_mcode a_mnext a_mcom a_mmet c_sort c_cnt c_frees c_cur c_thr c_fst c_snd c_let c_many c_val c_ord c_free c_code c_next c_com c_met))
      ((fun (A : Nat → Prop) => va_Qi (fun (r : Int32) (_ : Unit) => r = r0.1) (fun _ t => zB G A (wM G a_m a_mfst a_msnd a_mlet a_mmany a_mval a_mord a_mfree a_mcode a_mnext a_mcom a_mmet c_sort r0.2.1 r0.2.2.1 c_cur r0.2.2.2.1 c_fst c_snd c_let c_many c_val r0.2.2.2.2.1 r0.2.2.2.2.2 c_code c_next c_com c_met) t) A) (va_A (wM G a_m a_mfst a_msnd a_mlet a_mmany a_mval a_mord a_mfree a_mcode a_mnext a_mcom a_mmet c_sort c_cnt c_frees c_cur c_thr c_fst c_snd c_let c_many c_val c_ord c_free c_code c_next c_com c_met) sz)) 0 0 (va_A (wM G a_m a_mfst a_msnd a_mlet a_mmany a_mval a_mord a_mfree a_mcode a_mnext a_mcom a_mmet c_sort c_cnt c_frees c_cur c_thr c_fst c_snd c_let c_many c_val c_ord c_free c_code c_next c_com c_met) sz) := by
  refine zMet (Qc := fun (A : Nat → Prop) => va_Qi (fun (r : Int32) (_ : Unit) => r = r0.1) (fun _ t => zB G A (wM G a_m a_mfst a_msnd a_mlet a_mmany a_mval a_mord a_mfree a_mcode a_mnext a_mcom a_mmet c_sort r0.2.1 r0.2.2.1 c_cur r0.2.2.2.1 c_fst c_snd c_let c_many c_val r0.2.2.2.2.1 r0.2.2.2.2.2 c_code c_next c_com c_met) t) A) (by decide) (Nat.le_of_ble_eq_true rfl) (fun xp xe xs xm xb xme xc A ls Q H locs C hN hK hP hD hS hA hl hQ => ?_)
  obtain ⟨hx, hb, hr, hts, hown, hlocks, hml, hin⟩ := C
  have hl : lv_has ls 4 [(0, .ref a_m)] := hl
  have h := hf
  unfold f_Model_cut at h
  refine lv_aload_n hx hb d_Model_cut_0 rfl (lv_at hl 0 rfl) ?_
  obtain ⟨r1, hr1, h⟩ := ob h
  refine zcalli (wr := []) (w2 := fun _ => (wM G a_m a_mfst a_msnd a_mlet a_mmany a_mval a_mord a_mfree a_mcode a_mnext a_mcom a_mmet c_sort c_cnt c_frees c_cur r1.2 c_fst c_snd c_let c_many c_val c_ord c_free c_code c_next c_com c_met)) (zrunV (As := []) (rest := []) ⟨hx, hb, hml, hown, hts⟩ hN hK (c_Model_range l G H.size a_m a_mfst a_msnd a_mlet a_mmany a_mval a_mord a_mfree a_mcode a_mnext a_mcom a_mmet c_sort c_cnt c_frees c_cur c_thr c_fst c_snd c_let c_many c_val c_ord c_free c_code c_next c_com c_met r1 hr1) ⟨rfl, rfl⟩ kv_Model_103 ⟨Nat.le_of_ble_eq_true rfl, Nat.le_of_ble_eq_true rfl⟩ 0 rfl rfl rfl hl.1 (Nat.le_of_ble_eq_true rfl) d_Model_cut_1 ⟨Nat.le_of_ble_eq_true rfl, Nat.le_of_ble_eq_true rfl⟩) hP hD hS hA [0, 1, 2, 3, 4, 5, 6, 7, 8, 9, 10, 11] [] [0, 1, 2, 3, 4, 5, 6, 7, 8, 9, 10, 11] rfl rfl rfl rfl (by decide) rfl (fun _ => rfl) (fun rr _ H locs hw hP hD hS => ?_)
  have hw := hw.symm
  subst hw
  refine lv_istore_n (lv' := [(1, .int r1.1), (0, .ref a_m)]) hx hb d_Model_cut_4 rfl hl (by decide) rfl (fun ls hl => ?_)
  refine lv_aload_n hx hb d_Model_cut_5 rfl (lv_at hl 1 rfl) ?_
  refine lv_sipush (v := 1501) hx hb d_Model_cut_6 (by decide) ?_
  obtain ⟨r2, hr2, h⟩ := ob h
  refine zpcalli (wr := []) (w2 := fun _ => (wM G a_m a_mfst a_msnd a_mlet a_mmany a_mval a_mord a_mfree a_mcode a_mnext a_mcom a_mmet c_sort c_cnt c_frees c_cur r1.2 c_fst c_snd c_let c_many c_val c_ord c_free c_code c_next c_com c_met)) (zrunV (As := [.int 1501]) (rest := []) ⟨hx, hb, hml, hown, hts⟩ hN hK (c_Model_below l G H.size a_m a_mfst a_msnd a_mlet a_mmany a_mval a_mord a_mfree a_mcode a_mnext a_mcom a_mmet c_sort c_cnt c_frees c_cur r1.2 c_fst c_snd c_let c_many c_val c_ord c_free c_code c_next c_com c_met 1501 r2 hr2) ⟨rfl, rfl⟩ kv_Model_83 ⟨Nat.le_of_ble_eq_true rfl, Nat.le_of_ble_eq_true rfl⟩ 0 rfl rfl rfl hl.1 (Nat.le_of_ble_eq_true rfl) d_Model_cut_9 ⟨Nat.le_of_ble_eq_true rfl, Nat.le_of_ble_eq_true rfl⟩) hP hD hS hA [0, 1, 2, 3, 4, 5, 6, 7, 8, 9, 10, 11] [] [0, 1, 2, 3, 4, 5, 6, 7, 8, 9, 10, 11] rfl rfl rfl rfl (by decide) rfl (fun _ => rfl) (fun rr _ H hw hP hD hS => ?_)
  have hw := hw.symm
  subst hw
  refine lv_istore_n (lv' := [(2, .int r2), (1, .int r1.1), (0, .ref a_m)]) hx hb d_Model_cut_12 rfl hl (by decide) rfl (fun ls hl => ?_)
  refine lv_iconst (v := 0) hx hb d_Model_cut_13 (by decide) ?_
  refine lv_istore_n (lv' := [(3, .int 0), (2, .int r2), (1, .int r1.1), (0, .ref a_m)]) hx hb d_Model_cut_14 rfl hl (by decide) rfl (fun ls hl => ?_)
  obtain ⟨y8, hy8, h⟩ := ob h
  have E15 : ∀ (z12 : Int32) (z13 : Int32) (z14 : (Nat → Int32)) (z15 : (Nat → Int32)), (z12, z13, z14, z15) = y8 → ∀ (H : Heap) (locs : List Loc) (ls : Array Slot), va_P G.1 classes (wM G a_m a_mfst a_msnd a_mlet a_mmany a_mval a_mord a_mfree a_mcode a_mnext a_mcom a_mmet c_sort z12 z13 c_cur r1.2 c_fst c_snd c_let c_many c_val z14 z15 c_code c_next c_com c_met) H → va_D A (wM G a_m a_mfst a_msnd a_mlet a_mmany a_mval a_mord a_mfree a_mcode a_mnext a_mcom a_mmet c_sort z12 z13 c_cur r1.2 c_fst c_snd c_let c_many c_val z14 z15 c_code c_next c_com c_met) → va_S A xs.heap H locs → lv_has ls 4 [(1, .int r1.1)] → W xp l xe { frames := 4, cells := 0, slots := 0, locals := 94 } xs xm ([.ref a_m] : List Value).toArray xb xme xc H locs 0 0 Q (F0 xm 37 ls []) := by
    intro z12 z13 z14 z15 ey H locs ls hP hD hS hl
    subst ey
    try dsimp only at h
    refine lv_iload_n hx hb d_Model_cut_37 rfl (lv_at hl 0 rfl) ?_
    obtain rfl := Option.some.inj h
    exact zreti () hQ hS.2.2 hx hb hr hlocks hP hD hS rfl (Nat.le_refl _) (Nat.le_refl _) d_Model_cut_38
  have L15 : ∀ v : (Int32 × Int32 × Int32 × (Nat → Int32) × (Nat → Int32)), lp (fun v => s_Model_cut_15 r1.1 r2 v.1 v.2.1 v.2.2.1 v.2.2.2.1 v.2.2.2.2) v = some y8 → ∀ (H : Heap) (locs : List Loc) (ls : Array Slot), va_P G.1 classes (wM G a_m a_mfst a_msnd a_mlet a_mmany a_mval a_mord a_mfree a_mcode a_mnext a_mcom a_mmet c_sort v.2.1 v.2.2.1 c_cur r1.2 c_fst c_snd c_let c_many c_val v.2.2.2.1 v.2.2.2.2 c_code c_next c_com c_met) H → va_D A (wM G a_m a_mfst a_msnd a_mlet a_mmany a_mval a_mord a_mfree a_mcode a_mnext a_mcom a_mmet c_sort v.2.1 v.2.2.1 c_cur r1.2 c_fst c_snd c_let c_many c_val v.2.2.2.1 v.2.2.2.2 c_code c_next c_com c_met) → va_S A xs.heap H locs → lv_has ls 4 [(0, .ref a_m), (1, .int r1.1), (2, .int r2), (3, .int v.1)] → W xp l xe { frames := 4, cells := 0, slots := 0, locals := 94 } xs xm ([.ref a_m] : List Value).toArray xb xme xc H locs 0 0 Q (F0 xm 15 ls []) := by
    refine lp_walk _ (fun v x h hc he => ?_)
    obtain ⟨x3_3, c4, c5, c6, c7⟩ := v
    intro H locs ls hP hD hS hl
    have h : s_Model_cut_15 r1.1 r2 x3_3 c4 c5 c6 c7 = some x := h
    unfold s_Model_cut_15 at h
    refine lv_iload_n hx hb d_Model_cut_15 rfl (lv_at hl 3 rfl) ?_
    refine lv_iload_n hx hb d_Model_cut_16 rfl (lv_at hl 1 rfl) ?_
    refine lv_icmp_ge (tgt := 37) hx hb d_Model_cut_17 (by decide) (fun q9 => ?_) (fun q9 => ?_)
    · have h := it h q9
      exact E15 c4 c5 c6 c7 (he _ (Option.some.inj h).symm) H locs ls hP hD hS (lv_sub hl [1] rfl)
    · have h := ie h q9
      refine lv_aload_n hx hb d_Model_cut_20 rfl (lv_at hl 0 rfl) ?_
      refine lv_iload_n hx hb d_Model_cut_21 rfl (lv_at hl 2 rfl) ?_
      refine lv_iload_n hx hb d_Model_cut_22 rfl (lv_at hl 1 rfl) ?_
      refine lv_iadd hx hb d_Model_cut_23 ?_
      refine lv_iconst (v := 1) hx hb d_Model_cut_24 (by decide) ?_
      refine lv_isub hx hb d_Model_cut_25 ?_
      refine lv_iload_n hx hb d_Model_cut_26 rfl (lv_at hl 3 rfl) ?_
      refine lv_isub hx hb d_Model_cut_27 ?_
      obtain ⟨r10, hr10, h⟩ := ob h
      refine zcallv (wr := []) (w2 := fun _ => (wM G a_m a_mfst a_msnd a_mlet a_mmany a_mval a_mord a_mfree a_mcode a_mnext a_mcom a_mmet c_sort r10.1 r10.2.1 c_cur r1.2 c_fst c_snd c_let c_many c_val r10.2.2.1 r10.2.2.2 c_code c_next c_com c_met)) (zrunV (As := [.int (((r2 + r1.1) - 1) - x3_3)]) (rest := []) ⟨hx, hb, hml, hown, hts⟩ hN hK (c_Model_delete l G H.size a_m a_mfst a_msnd a_mlet a_mmany a_mval a_mord a_mfree a_mcode a_mnext a_mcom a_mmet c_sort c4 c5 c_cur r1.2 c_fst c_snd c_let c_many c_val c6 c7 c_code c_next c_com c_met (((r2 + r1.1) - 1) - x3_3) r10 hr10) ⟨rfl, rfl⟩ kv_Model_95 ⟨Nat.le_of_ble_eq_true rfl, Nat.le_of_ble_eq_true rfl⟩ 0 rfl rfl rfl hl.1 (Nat.le_of_ble_eq_true rfl) d_Model_cut_28 ⟨Nat.le_of_ble_eq_true rfl, Nat.le_of_ble_eq_true rfl⟩) hP hD hS hA [0, 1, 2, 3, 4, 5, 6, 7, 8, 9, 10, 11] [] [0, 1, 2, 3, 4, 5, 6, 7, 8, 9, 10, 11] rfl rfl rfl rfl (by decide) rfl (fun _ => rfl) (fun _ H locs _ hP hD hS => ?_)
      obtain ⟨v11, ev11⟩ : ∃ y : Int32, y = x3_3 + 1 := ⟨_, rfl⟩
      have h := nm_k h v11 ev11
      refine lv_iinc (v := v11) (lv' := [(3, .int v11), (0, .ref a_m), (1, .int r1.1), (2, .int r2)]) hx hb d_Model_cut_31 hl (k := 3) rfl (by rw [ev11]; rfl) (by decide) rfl (fun ls hl => ?_)
      refine lv_goto (tgt := 15) hx hb d_Model_cut_34 (by decide) ?_
      exact hc _ (Option.some.inj h).symm H locs ls hP hD hS (lv_sub hl [1, 2, 3, 0] rfl)
  exact L15 _ hy8 _ _ ls hP hD hS (lv_sub hl [3, 2, 1, 0] rfl)

noncomputable def s_Model_isLonger_21 (c_let : (Nat → Int32)) (c_many : (Nat → Int32)) (x1 : Int32) (x2 : Int32) : Option (Int32 ⊕ Int32) :=
gi 1500 1503 <|
if (c_many (1500 : Int32).toNatClampNeg) ≤ x2 then
(some (.inr 1))
else
(gi ((24 * x1) + x2) 36072 <|
gi (36000 + x2) 36072 <|
if (c_let ((24 * x1) + x2).toNatClampNeg) = (c_let (36000 + x2).toNatClampNeg) then
(nm (x2 + 1) fun v11 =>
some (.inl v11))
else
(some (.inr 0)))
noncomputable def f_Model_isLonger (c_let : (Nat → Int32)) (c_many : (Nat → Int32)) (p_1 : Int32) : Option Int32 :=
gi p_1 1503 <|
gi 1500 1503 <|
if (c_many (1500 : Int32).toNatClampNeg) ≤ (c_many p_1.toNatClampNeg) then
(lp (fun v => s_Model_isLonger_21 c_let c_many p_1 v) 0)
else
(some 0)
set_option maxHeartbeats 8000000 in
set_option maxRecDepth 100000 in
theorem c_Model_isLonger (l : Launch) (G : zG) (sz : Nat) (a_m a_mfst a_msnd a_mlet a_mmany a_mval a_mord a_mfree a_mcode a_mnext a_mcom a_mmet : Nat) (c_sort : Int32) (c_cnt : Int32) (c_frees : Int32) (c_cur : Int32) (c_thr : Int32) (c_fst : (Nat → Int64)) (c_snd : (Nat → Int64)) (c_let : (Nat → Int32)) (c_many : (Nat → Int32)) (c_val : (Nat → Int64)) (c_ord : (Nat → Int32)) (c_free : (Nat → Int32)) (c_code : (Nat → Int32)) (c_next : (Nat → Int32)) (c_com : (Nat → Int32)) (c_met : (Nat → Int32)) (p_1 : Int32) (r0 : Int32) (hf : f_Model_isLonger c_let c_many p_1 = some r0) :
    Met l y_Model_isLonger (Cond.code y_Model_isLonger prog_9_method_32_code 3 (some .boolean) :: lw_ok) { frames := 0, cells := 0, slots := 0, locals := 0 } (zPc G sz [.ref a_m, .int p_1] (wM G a_m a_mfst a_msnd a_mlet a_mmany a_mval a_mord a_mfree a_mcode a_mnext a_mcom a_mmet c_sort c_cnt c_frees c_cur c_thr c_fst c_snd c_let c_many c_val c_ord c_free c_code c_next c_com c_met))
      ((fun (A : Nat → Prop) => va_Qi (fun (r : Int32) (_ : Unit) => r = r0 ∧ narrow .boolean (.int r) = .int r) (fun _ t => zB G A (wM G a_m a_mfst a_msnd a_mlet a_mmany a_mval a_mord a_mfree a_mcode a_mnext a_mcom a_mmet c_sort c_cnt c_frees c_cur c_thr c_fst c_snd c_let c_many c_val c_ord c_free c_code c_next c_com c_met) t) A) (va_A (wM G a_m a_mfst a_msnd a_mlet a_mmany a_mval a_mord a_mfree a_mcode a_mnext a_mcom a_mmet c_sort c_cnt c_frees c_cur c_thr c_fst c_snd c_let c_many c_val c_ord c_free c_code c_next c_com c_met) sz)) 0 0 (fun q => sz ≤ q) := by
  refine zMetR (Qc := fun (A : Nat → Prop) => va_Qi (fun (r : Int32) (_ : Unit) => r = r0 ∧ narrow .boolean (.int r) = .int r) (fun _ t => zB G A (wM G a_m a_mfst a_msnd a_mlet a_mmany a_mval a_mord a_mfree a_mcode a_mnext a_mcom a_mmet c_sort c_cnt c_frees c_cur c_thr c_fst c_snd c_let c_many c_val c_ord c_free c_code c_next c_com c_met) t) A) (by decide) (Nat.le_of_ble_eq_true rfl) (fun xp xe xs xm xb xme xc A ls Q H locs C hN hK hP hD hS hL hA hl hQ => ?_)
  obtain ⟨hx, hb, hr, hts, hown, hlocks, hml, hin⟩ := C
  have hl : lv_has ls 3 [(0, .ref a_m), (1, .int p_1)] := hl
  have h := hf
  unfold f_Model_isLonger at h
  refine lv_aload_n hx hb d_Model_isLonger_0 rfl (lv_at hl 0 rfl) ?_
  refine va_get (D := G.1) (ci := 6) (v := .ref a_mmany) (C := "BranchStoreModel") (T := F_Model) (N := 16) hx hb hts i_Model hown hK hP 0 rfl rfl 4 (by decide) (hts _ k_774) (fun _ h9 => h9) rfl d_Model_isLonger_1 ?_
  refine lv_iload_n hx hb d_Model_isLonger_4 rfl (lv_at hl 1 rfl) ?_
  obtain ⟨h1, h⟩ := gi_k h
  refine va_iald hx hb hK hP 4 0 rfl rfl h1 d_Model_isLonger_5 ?_
  refine lv_aload_n hx hb d_Model_isLonger_6 rfl (lv_at hl 0 rfl) ?_
  refine va_get (D := G.1) (ci := 6) (v := .ref a_mmany) (C := "BranchStoreModel") (T := F_Model) (N := 16) hx hb hts i_Model hown hK hP 0 rfl rfl 4 (by decide) (hts _ k_774) (fun _ h9 => h9) rfl d_Model_isLonger_7 ?_
  refine lv_sipush (v := 1500) hx hb d_Model_isLonger_10 (by decide) ?_
  obtain ⟨h2, h⟩ := gi_k h
  refine va_iald hx hb hK hP 4 0 rfl rfl h2 d_Model_isLonger_13 ?_
  refine lv_icmp_ge (tgt := 19) hx hb d_Model_isLonger_14 (by decide) (fun q3 => ?_) (fun q3 => ?_)
  · have h := it h q3
    refine lv_iconst (v := 0) hx hb d_Model_isLonger_19 (by decide) ?_
    refine lv_istore_n (lv' := [(2, .int 0), (0, .ref a_m), (1, .int p_1)]) hx hb d_Model_isLonger_20 rfl hl (by decide) rfl (fun ls hl => ?_)
    have L21 : ∀ v : Int32, lp (fun v => s_Model_isLonger_21 c_let c_many p_1 v) v = some r0 → ∀ (H : Heap) (locs : List Loc) (ls : Array Slot), va_P G.1 classes (wM G a_m a_mfst a_msnd a_mlet a_mmany a_mval a_mord a_mfree a_mcode a_mnext a_mcom a_mmet c_sort c_cnt c_frees c_cur c_thr c_fst c_snd c_let c_many c_val c_ord c_free c_code c_next c_com c_met) H → va_D A (wM G a_m a_mfst a_msnd a_mlet a_mmany a_mval a_mord a_mfree a_mcode a_mnext a_mcom a_mmet c_sort c_cnt c_frees c_cur c_thr c_fst c_snd c_let c_many c_val c_ord c_free c_code c_next c_com c_met) → va_S A xs.heap H locs → (∀ q ∈ locs, xs.heap.size ≤ q.base) → lv_has ls 3 [(0, .ref a_m), (1, .int p_1), (2, .int v)] → W xp l xe { frames := 0, cells := 0, slots := 0, locals := 0 } xs xm ([.ref a_m, .int p_1] : List Value).toArray xb xme xc H locs 0 0 Q (F0 xm 21 ls []) := by
      refine lp_walk _ (fun v x h hc he => ?_)
      obtain ⟨x2_4, rfl⟩ : ∃ z, z = v := ⟨_, rfl⟩
      intro H locs ls hP hD hS hL hl
      have h : s_Model_isLonger_21 c_let c_many p_1 x2_4 = some x := h
      unfold s_Model_isLonger_21 at h
      refine lv_iload_n hx hb d_Model_isLonger_21 rfl (lv_at hl 2 rfl) ?_
      refine lv_aload_n hx hb d_Model_isLonger_22 rfl (lv_at hl 0 rfl) ?_
      refine va_get (D := G.1) (ci := 6) (v := .ref a_mmany) (C := "BranchStoreModel") (T := F_Model) (N := 16) hx hb hts i_Model hown hK hP 0 rfl rfl 4 (by decide) (hts _ k_774) (fun _ h9 => h9) rfl d_Model_isLonger_23 ?_
      refine lv_sipush (v := 1500) hx hb d_Model_isLonger_26 (by decide) ?_
      obtain ⟨h6, h⟩ := gi_k h
      refine va_iald hx hb hK hP 4 0 rfl rfl h6 d_Model_isLonger_29 ?_
      refine lv_icmp_ge (tgt := 64) hx hb d_Model_isLonger_30 (by decide) (fun q7 => ?_) (fun q7 => ?_)
      · have h := it h q7
        refine lv_iconst (v := 1) hx hb d_Model_isLonger_64 (by decide) ?_
        obtain rfl := he _ (Option.some.inj h).symm
        exact zretz () hQ hL hx hb hr hlocks hP hD hS ⟨rfl, rfl⟩ (Nat.le_refl _) (Nat.le_refl _) d_Model_isLonger_65 rfl
      · have h := ie h q7
        refine lv_aload_n hx hb d_Model_isLonger_33 rfl (lv_at hl 0 rfl) ?_
        refine va_get (D := G.1) (ci := 6) (v := .ref a_mlet) (C := "BranchStoreModel") (T := F_Model) (N := 16) hx hb hts i_Model hown hK hP 0 rfl rfl 3 (by decide) (hts _ k_773) (fun _ h9 => h9) rfl d_Model_isLonger_34 ?_
        refine lv_bipush (v := 24) hx hb d_Model_isLonger_37 (by decide) ?_
        refine lv_iload_n hx hb d_Model_isLonger_39 rfl (lv_at hl 1 rfl) ?_
        refine lv_imul hx hb d_Model_isLonger_40 ?_
        refine lv_iload_n hx hb d_Model_isLonger_41 rfl (lv_at hl 2 rfl) ?_
        refine lv_iadd hx hb d_Model_isLonger_42 ?_
        obtain ⟨h8, h⟩ := gi_k h
        refine va_iald hx hb hK hP 3 0 rfl rfl h8 d_Model_isLonger_43 ?_
        refine lv_aload_n hx hb d_Model_isLonger_44 rfl (lv_at hl 0 rfl) ?_
        refine va_get (D := G.1) (ci := 6) (v := .ref a_mlet) (C := "BranchStoreModel") (T := F_Model) (N := 16) hx hb hts i_Model hown hK hP 0 rfl rfl 3 (by decide) (hts _ k_773) (fun _ h9 => h9) rfl d_Model_isLonger_45 ?_
        refine lv_ldc (v := 36000) hx hb hown (hts _ k_840) d_Model_isLonger_48 ?_
        refine lv_iload_n hx hb d_Model_isLonger_50 rfl (lv_at hl 2 rfl) ?_
        refine lv_iadd hx hb d_Model_isLonger_51 ?_
        obtain ⟨h9, h⟩ := gi_k h
        refine va_iald hx hb hK hP 3 0 rfl rfl h9 d_Model_isLonger_52 ?_
        refine lv_icmp_eq (tgt := 58) hx hb d_Model_isLonger_53 (by decide) (fun q10 => ?_) (fun q10 => ?_)
        · have h := it h q10
          obtain ⟨v11, ev11⟩ : ∃ y : Int32, y = x2_4 + 1 := ⟨_, rfl⟩
          have h := nm_k h v11 ev11
          refine lv_iinc (v := v11) (lv' := [(2, .int v11), (0, .ref a_m), (1, .int p_1)]) hx hb d_Model_isLonger_58 hl (k := 2) rfl (by rw [ev11]; rfl) (by decide) rfl (fun ls hl => ?_)
          refine lv_goto (tgt := 21) hx hb d_Model_isLonger_61 (by decide) ?_
          exact hc _ (Option.some.inj h).symm H locs ls hP hD hS hL (lv_sub hl [1, 2, 0] rfl)
        · have h := ie h q10
          refine lv_iconst (v := 0) hx hb d_Model_isLonger_56 (by decide) ?_
          obtain rfl := he _ (Option.some.inj h).symm
          exact zretz () hQ hL hx hb hr hlocks hP hD hS ⟨rfl, rfl⟩ (Nat.le_refl _) (Nat.le_refl _) d_Model_isLonger_57 rfl
    exact L21 _ h _ _ ls hP hD hS hL (lv_sub hl [1, 2, 0] rfl)
  · have h := ie h q3
    refine lv_iconst (v := 0) hx hb d_Model_isLonger_17 (by decide) ?_
    obtain rfl := Option.some.inj h
    exact zretz () hQ hL hx hb hr hlocks hP hD hS ⟨rfl, rfl⟩ (Nat.le_refl _) (Nat.le_refl _) d_Model_isLonger_18 rfl

theorem kv_Model_107 : zKV "BranchStoreModel" 107 y_Model_isLonger prog_9_method_32_code 3 (some .boolean) 1 := ⟨k_946, k_948, kp_36, k_8, k_949, by decide +kernel⟩
noncomputable def s_Model_begins_27 (c_cnt : Int32) (c_let : (Nat → Int32)) (c_many : (Nat → Int32)) (c_ord : (Nat → Int32)) (x1 : Int32) (x2 : Int32) : Option ((Int32 × Int32) ⊕ Int32) :=
if c_cnt ≤ x2 then
(some (.inr x1))
else
(gi x2 1500 <|
(f_Model_isLonger c_let c_many (c_ord x2.toNatClampNeg)).bind fun r14 =>
(if r14 = 0 then
(some 0)
else
(some 1)).bind fun y19 =>
nm (x1 + y19) fun v21 =>
nm (x2 + 1) fun v22 =>
some (.inl (v21, v22)))
noncomputable def f_Model_begins (c_sort : Int32) (c_cnt : Int32) (c_thr : Int32) (c_let : (Nat → Int32)) (c_many : (Nat → Int32)) (c_ord : (Nat → Int32))  : Option (Int32 × Int32) :=
(if c_sort = 2 then
(some 0)
else
(some 1)).bind fun y4 =>
(f_Model_fails c_thr y4 1).bind fun r6 =>
if r6.1 = 0 then
((lp (fun v => s_Model_begins_27 c_cnt c_let c_many c_ord v.1 v.2) (0, 0)).bind fun y24 =>
some (y24, r6.2))
else
(some (0, r6.2))
set_option maxHeartbeats 8000000 in
set_option maxRecDepth 100000 in
theorem c_Model_begins (l : Launch) (G : zG) (sz : Nat) (a_m a_mfst a_msnd a_mlet a_mmany a_mval a_mord a_mfree a_mcode a_mnext a_mcom a_mmet : Nat) (c_sort : Int32) (c_cnt : Int32) (c_frees : Int32) (c_cur : Int32) (c_thr : Int32) (c_fst : (Nat → Int64)) (c_snd : (Nat → Int64)) (c_let : (Nat → Int32)) (c_many : (Nat → Int32)) (c_val : (Nat → Int64)) (c_ord : (Nat → Int32)) (c_free : (Nat → Int32)) (c_code : (Nat → Int32)) (c_next : (Nat → Int32)) (c_com : (Nat → Int32)) (c_met : (Nat → Int32)) (r0 : (Int32 × Int32)) (hf : f_Model_begins c_sort c_cnt c_thr c_let c_many c_ord = some r0) :
    Met l y_Model_begins (Cond.code y_Model_begins prog_9_method_33_code 3 (some .int) :: lw_ok) { frames := 1, cells := 0, slots := 0, locals := 22 } (zPc G sz [.ref a_m] (wM G a_m a_mfst a_msnd a_mlet a_mmany a_mval a_mord a_mfree a_mcode a_mnext a_mcom a_mmet c_sort c_cnt c_frees c_cur c_thr c_fst c_snd c_let c_many c_val c_ord c_free c_code c_next c_com c_met))
      ((fun (A : Nat → Prop) => va_Qi (fun (r : Int32) (_ : Unit) => r = r0.1) (fun _ t => zB G A (wM G a_m a_mfst a_msnd a_mlet a_mmany a_mval a_mord a_mfree a_mcode a_mnext a_mcom a_mmet c_sort c_cnt c_frees c_cur r0.2 c_fst c_snd c_let c_many c_val c_ord c_free c_code c_next c_com c_met) t) A) (va_A (wM G a_m a_mfst a_msnd a_mlet a_mmany a_mval a_mord a_mfree a_mcode a_mnext a_mcom a_mmet c_sort c_cnt c_frees c_cur c_thr c_fst c_snd c_let c_many c_val c_ord c_free c_code c_next c_com c_met) sz)) 0 0 (va_A (wM G a_m a_mfst a_msnd a_mlet a_mmany a_mval a_mord a_mfree a_mcode a_mnext a_mcom a_mmet c_sort c_cnt c_frees c_cur c_thr c_fst c_snd c_let c_many c_val c_ord c_free c_code c_next c_com c_met) sz) := by
  refine zMet (Qc := fun (A : Nat → Prop) => va_Qi (fun (r : Int32) (_ : Unit) => r = r0.1) (fun _ t => zB G A (wM G a_m a_mfst a_msnd a_mlet a_mmany a_mval a_mord a_mfree a_mcode a_mnext a_mcom a_mmet c_sort c_cnt c_frees c_cur r0.2 c_fst c_snd c_let c_many c_val c_ord c_free c_code c_next c_com c_met) t) A) (by decide) (Nat.le_of_ble_eq_true rfl) (fun xp xe xs xm xb xme xc A ls Q H locs C hN hK hP hD hS hA hl hQ => ?_)
  obtain ⟨hx, hb, hr, hts, hown, hlocks, hml, hin⟩ := C
  have hl : lv_has ls 3 [(0, .ref a_m)] := hl
  have h := hf
  unfold f_Model_begins at h
  refine lv_aload_n hx hb d_Model_begins_0 rfl (lv_at hl 0 rfl) ?_
  refine lv_aload_n hx hb d_Model_begins_1 rfl (lv_at hl 0 rfl) ?_
  refine va_get (D := G.1) (ci := 6) (v := .int c_sort) (C := "BranchStoreModel") (T := F_Model) (N := 16) hx hb hts i_Model hown hK hP 0 rfl rfl 0 (by decide) (hts _ k_770) (fun _ h9 => h9) rfl d_Model_begins_2 ?_
  refine lv_iconst (v := 2) hx hb d_Model_begins_5 (by decide) ?_
  obtain ⟨y3, hy3, h⟩ := ob h
  have J14 : ∀ (z5 : Int32), narrow .boolean (.int z5) = .int z5 → z5 = y3 → ∀ (H : Heap) (locs : List Loc) (ls : Array Slot), va_P G.1 classes (wM G a_m a_mfst a_msnd a_mlet a_mmany a_mval a_mord a_mfree a_mcode a_mnext a_mcom a_mmet c_sort c_cnt c_frees c_cur c_thr c_fst c_snd c_let c_many c_val c_ord c_free c_code c_next c_com c_met) H → va_D A (wM G a_m a_mfst a_msnd a_mlet a_mmany a_mval a_mord a_mfree a_mcode a_mnext a_mcom a_mmet c_sort c_cnt c_frees c_cur c_thr c_fst c_snd c_let c_many c_val c_ord c_free c_code c_next c_com c_met) → va_S A xs.heap H locs → lv_has ls 3 [(0, .ref a_m)] → W xp l xe { frames := 1, cells := 0, slots := 0, locals := 22 } xs xm ([.ref a_m] : List Value).toArray xb xme xc H locs 0 0 Q (F0 xm 14 ls [.int z5, .ref a_m]) := by
    intro z5 hzz5 ey H locs ls hP hD hS hl
    subst ey
    try dsimp only at h
    refine lv_iconst (v := 1) hx hb d_Model_begins_14 (by decide) ?_
    obtain ⟨r6, hr6, h⟩ := ob h
    refine zcalli (wr := []) (w2 := fun _ => (wM G a_m a_mfst a_msnd a_mlet a_mmany a_mval a_mord a_mfree a_mcode a_mnext a_mcom a_mmet c_sort c_cnt c_frees c_cur r6.2 c_fst c_snd c_let c_many c_val c_ord c_free c_code c_next c_com c_met)) (zrunV (As := [.int z5, .int 1]) (rest := []) ⟨hx, hb, hml, hown, hts⟩ hN hK (c_Model_fails l G H.size a_m a_mfst a_msnd a_mlet a_mmany a_mval a_mord a_mfree a_mcode a_mnext a_mcom a_mmet c_sort c_cnt c_frees c_cur c_thr c_fst c_snd c_let c_many c_val c_ord c_free c_code c_next c_com c_met z5 1 hzz5 r6 hr6) ⟨rfl, rfl⟩ kv_Model_70 ⟨Nat.le_of_ble_eq_true rfl, Nat.le_of_ble_eq_true rfl⟩ 0 rfl rfl rfl hl.1 (Nat.le_of_ble_eq_true rfl) d_Model_begins_15 ⟨Nat.le_of_ble_eq_true rfl, Nat.le_of_ble_eq_true rfl⟩) hP hD hS hA [0, 1, 2, 3, 4, 5, 6, 7, 8, 9, 10, 11] [] [0, 1, 2, 3, 4, 5, 6, 7, 8, 9, 10, 11] rfl rfl rfl rfl (by decide) rfl (fun _ => rfl) (fun rr _ H locs hw hP hD hS => ?_)
    obtain ⟨hw, hz7⟩ := hw
    have hw := hw.symm
    subst hw
    refine lv_if_eq (tgt := 23) hx hb d_Model_begins_18 (by decide) (fun q8 => ?_) (fun q8 => ?_)
    · have h := it h q8
      refine lv_iconst (v := 0) hx hb d_Model_begins_23 (by decide) ?_
      refine lv_istore_n (lv' := [(1, .int 0), (0, .ref a_m)]) hx hb d_Model_begins_24 rfl hl (by decide) rfl (fun ls hl => ?_)
      refine lv_iconst (v := 0) hx hb d_Model_begins_25 (by decide) ?_
      refine lv_istore_n (lv' := [(2, .int 0), (1, .int 0), (0, .ref a_m)]) hx hb d_Model_begins_26 rfl hl (by decide) rfl (fun ls hl => ?_)
      obtain ⟨y11, hy11, h⟩ := ob h
      have E27 : ∀ (z23 : Int32), z23 = y11 → ∀ (H : Heap) (locs : List Loc) (ls : Array Slot), va_P G.1 classes (wM G a_m a_mfst a_msnd a_mlet a_mmany a_mval a_mord a_mfree a_mcode a_mnext a_mcom a_mmet c_sort c_cnt c_frees c_cur r6.2 c_fst c_snd c_let c_many c_val c_ord c_free c_code c_next c_com c_met) H → va_D A (wM G a_m a_mfst a_msnd a_mlet a_mmany a_mval a_mord a_mfree a_mcode a_mnext a_mcom a_mmet c_sort c_cnt c_frees c_cur r6.2 c_fst c_snd c_let c_many c_val c_ord c_free c_code c_next c_com c_met) → va_S A xs.heap H locs → lv_has ls 3 [(1, .int z23)] → W xp l xe { frames := 1, cells := 0, slots := 0, locals := 22 } xs xm ([.ref a_m] : List Value).toArray xb xme xc H locs 0 0 Q (F0 xm 62 ls []) := by
        intro z23 ey H locs ls hP hD hS hl
        subst ey
        try dsimp only at h
        refine lv_iload_n hx hb d_Model_begins_62 rfl (lv_at hl 0 rfl) ?_
        obtain rfl := Option.some.inj h
        exact zreti () hQ hS.2.2 hx hb hr hlocks hP hD hS rfl (Nat.le_refl _) (Nat.le_refl _) d_Model_begins_63
      have L27 : ∀ v : (Int32 × Int32), lp (fun v => s_Model_begins_27 c_cnt c_let c_many c_ord v.1 v.2) v = some y11 → ∀ (H : Heap) (locs : List Loc) (ls : Array Slot), va_P G.1 classes (wM G a_m a_mfst a_msnd a_mlet a_mmany a_mval a_mord a_mfree a_mcode a_mnext a_mcom a_mmet c_sort c_cnt c_frees c_cur r6.2 c_fst c_snd c_let c_many c_val c_ord c_free c_code c_next c_com c_met) H → va_D A (wM G a_m a_mfst a_msnd a_mlet a_mmany a_mval a_mord a_mfree a_mcode a_mnext a_mcom a_mmet c_sort c_cnt c_frees c_cur r6.2 c_fst c_snd c_let c_many c_val c_ord c_free c_code c_next c_com c_met) → va_S A xs.heap H locs → lv_has ls 3 [(0, .ref a_m), (1, .int v.1), (2, .int v.2)] → W xp l xe { frames := 1, cells := 0, slots := 0, locals := 22 } xs xm ([.ref a_m] : List Value).toArray xb xme xc H locs 0 0 Q (F0 xm 27 ls []) := by
        refine lp_walk _ (fun v x h hc he => ?_)
        obtain ⟨x1_9, x2_10⟩ := v
        intro H locs ls hP hD hS hl
        have h : s_Model_begins_27 c_cnt c_let c_many c_ord x1_9 x2_10 = some x := h
        unfold s_Model_begins_27 at h
        refine lv_iload_n hx hb d_Model_begins_27 rfl (lv_at hl 2 rfl) ?_
        refine lv_aload_n hx hb d_Model_begins_28 rfl (lv_at hl 0 rfl) ?_
        refine va_get (D := G.1) (ci := 6) (v := .int c_cnt) (C := "BranchStoreModel") (T := F_Model) (N := 16) hx hb hts i_Model hown hK hP 0 rfl rfl 7 (by decide) (hts _ k_777) (fun _ h9 => h9) rfl d_Model_begins_29 ?_
        refine lv_icmp_ge (tgt := 62) hx hb d_Model_begins_32 (by decide) (fun q12 => ?_) (fun q12 => ?_)
        · have h := it h q12
          exact E27 x1_9 (he _ (Option.some.inj h).symm) H locs ls hP hD hS (lv_sub hl [1] rfl)
        · have h := ie h q12
          refine lv_iload_n hx hb d_Model_begins_35 rfl (lv_at hl 1 rfl) ?_
          refine lv_aload_n hx hb d_Model_begins_36 rfl (lv_at hl 0 rfl) ?_
          refine lv_aload_n hx hb d_Model_begins_37 rfl (lv_at hl 0 rfl) ?_
          refine va_get (D := G.1) (ci := 6) (v := .ref a_mord) (C := "BranchStoreModel") (T := F_Model) (N := 16) hx hb hts i_Model hown hK hP 0 rfl rfl 6 (by decide) (hts _ k_776) (fun _ h9 => h9) rfl d_Model_begins_38 ?_
          refine lv_iload_n hx hb d_Model_begins_41 rfl (lv_at hl 2 rfl) ?_
          obtain ⟨h13, h⟩ := gi_k h
          refine va_iald hx hb hK hP 6 0 rfl rfl h13 d_Model_begins_42 ?_
          obtain ⟨r14, hr14, h⟩ := ob h
          refine zpcalli (wr := []) (w2 := fun _ => (wM G a_m a_mfst a_msnd a_mlet a_mmany a_mval a_mord a_mfree a_mcode a_mnext a_mcom a_mmet c_sort c_cnt c_frees c_cur r6.2 c_fst c_snd c_let c_many c_val c_ord c_free c_code c_next c_com c_met)) (zrunV (As := [.int (c_ord x2_10.toNatClampNeg)]) (rest := [.int x1_9]) ⟨hx, hb, hml, hown, hts⟩ hN hK (c_Model_isLonger l G H.size a_m a_mfst a_msnd a_mlet a_mmany a_mval a_mord a_mfree a_mcode a_mnext a_mcom a_mmet c_sort c_cnt c_frees c_cur r6.2 c_fst c_snd c_let c_many c_val c_ord c_free c_code c_next c_com c_met (c_ord x2_10.toNatClampNeg) r14 hr14) ⟨rfl, rfl⟩ kv_Model_107 ⟨Nat.le_of_ble_eq_true rfl, Nat.le_of_ble_eq_true rfl⟩ 0 rfl rfl rfl hl.1 (Nat.le_of_ble_eq_true rfl) d_Model_begins_43 ⟨Nat.le_of_ble_eq_true rfl, Nat.le_of_ble_eq_true rfl⟩) hP hD hS hA [0, 1, 2, 3, 4, 5, 6, 7, 8, 9, 10, 11] [] [0, 1, 2, 3, 4, 5, 6, 7, 8, 9, 10, 11] rfl rfl rfl rfl (by decide) rfl (fun _ => rfl) (fun rr _ H hw hP hD hS => ?_)
          obtain ⟨hw, hz15⟩ := hw
          have hw := hw.symm
          subst hw
          obtain ⟨y18, hy18, h⟩ := ob h
          have J54 : ∀ (z20 : Int32), narrow .boolean (.int z20) = .int z20 → z20 = y18 → ∀ (H : Heap) (locs : List Loc) (ls : Array Slot), va_P G.1 classes (wM G a_m a_mfst a_msnd a_mlet a_mmany a_mval a_mord a_mfree a_mcode a_mnext a_mcom a_mmet c_sort c_cnt c_frees c_cur r6.2 c_fst c_snd c_let c_many c_val c_ord c_free c_code c_next c_com c_met) H → va_D A (wM G a_m a_mfst a_msnd a_mlet a_mmany a_mval a_mord a_mfree a_mcode a_mnext a_mcom a_mmet c_sort c_cnt c_frees c_cur r6.2 c_fst c_snd c_let c_many c_val c_ord c_free c_code c_next c_com c_met) → va_S A xs.heap H locs → lv_has ls 3 [(0, .ref a_m), (2, .int x2_10)] → W xp l xe { frames := 1, cells := 0, slots := 0, locals := 22 } xs xm ([.ref a_m] : List Value).toArray xb xme xc H locs 0 0 Q (F0 xm 54 ls [.int z20, .int x1_9]) := by
            intro z20 hzz20 ey H locs ls hP hD hS hl
            subst ey
            try dsimp only at h
            refine lv_iadd hx hb d_Model_begins_54 ?_
            refine lv_topi (fun v21 ev21 => ?_)
            have h := nm_k h v21 ev21
            refine lv_istore_n (lv' := [(1, .int v21), (0, .ref a_m), (2, .int x2_10)]) hx hb d_Model_begins_55 rfl hl (by decide) rfl (fun ls hl => ?_)
            obtain ⟨v22, ev22⟩ : ∃ y : Int32, y = x2_10 + 1 := ⟨_, rfl⟩
            have h := nm_k h v22 ev22
            refine lv_iinc (v := v22) (lv' := [(2, .int v22), (1, .int v21), (0, .ref a_m)]) hx hb d_Model_begins_56 hl (k := 2) rfl (by rw [ev22]; rfl) (by decide) rfl (fun ls hl => ?_)
            refine lv_goto (tgt := 27) hx hb d_Model_begins_59 (by decide) ?_
            exact hc _ (Option.some.inj h).symm H locs ls hP hD hS (lv_sub hl [2, 1, 0] rfl)
          have h := hy18
          refine lv_if_eq (tgt := 53) hx hb d_Model_begins_46 (by decide) (fun q17 => ?_) (fun q17 => ?_)
          · have h := it h q17
            refine lv_iconst (v := 0) hx hb d_Model_begins_53 (by decide) ?_
            exact J54 0 rfl (Option.some.inj h) H locs ls hP hD hS (lv_sub hl [0, 2] rfl)
          · have h := ie h q17
            refine lv_iconst (v := 1) hx hb d_Model_begins_49 (by decide) ?_
            refine lv_goto (tgt := 54) hx hb d_Model_begins_50 (by decide) ?_
            exact J54 1 rfl (Option.some.inj h) H locs ls hP hD hS (lv_sub hl [0, 2] rfl)
      exact L27 _ hy11 _ _ ls hP hD hS (lv_sub hl [2, 1, 0] rfl)
    · have h := ie h q8
      refine lv_iconst (v := 0) hx hb d_Model_begins_21 (by decide) ?_
      obtain rfl := Option.some.inj h
      exact zreti () hQ hS.2.2 hx hb hr hlocks hP hD hS rfl (Nat.le_refl _) (Nat.le_refl _) d_Model_begins_22
  have h := hy3
  refine lv_icmp_eq (tgt := 13) hx hb d_Model_begins_6 (by decide) (fun q2 => ?_) (fun q2 => ?_)
  · have h := it h q2
    refine lv_iconst (v := 0) hx hb d_Model_begins_13 (by decide) ?_
    exact J14 0 rfl (Option.some.inj h) H locs ls hP hD hS (lv_sub hl [0] rfl)
  · have h := ie h q2
    refine lv_iconst (v := 1) hx hb d_Model_begins_9 (by decide) ?_
    refine lv_goto (tgt := 14) hx hb d_Model_begins_10 (by decide) ?_
    exact J14 1 rfl (Option.some.inj h) H locs ls hP hD hS (lv_sub hl [0] rfl)

noncomputable def f_Model_steps  (p_0 : Int64) (p_2 : Int64) : Option Int64 :=
if (lg_cmp p_0 0) < 0 then
(if (lg_cmp p_2 1) = 0 then
(some 9223372036854775807)
else
(gz p_2 <|
nm (((zlushr p_0 1) / p_2) * 2) fun v4 =>
nm (p_0 - (v4 * p_2)) fun v5 =>
if (lg_cmp v5 0) < 0 then
(some (v4 + 1))
else
(if (lg_cmp v5 p_2) < 0 then
(some v4)
else
(some (v4 + 1)))))
else
(gz p_2 <|
some (p_0 / p_2))
set_option maxHeartbeats 8000000 in
set_option maxRecDepth 100000 in
theorem c_Model_steps (l : Launch) (G : zG) (sz : Nat) (p_0 : Int64) (p_2 : Int64) (r0 : Int64) (hf : f_Model_steps p_0 p_2 = some r0) :
    Met l y_Model_steps (Cond.code y_Model_steps prog_9_method_35_code 8 (some .long) :: lw_ok) { frames := 0, cells := 0, slots := 0, locals := 0 } (zPc G sz [.long p_0, .long p_2] ([] : va_W))
      ((fun (A : Nat → Prop) => va_Ql (fun (r : Int64) (_ : Unit) => r = r0) (fun _ t => zB G A ([] : va_W) t) A) (va_A ([] : va_W) sz)) 0 0 (fun q => sz ≤ q) := by
  refine zMetR (Qc := fun (A : Nat → Prop) => va_Ql (fun (r : Int64) (_ : Unit) => r = r0) (fun _ t => zB G A ([] : va_W) t) A) (by decide) (Nat.le_of_ble_eq_true rfl) (fun xp xe xs xm xb xme xc A ls Q H locs C hN hK hP hD hS hL hA hl hQ => ?_)
  obtain ⟨hx, hb, hr, hts, hown, hlocks, hml, hin⟩ := C
  have hl : lv_has ls 8 [(0, .long p_0), (2, .long p_2)] := hl
  have h := hf
  unfold f_Model_steps at h
  refine lv_lload_n hx hb d_Model_steps_0 rfl (lv_at hl 0 rfl) ?_
  refine lv_lconst (v := 0) hx hb d_Model_steps_1 (by decide) ?_
  refine W.lcmp hx hb d_Model_steps_2 ?_
  refine lv_if_lt (tgt := 10) hx hb d_Model_steps_3 (by decide) (fun q1 => ?_) (fun q1 => ?_)
  · have h := it h q1
    refine lv_lload_n hx hb d_Model_steps_10 rfl (lv_at hl 1 rfl) ?_
    refine lv_lconst (v := 1) hx hb d_Model_steps_11 (by decide) ?_
    refine W.lcmp hx hb d_Model_steps_12 ?_
    refine lv_if_ne (tgt := 20) hx hb d_Model_steps_13 (by decide) (fun q2 => ?_) (fun q2 => ?_)
    · have h := ie h q2
      refine lv_lload_n hx hb d_Model_steps_20 rfl (lv_at hl 0 rfl) ?_
      refine lv_iconst (v := 1) hx hb d_Model_steps_21 (by decide) ?_
      refine lv_lushr (v := zlushr p_0 1) hx hb d_Model_steps_22 rfl ?_
      refine lv_lload_n hx hb d_Model_steps_23 rfl (lv_at hl 1 rfl) ?_
      obtain ⟨h3, h⟩ := gz_k h
      refine lv_ldiv hx hb d_Model_steps_24 h3 ?_
      refine lv_ldc2 (v := 2) hx hb hown (hts _ k_958) d_Model_steps_25 ?_
      refine lv_lmul hx hb d_Model_steps_28 ?_
      refine lv_topl (fun v4 ev4 => ?_)
      have h := nm_k h v4 ev4
      refine lv_lstore (lv' := [(4, .long v4), (0, .long p_0), (2, .long p_2)]) hx hb d_Model_steps_29 hl (by decide) rfl (fun ls hl => ?_)
      refine lv_lload_n hx hb d_Model_steps_31 rfl (lv_at hl 1 rfl) ?_
      refine lv_lload hx hb d_Model_steps_32 (lv_at hl 0 rfl) ?_
      refine lv_lload_n hx hb d_Model_steps_34 rfl (lv_at hl 2 rfl) ?_
      refine lv_lmul hx hb d_Model_steps_35 ?_
      refine lv_lsub hx hb d_Model_steps_36 ?_
      refine lv_topl (fun v5 ev5 => ?_)
      have h := nm_k h v5 ev5
      refine lv_lstore (lv' := [(6, .long v5), (4, .long v4), (0, .long p_0), (2, .long p_2)]) hx hb d_Model_steps_37 hl (by decide) rfl (fun ls hl => ?_)
      refine lv_lload hx hb d_Model_steps_39 (lv_at hl 0 rfl) ?_
      refine lv_lconst (v := 0) hx hb d_Model_steps_41 (by decide) ?_
      refine W.lcmp hx hb d_Model_steps_42 ?_
      refine lv_if_lt (tgt := 53) hx hb d_Model_steps_43 (by decide) (fun q6 => ?_) (fun q6 => ?_)
      · have h := it h q6
        refine lv_lload hx hb d_Model_steps_53 (lv_at hl 1 rfl) ?_
        refine lv_lconst (v := 1) hx hb d_Model_steps_55 (by decide) ?_
        refine lv_ladd hx hb d_Model_steps_56 ?_
        refine lv_goto (tgt := 62) hx hb d_Model_steps_57 (by decide) ?_
        obtain rfl := Option.some.inj h
        exact zretl () hQ hL hx hb hr hlocks hP hD hS rfl (Nat.le_refl _) (Nat.le_refl _) d_Model_steps_62
      · have h := ie h q6
        refine lv_lload hx hb d_Model_steps_46 (lv_at hl 0 rfl) ?_
        refine lv_lload_n hx hb d_Model_steps_48 rfl (lv_at hl 3 rfl) ?_
        refine W.lcmp hx hb d_Model_steps_49 ?_
        refine lv_if_lt (tgt := 60) hx hb d_Model_steps_50 (by decide) (fun q7 => ?_) (fun q7 => ?_)
        · have h := it h q7
          refine lv_lload hx hb d_Model_steps_60 (lv_at hl 1 rfl) ?_
          obtain rfl := Option.some.inj h
          exact zretl () hQ hL hx hb hr hlocks hP hD hS rfl (Nat.le_refl _) (Nat.le_refl _) d_Model_steps_62
        · have h := ie h q7
          refine lv_lload hx hb d_Model_steps_53 (lv_at hl 1 rfl) ?_
          refine lv_lconst (v := 1) hx hb d_Model_steps_55 (by decide) ?_
          refine lv_ladd hx hb d_Model_steps_56 ?_
          refine lv_goto (tgt := 62) hx hb d_Model_steps_57 (by decide) ?_
          obtain rfl := Option.some.inj h
          exact zretl () hQ hL hx hb hr hlocks hP hD hS rfl (Nat.le_refl _) (Nat.le_refl _) d_Model_steps_62
    · have h := it h q2
      refine lv_ldc2 (v := 9223372036854775807) hx hb hown (hts _ k_954) d_Model_steps_16 ?_
      obtain rfl := Option.some.inj h
      exact zretl () hQ hL hx hb hr hlocks hP hD hS rfl (Nat.le_refl _) (Nat.le_refl _) d_Model_steps_19
  · have h := ie h q1
    refine lv_lload_n hx hb d_Model_steps_6 rfl (lv_at hl 0 rfl) ?_
    refine lv_lload_n hx hb d_Model_steps_7 rfl (lv_at hl 1 rfl) ?_
    obtain ⟨h8, h⟩ := gz_k h
    refine lv_ldiv hx hb d_Model_steps_8 h8 ?_
    obtain rfl := Option.some.inj h
    exact zretl () hQ hL hx hb hr hlocks hP hD hS rfl (Nat.le_refl _) (Nat.le_refl _) d_Model_steps_9

theorem kv_Model_112 : zKS "BranchStoreModel" 112 y_Model_steps prog_9_method_35_code 8 (some .long) 2 := ⟨k_955, k_956, k_8, k_957, by decide +kernel⟩
noncomputable def s_Model_load_129 (c_free : (Nat → Int32)) (x1 : Int64) (x3 : Int32) (x4 : Int64) (x9 : Int64) (x11 : Int32) (c_cnt : Int32) (c_frees : Int32) (c_fst : (Nat → Int64)) (c_snd : (Nat → Int64)) (c_let : (Nat → Int32)) (c_many : (Nat → Int32)) (c_val : (Nat → Int64)) (c_ord : (Nat → Int32)) : Option ((Int64 × Int32 × Int32 × Int32 × (Nat → Int64) × (Nat → Int64) × (Nat → Int32) × (Nat → Int32) × (Nat → Int64) × (Nat → Int32)) ⊕ (Int32 × Int32 × (Nat → Int64) × (Nat → Int64) × (Nat → Int32) × (Nat → Int32) × (Nat → Int64) × (Nat → Int32))) :=
if x3 ≤ x11 then
(some (.inr (c_cnt, c_frees, c_fst, c_snd, c_let, c_many, c_val, c_ord)))
else
(gi 1500 1503 <|
nm (vp_updL c_fst (1500 : Int32).toNatClampNeg x9) fun c52 =>
(f_Model_insert c_cnt c_frees c52 c_snd c_let c_many c_val c_ord c_free x11 1500 (x4 + x11.toInt64)).bind fun r53 =>
nm (x9 + x1) fun v54 =>
nm (x11 + 1) fun v55 =>
some (.inl (v54, v55, r53.1, r53.2.1, r53.2.2.1, r53.2.2.2.1, r53.2.2.2.2.1, r53.2.2.2.2.2.1, r53.2.2.2.2.2.2.1, r53.2.2.2.2.2.2.2)))
noncomputable def f_Model_load (c_sort : Int32) (c_cnt : Int32) (c_frees : Int32) (c_thr : Int32) (c_fst : (Nat → Int64)) (c_snd : (Nat → Int64)) (c_let : (Nat → Int32)) (c_many : (Nat → Int32)) (c_val : (Nat → Int64)) (c_ord : (Nat → Int32)) (c_free : (Nat → Int32)) (p_1 : Int64) (p_3 : Int32) (p_4 : Int64) : Option (Int32 × Int32 × Int32 × (Nat → Int64) × (Nat → Int64) × (Nat → Int32) × (Nat → Int32) × (Nat → Int64) × (Nat → Int32)) :=
(if c_sort = 0 then
(if c_cnt ≤ 0 then
(some 0)
else
(some 1))
else
(some 1)).bind fun y5 =>
(f_Model_fails c_thr y5 1).bind fun r7 =>
if r7.1 = 0 then
((if (lg_cmp p_1 1) < 0 then
(some 1)
else
(if 0 ≤ p_3 then
(some 0)
else
(some 1))).bind fun y14 =>
(f_Model_fails r7.2 y14 2).bind fun r16 =>
if r16.1 = 0 then
(gi 1500 1503 <|
nm (c_fst (1500 : Int32).toNatClampNeg) fun v20 =>
(if p_3 ≤ 1 then
(some 0)
else
((f_Model_steps (9223372036854775807 - v20) p_1).bind fun r23 =>
if (lg_cmp ((p_3 - 1).toInt64) r23) ≤ 0 then
(some 0)
else
(some 1))).bind fun y26 =>
(f_Model_fails r16.2 y26 2).bind fun r28 =>
if r28.1 = 0 then
((if p_3 ≤ 1500 then
(some 0)
else
(some 1)).bind fun y34 =>
(f_Model_fails r28.2 y34 3).bind fun r36 =>
if r36.1 = 0 then
((lp (fun v => s_Model_load_129 c_free p_1 p_3 p_4 v.1 v.2.1 v.2.2.1 v.2.2.2.1 v.2.2.2.2.1 v.2.2.2.2.2.1 v.2.2.2.2.2.2.1 v.2.2.2.2.2.2.2.1 v.2.2.2.2.2.2.2.2.1 v.2.2.2.2.2.2.2.2.2) (v20, 0, c_cnt, c_frees, c_fst, c_snd, c_let, c_many, c_val, c_ord)).bind fun y64 =>
gi 1500 1503 <|
nm (vp_updL y64.2.2.1 (1500 : Int32).toNatClampNeg v20) fun c66 =>
some (y64.1, y64.2.1, r36.2, c66, y64.2.2.2.1, y64.2.2.2.2.1, y64.2.2.2.2.2.1, y64.2.2.2.2.2.2.1, y64.2.2.2.2.2.2.2))
else
(some (c_cnt, c_frees, r36.2, c_fst, c_snd, c_let, c_many, c_val, c_ord)))
else
(some (c_cnt, c_frees, r28.2, c_fst, c_snd, c_let, c_many, c_val, c_ord)))
else
(some (c_cnt, c_frees, r16.2, c_fst, c_snd, c_let, c_many, c_val, c_ord)))
else
(some (c_cnt, c_frees, r7.2, c_fst, c_snd, c_let, c_many, c_val, c_ord))
set_option maxHeartbeats 8000000 in
set_option maxRecDepth 100000 in
theorem c_Model_load (l : Launch) (G : zG) (sz : Nat) (a_m a_mfst a_msnd a_mlet a_mmany a_mval a_mord a_mfree a_mcode a_mnext a_mcom a_mmet : Nat) (c_sort : Int32) (c_cnt : Int32) (c_frees : Int32) (c_cur : Int32) (c_thr : Int32) (c_fst : (Nat → Int64)) (c_snd : (Nat → Int64)) (c_let : (Nat → Int32)) (c_many : (Nat → Int32)) (c_val : (Nat → Int64)) (c_ord : (Nat → Int32)) (c_free : (Nat → Int32)) (c_code : (Nat → Int32)) (c_next : (Nat → Int32)) (c_com : (Nat → Int32)) (c_met : (Nat → Int32)) (p_1 : Int64) (p_3 : Int32) (p_4 : Int64) (r0 : (Int32 × Int32 × Int32 × (Nat → Int64) × (Nat → Int64) × (Nat → Int32) × (Nat → Int32) × (Nat → Int64) × (Nat → Int32))) (hf : f_Model_load c_sort c_cnt c_frees c_thr c_fst c_snd c_let c_many c_val c_ord c_free p_1 p_3 p_4 = some r0) :
    Met l y_Model_load (Cond.code y_Model_load prog_9_method_34_code 12 none :: lw_ok) { frames := 2, cells := 0, slots := 0, locals := 48 } (zPc G sz [.ref a_m, .long p_1, .int p_3, .long p_4] (wM G a_m a_mfst a_msnd a_mlet a_mmany a_mval a_mord a_mfree a_mcode a_mnext a_mcom a_mmet c_sort c_cnt c_frees c_cur c_thr c_fst c_snd c_let c_many c_val c_ord c_free c_code c_next c_com c_met))
      ((fun (A : Nat → Prop) => va_Qv (fun (_ : Unit) => True) (fun _ t => zB G A (wM G a_m a_mfst a_msnd a_mlet a_mmany a_mval a_mord a_mfree a_mcode a_mnext a_mcom a_mmet c_sort r0.1 r0.2.1 c_cur r0.2.2.1 r0.2.2.2.1 r0.2.2.2.2.1 r0.2.2.2.2.2.1 r0.2.2.2.2.2.2.1 r0.2.2.2.2.2.2.2.1 r0.2.2.2.2.2.2.2.2 c_free c_code c_next c_com c_met) t) A) (va_A (wM G a_m a_mfst a_msnd a_mlet a_mmany a_mval a_mord a_mfree a_mcode a_mnext a_mcom a_mmet c_sort c_cnt c_frees c_cur c_thr c_fst c_snd c_let c_many c_val c_ord c_free c_code c_next c_com c_met) sz)) 0 0 (va_A (wM G a_m a_mfst a_msnd a_mlet a_mmany a_mval a_mord a_mfree a_mcode a_mnext a_mcom a_mmet c_sort c_cnt c_frees c_cur c_thr c_fst c_snd c_let c_many c_val c_ord c_free c_code c_next c_com c_met) sz) := by
  refine zMet (Qc := fun (A : Nat → Prop) => va_Qv (fun (_ : Unit) => True) (fun _ t => zB G A (wM G a_m a_mfst a_msnd a_mlet a_mmany a_mval a_mord a_mfree a_mcode a_mnext a_mcom a_mmet c_sort r0.1 r0.2.1 c_cur r0.2.2.1 r0.2.2.2.1 r0.2.2.2.2.1 r0.2.2.2.2.2.1 r0.2.2.2.2.2.2.1 r0.2.2.2.2.2.2.2.1 r0.2.2.2.2.2.2.2.2 c_free c_code c_next c_com c_met) t) A) (by decide) (Nat.le_of_ble_eq_true rfl) (fun xp xe xs xm xb xme xc A ls Q H locs C hN hK hP hD hS hA hl hQ => ?_)
  obtain ⟨hx, hb, hr, hts, hown, hlocks, hml, hin⟩ := C
  have hl : lv_has ls 12 [(0, .ref a_m), (1, .long p_1), (3, .int p_3), (4, .long p_4)] := hl
  have h := hf
  unfold f_Model_load at h
  refine lv_aload_n hx hb d_Model_load_0 rfl (lv_at hl 0 rfl) ?_
  refine lv_aload_n hx hb d_Model_load_1 rfl (lv_at hl 0 rfl) ?_
  refine va_get (D := G.1) (ci := 6) (v := .int c_sort) (C := "BranchStoreModel") (T := F_Model) (N := 16) hx hb hts i_Model hown hK hP 0 rfl rfl 0 (by decide) (hts _ k_770) (fun _ h9 => h9) rfl d_Model_load_2 ?_
  obtain ⟨y4, hy4, h⟩ := ob h
  have J20 : ∀ (z6 : Int32), narrow .boolean (.int z6) = .int z6 → z6 = y4 → ∀ (H : Heap) (locs : List Loc) (ls : Array Slot), va_P G.1 classes (wM G a_m a_mfst a_msnd a_mlet a_mmany a_mval a_mord a_mfree a_mcode a_mnext a_mcom a_mmet c_sort c_cnt c_frees c_cur c_thr c_fst c_snd c_let c_many c_val c_ord c_free c_code c_next c_com c_met) H → va_D A (wM G a_m a_mfst a_msnd a_mlet a_mmany a_mval a_mord a_mfree a_mcode a_mnext a_mcom a_mmet c_sort c_cnt c_frees c_cur c_thr c_fst c_snd c_let c_many c_val c_ord c_free c_code c_next c_com c_met) → va_S A xs.heap H locs → lv_has ls 12 [(0, .ref a_m), (1, .long p_1), (3, .int p_3), (4, .long p_4)] → W xp l xe { frames := 2, cells := 0, slots := 0, locals := 48 } xs xm ([.ref a_m, .long p_1, .int p_3, .long p_4] : List Value).toArray xb xme xc H locs 0 0 Q (F0 xm 20 ls [.int z6, .ref a_m]) := by
    intro z6 hzz6 ey H locs ls hP hD hS hl
    subst ey
    try dsimp only at h
    refine lv_iconst (v := 1) hx hb d_Model_load_20 (by decide) ?_
    obtain ⟨r7, hr7, h⟩ := ob h
    refine zcalli (wr := []) (w2 := fun _ => (wM G a_m a_mfst a_msnd a_mlet a_mmany a_mval a_mord a_mfree a_mcode a_mnext a_mcom a_mmet c_sort c_cnt c_frees c_cur r7.2 c_fst c_snd c_let c_many c_val c_ord c_free c_code c_next c_com c_met)) (zrunV (As := [.int z6, .int 1]) (rest := []) ⟨hx, hb, hml, hown, hts⟩ hN hK (c_Model_fails l G H.size a_m a_mfst a_msnd a_mlet a_mmany a_mval a_mord a_mfree a_mcode a_mnext a_mcom a_mmet c_sort c_cnt c_frees c_cur c_thr c_fst c_snd c_let c_many c_val c_ord c_free c_code c_next c_com c_met z6 1 hzz6 r7 hr7) ⟨rfl, rfl⟩ kv_Model_70 ⟨Nat.le_of_ble_eq_true rfl, Nat.le_of_ble_eq_true rfl⟩ 0 rfl rfl rfl hl.1 (Nat.le_of_ble_eq_true rfl) d_Model_load_21 ⟨Nat.le_of_ble_eq_true rfl, Nat.le_of_ble_eq_true rfl⟩) hP hD hS hA [0, 1, 2, 3, 4, 5, 6, 7, 8, 9, 10, 11] [] [0, 1, 2, 3, 4, 5, 6, 7, 8, 9, 10, 11] rfl rfl rfl rfl (by decide) rfl (fun _ => rfl) (fun rr _ H locs hw hP hD hS => ?_)
    obtain ⟨hw, hz8⟩ := hw
    have hw := hw.symm
    subst hw
    refine lv_if_ne (tgt := 50) hx hb d_Model_load_24 (by decide) (fun q9 => ?_) (fun q9 => ?_)
    · have h := ie h q9
      obtain rfl := Option.some.inj h
      exact zretv () hQ hS.2.2 hx hb hr hlocks hP hD hS trivial (Nat.le_refl _) (Nat.le_refl _) d_Model_load_50
    · have h := it h q9
      refine lv_aload_n hx hb d_Model_load_27 rfl (lv_at hl 0 rfl) ?_
      refine lv_lload_n hx hb d_Model_load_28 rfl (lv_at hl 1 rfl) ?_
      refine lv_lconst (v := 1) hx hb d_Model_load_29 (by decide) ?_
      refine W.lcmp hx hb d_Model_load_30 ?_
      obtain ⟨y13, hy13, h⟩ := ob h
      have J43 : ∀ (z15 : Int32), narrow .boolean (.int z15) = .int z15 → z15 = y13 → ∀ (H : Heap) (locs : List Loc) (ls : Array Slot), va_P G.1 classes (wM G a_m a_mfst a_msnd a_mlet a_mmany a_mval a_mord a_mfree a_mcode a_mnext a_mcom a_mmet c_sort c_cnt c_frees c_cur r7.2 c_fst c_snd c_let c_many c_val c_ord c_free c_code c_next c_com c_met) H → va_D A (wM G a_m a_mfst a_msnd a_mlet a_mmany a_mval a_mord a_mfree a_mcode a_mnext a_mcom a_mmet c_sort c_cnt c_frees c_cur r7.2 c_fst c_snd c_let c_many c_val c_ord c_free c_code c_next c_com c_met) → va_S A xs.heap H locs → lv_has ls 12 [(0, .ref a_m), (1, .long p_1), (3, .int p_3), (4, .long p_4)] → W xp l xe { frames := 2, cells := 0, slots := 0, locals := 48 } xs xm ([.ref a_m, .long p_1, .int p_3, .long p_4] : List Value).toArray xb xme xc H locs 0 0 Q (F0 xm 43 ls [.int z15, .ref a_m]) := by
        intro z15 hzz15 ey H locs ls hP hD hS hl
        subst ey
        try dsimp only at h
        refine lv_iconst (v := 2) hx hb d_Model_load_43 (by decide) ?_
        obtain ⟨r16, hr16, h⟩ := ob h
        refine zcalli (wr := []) (w2 := fun _ => (wM G a_m a_mfst a_msnd a_mlet a_mmany a_mval a_mord a_mfree a_mcode a_mnext a_mcom a_mmet c_sort c_cnt c_frees c_cur r16.2 c_fst c_snd c_let c_many c_val c_ord c_free c_code c_next c_com c_met)) (zrunV (As := [.int z15, .int 2]) (rest := []) ⟨hx, hb, hml, hown, hts⟩ hN hK (c_Model_fails l G H.size a_m a_mfst a_msnd a_mlet a_mmany a_mval a_mord a_mfree a_mcode a_mnext a_mcom a_mmet c_sort c_cnt c_frees c_cur r7.2 c_fst c_snd c_let c_many c_val c_ord c_free c_code c_next c_com c_met z15 2 hzz15 r16 hr16) ⟨rfl, rfl⟩ kv_Model_70 ⟨Nat.le_of_ble_eq_true rfl, Nat.le_of_ble_eq_true rfl⟩ 0 rfl rfl rfl hl.1 (Nat.le_of_ble_eq_true rfl) d_Model_load_44 ⟨Nat.le_of_ble_eq_true rfl, Nat.le_of_ble_eq_true rfl⟩) hP hD hS hA [0, 1, 2, 3, 4, 5, 6, 7, 8, 9, 10, 11] [] [0, 1, 2, 3, 4, 5, 6, 7, 8, 9, 10, 11] rfl rfl rfl rfl (by decide) rfl (fun _ => rfl) (fun rr _ H locs hw hP hD hS => ?_)
        obtain ⟨hw, hz17⟩ := hw
        have hw := hw.symm
        subst hw
        refine lv_if_eq (tgt := 51) hx hb d_Model_load_47 (by decide) (fun q18 => ?_) (fun q18 => ?_)
        · have h := it h q18
          refine lv_aload_n hx hb d_Model_load_51 rfl (lv_at hl 0 rfl) ?_
          refine va_get (D := G.1) (ci := 6) (v := .ref a_mfst) (C := "BranchStoreModel") (T := F_Model) (N := 16) hx hb hts i_Model hown hK hP 0 rfl rfl 1 (by decide) (hts _ k_771) (fun _ h9 => h9) rfl d_Model_load_52 ?_
          refine lv_sipush (v := 1500) hx hb d_Model_load_55 (by decide) ?_
          obtain ⟨h19, h⟩ := gi_k h
          refine va_lald hx hb hK hP 1 2 rfl rfl h19 d_Model_load_58 ?_
          refine lv_topl (fun v20 ev20 => ?_)
          have h := nm_k h v20 ev20
          refine lv_lstore (lv' := [(6, .long v20), (0, .ref a_m), (1, .long p_1), (3, .int p_3), (4, .long p_4)]) hx hb d_Model_load_59 hl (by decide) rfl (fun ls hl => ?_)
          refine lv_iload_n hx hb d_Model_load_61 rfl (lv_at hl 3 rfl) ?_
          refine lv_iconst (v := 1) hx hb d_Model_load_62 (by decide) ?_
          obtain ⟨y25, hy25, h⟩ := ob h
          have J89 : ∀ (z27 : Int32), narrow .boolean (.int z27) = .int z27 → z27 = y25 → ∀ (H : Heap) (locs : List Loc) (ls : Array Slot), va_P G.1 classes (wM G a_m a_mfst a_msnd a_mlet a_mmany a_mval a_mord a_mfree a_mcode a_mnext a_mcom a_mmet c_sort c_cnt c_frees c_cur r16.2 c_fst c_snd c_let c_many c_val c_ord c_free c_code c_next c_com c_met) H → va_D A (wM G a_m a_mfst a_msnd a_mlet a_mmany a_mval a_mord a_mfree a_mcode a_mnext a_mcom a_mmet c_sort c_cnt c_frees c_cur r16.2 c_fst c_snd c_let c_many c_val c_ord c_free c_code c_next c_com c_met) → va_S A xs.heap H locs → lv_has ls 12 [(0, .ref a_m), (1, .long p_1), (3, .int p_3), (4, .long p_4), (6, .long v20)] → W xp l xe { frames := 2, cells := 0, slots := 0, locals := 48 } xs xm ([.ref a_m, .long p_1, .int p_3, .long p_4] : List Value).toArray xb xme xc H locs 0 0 Q (F0 xm 89 ls [.int z27]) := by
            intro z27 hzz27 ey H locs ls hP hD hS hl
            subst ey
            try dsimp only at h
            refine lv_istore (lv' := [(8, .int z27), (0, .ref a_m), (1, .long p_1), (3, .int p_3), (4, .long p_4), (6, .long v20)]) hx hb d_Model_load_89 hl (by decide) rfl (fun ls hl => ?_)
            refine lv_aload_n hx hb d_Model_load_91 rfl (lv_at hl 1 rfl) ?_
            refine lv_iload hx hb d_Model_load_92 (lv_at hl 0 rfl) ?_
            refine lv_iconst (v := 2) hx hb d_Model_load_94 (by decide) ?_
            obtain ⟨r28, hr28, h⟩ := ob h
            refine zcalli (wr := []) (w2 := fun _ => (wM G a_m a_mfst a_msnd a_mlet a_mmany a_mval a_mord a_mfree a_mcode a_mnext a_mcom a_mmet c_sort c_cnt c_frees c_cur r28.2 c_fst c_snd c_let c_many c_val c_ord c_free c_code c_next c_com c_met)) (zrunV (As := [.int z27, .int 2]) (rest := []) ⟨hx, hb, hml, hown, hts⟩ hN hK (c_Model_fails l G H.size a_m a_mfst a_msnd a_mlet a_mmany a_mval a_mord a_mfree a_mcode a_mnext a_mcom a_mmet c_sort c_cnt c_frees c_cur r16.2 c_fst c_snd c_let c_many c_val c_ord c_free c_code c_next c_com c_met z27 2 hzz27 r28 hr28) ⟨rfl, rfl⟩ kv_Model_70 ⟨Nat.le_of_ble_eq_true rfl, Nat.le_of_ble_eq_true rfl⟩ 0 rfl rfl rfl hl.1 (Nat.le_of_ble_eq_true rfl) d_Model_load_95 ⟨Nat.le_of_ble_eq_true rfl, Nat.le_of_ble_eq_true rfl⟩) hP hD hS hA [0, 1, 2, 3, 4, 5, 6, 7, 8, 9, 10, 11] [] [0, 1, 2, 3, 4, 5, 6, 7, 8, 9, 10, 11] rfl rfl rfl rfl (by decide) rfl (fun _ => rfl) (fun rr _ H locs hw hP hD hS => ?_)
            obtain ⟨hw, hz29⟩ := hw
            have hw := hw.symm
            subst hw
            refine lv_if_ne (tgt := 121) hx hb d_Model_load_98 (by decide) (fun q30 => ?_) (fun q30 => ?_)
            · have h := ie h q30
              obtain rfl := Option.some.inj h
              exact zretv () hQ hS.2.2 hx hb hr hlocks hP hD hS trivial (Nat.le_refl _) (Nat.le_refl _) d_Model_load_121
            · have h := it h q30
              refine lv_aload_n hx hb d_Model_load_101 rfl (lv_at hl 1 rfl) ?_
              refine lv_iload_n hx hb d_Model_load_102 rfl (lv_at hl 3 rfl) ?_
              refine lv_sipush (v := 1500) hx hb d_Model_load_103 (by decide) ?_
              obtain ⟨y33, hy33, h⟩ := ob h
              have J114 : ∀ (z35 : Int32), narrow .boolean (.int z35) = .int z35 → z35 = y33 → ∀ (H : Heap) (locs : List Loc) (ls : Array Slot), va_P G.1 classes (wM G a_m a_mfst a_msnd a_mlet a_mmany a_mval a_mord a_mfree a_mcode a_mnext a_mcom a_mmet c_sort c_cnt c_frees c_cur r28.2 c_fst c_snd c_let c_many c_val c_ord c_free c_code c_next c_com c_met) H → va_D A (wM G a_m a_mfst a_msnd a_mlet a_mmany a_mval a_mord a_mfree a_mcode a_mnext a_mcom a_mmet c_sort c_cnt c_frees c_cur r28.2 c_fst c_snd c_let c_many c_val c_ord c_free c_code c_next c_com c_met) → va_S A xs.heap H locs → lv_has ls 12 [(0, .ref a_m), (1, .long p_1), (3, .int p_3), (4, .long p_4), (6, .long v20)] → W xp l xe { frames := 2, cells := 0, slots := 0, locals := 48 } xs xm ([.ref a_m, .long p_1, .int p_3, .long p_4] : List Value).toArray xb xme xc H locs 0 0 Q (F0 xm 114 ls [.int z35, .ref a_m]) := by
                intro z35 hzz35 ey H locs ls hP hD hS hl
                subst ey
                try dsimp only at h
                refine lv_iconst (v := 3) hx hb d_Model_load_114 (by decide) ?_
                obtain ⟨r36, hr36, h⟩ := ob h
                refine zcalli (wr := []) (w2 := fun _ => (wM G a_m a_mfst a_msnd a_mlet a_mmany a_mval a_mord a_mfree a_mcode a_mnext a_mcom a_mmet c_sort c_cnt c_frees c_cur r36.2 c_fst c_snd c_let c_many c_val c_ord c_free c_code c_next c_com c_met)) (zrunV (As := [.int z35, .int 3]) (rest := []) ⟨hx, hb, hml, hown, hts⟩ hN hK (c_Model_fails l G H.size a_m a_mfst a_msnd a_mlet a_mmany a_mval a_mord a_mfree a_mcode a_mnext a_mcom a_mmet c_sort c_cnt c_frees c_cur r28.2 c_fst c_snd c_let c_many c_val c_ord c_free c_code c_next c_com c_met z35 3 hzz35 r36 hr36) ⟨rfl, rfl⟩ kv_Model_70 ⟨Nat.le_of_ble_eq_true rfl, Nat.le_of_ble_eq_true rfl⟩ 0 rfl rfl rfl hl.1 (Nat.le_of_ble_eq_true rfl) d_Model_load_115 ⟨Nat.le_of_ble_eq_true rfl, Nat.le_of_ble_eq_true rfl⟩) hP hD hS hA [0, 1, 2, 3, 4, 5, 6, 7, 8, 9, 10, 11] [] [0, 1, 2, 3, 4, 5, 6, 7, 8, 9, 10, 11] rfl rfl rfl rfl (by decide) rfl (fun _ => rfl) (fun rr _ H locs hw hP hD hS => ?_)
                obtain ⟨hw, hz37⟩ := hw
                have hw := hw.symm
                subst hw
                refine lv_if_eq (tgt := 122) hx hb d_Model_load_118 (by decide) (fun q38 => ?_) (fun q38 => ?_)
                · have h := it h q38
                  refine lv_lload hx hb d_Model_load_122 (lv_at hl 4 rfl) ?_
                  refine lv_lstore (lv' := [(9, .long v20), (0, .ref a_m), (1, .long p_1), (3, .int p_3), (4, .long p_4), (6, .long v20)]) hx hb d_Model_load_124 hl (by decide) rfl (fun ls hl => ?_)
                  refine lv_iconst (v := 0) hx hb d_Model_load_126 (by decide) ?_
                  refine lv_istore (lv' := [(11, .int 0), (9, .long v20), (0, .ref a_m), (1, .long p_1), (3, .int p_3), (4, .long p_4), (6, .long v20)]) hx hb d_Model_load_127 hl (by decide) rfl (fun ls hl => ?_)
                  obtain ⟨y49, hy49, h⟩ := ob h
                  have E129 : ∀ (z56 : Int32) (z57 : Int32) (z58 : (Nat → Int64)) (z59 : (Nat → Int64)) (z60 : (Nat → Int32)) (z61 : (Nat → Int32)) (z62 : (Nat → Int64)) (z63 : (Nat → Int32)), (z56, z57, z58, z59, z60, z61, z62, z63) = y49 → ∀ (H : Heap) (locs : List Loc) (ls : Array Slot), va_P G.1 classes (wM G a_m a_mfst a_msnd a_mlet a_mmany a_mval a_mord a_mfree a_mcode a_mnext a_mcom a_mmet c_sort z56 z57 c_cur r36.2 z58 z59 z60 z61 z62 z63 c_free c_code c_next c_com c_met) H → va_D A (wM G a_m a_mfst a_msnd a_mlet a_mmany a_mval a_mord a_mfree a_mcode a_mnext a_mcom a_mmet c_sort z56 z57 c_cur r36.2 z58 z59 z60 z61 z62 z63 c_free c_code c_next c_com c_met) → va_S A xs.heap H locs → lv_has ls 12 [(0, .ref a_m), (6, .long v20)] → W xp l xe { frames := 2, cells := 0, slots := 0, locals := 48 } xs xm ([.ref a_m, .long p_1, .int p_3, .long p_4] : List Value).toArray xb xme xc H locs 0 0 Q (F0 xm 172 ls []) := by
                    intro z56 z57 z58 z59 z60 z61 z62 z63 ey H locs ls hP hD hS hl
                    subst ey
                    try dsimp only at h
                    refine lv_aload_n hx hb d_Model_load_172 rfl (lv_at hl 0 rfl) ?_
                    refine va_get (D := G.1) (ci := 6) (v := .ref a_mfst) (C := "BranchStoreModel") (T := F_Model) (N := 16) hx hb hts i_Model hown hK hP 0 rfl rfl 1 (by decide) (hts _ k_771) (fun _ h9 => h9) rfl d_Model_load_173 ?_
                    refine lv_sipush (v := 1500) hx hb d_Model_load_176 (by decide) ?_
                    refine lv_lload hx hb d_Model_load_179 (lv_at hl 1 rfl) ?_
                    obtain ⟨h65, h⟩ := gi_k h
                    refine va_last hx hb hK hP hD hS 1 2 rfl rfl h65 d_Model_load_181 (fun H locs hP hD hS => ?_)
                    obtain ⟨c66, ec66⟩ : ∃ y, y = vp_updL z58 (1500 : Int32).toNatClampNeg v20 := ⟨_, rfl⟩
                    have h := nm_k h c66 ec66
                    have hP : va_P G.1 classes (wM G a_m a_mfst a_msnd a_mlet a_mmany a_mval a_mord a_mfree a_mcode a_mnext a_mcom a_mmet c_sort z56 z57 c_cur r36.2 c66 z59 z60 z61 z62 z63 c_free c_code c_next c_com c_met) H := by rw [ec66]; exact hP
                    have hD : va_D A (wM G a_m a_mfst a_msnd a_mlet a_mmany a_mval a_mord a_mfree a_mcode a_mnext a_mcom a_mmet c_sort z56 z57 c_cur r36.2 c66 z59 z60 z61 z62 z63 c_free c_code c_next c_com c_met) := by rw [ec66]; exact hD
                    obtain rfl := Option.some.inj h
                    exact zretv () hQ hS.2.2 hx hb hr hlocks hP hD hS trivial (Nat.le_refl _) (Nat.le_refl _) d_Model_load_182
                  have L129 : ∀ v : (Int64 × Int32 × Int32 × Int32 × (Nat → Int64) × (Nat → Int64) × (Nat → Int32) × (Nat → Int32) × (Nat → Int64) × (Nat → Int32)), lp (fun v => s_Model_load_129 c_free p_1 p_3 p_4 v.1 v.2.1 v.2.2.1 v.2.2.2.1 v.2.2.2.2.1 v.2.2.2.2.2.1 v.2.2.2.2.2.2.1 v.2.2.2.2.2.2.2.1 v.2.2.2.2.2.2.2.2.1 v.2.2.2.2.2.2.2.2.2) v = some y49 → ∀ (H : Heap) (locs : List Loc) (ls : Array Slot), va_P G.1 classes (wM G a_m a_mfst a_msnd a_mlet a_mmany a_mval a_mord a_mfree a_mcode a_mnext a_mcom a_mmet c_sort v.2.2.1 v.2.2.2.1 c_cur r36.2 v.2.2.2.2.1 v.2.2.2.2.2.1 v.2.2.2.2.2.2.1 v.2.2.2.2.2.2.2.1 v.2.2.2.2.2.2.2.2.1 v.2.2.2.2.2.2.2.2.2 c_free c_code c_next c_com c_met) H → va_D A (wM G a_m a_mfst a_msnd a_mlet a_mmany a_mval a_mord a_mfree a_mcode a_mnext a_mcom a_mmet c_sort v.2.2.1 v.2.2.2.1 c_cur r36.2 v.2.2.2.2.1 v.2.2.2.2.2.1 v.2.2.2.2.2.2.1 v.2.2.2.2.2.2.2.1 v.2.2.2.2.2.2.2.2.1 v.2.2.2.2.2.2.2.2.2 c_free c_code c_next c_com c_met) → va_S A xs.heap H locs → lv_has ls 12 [(0, .ref a_m), (1, .long p_1), (3, .int p_3), (4, .long p_4), (6, .long v20), (9, .long v.1), (11, .int v.2.1)] → W xp l xe { frames := 2, cells := 0, slots := 0, locals := 48 } xs xm ([.ref a_m, .long p_1, .int p_3, .long p_4] : List Value).toArray xb xme xc H locs 0 0 Q (F0 xm 129 ls []) := by
                    refine lp_walk _ (fun v x h hc he => ?_)
                    obtain ⟨x9_39, x11_40, c41, c42, c43, c44, c45, c46, c47, c48⟩ := v
                    intro H locs ls hP hD hS hl
                    have h : s_Model_load_129 c_free p_1 p_3 p_4 x9_39 x11_40 c41 c42 c43 c44 c45 c46 c47 c48 = some x := h
                    unfold s_Model_load_129 at h
                    refine lv_iload hx hb d_Model_load_129 (lv_at hl 6 rfl) ?_
                    refine lv_iload_n hx hb d_Model_load_131 rfl (lv_at hl 2 rfl) ?_
                    refine lv_icmp_ge (tgt := 172) hx hb d_Model_load_132 (by decide) (fun q50 => ?_) (fun q50 => ?_)
                    · have h := it h q50
                      exact E129 c41 c42 c43 c44 c45 c46 c47 c48 (he _ (Option.some.inj h).symm) H locs ls hP hD hS (lv_sub hl [0, 4] rfl)
                    · have h := ie h q50
                      refine lv_aload_n hx hb d_Model_load_135 rfl (lv_at hl 0 rfl) ?_
                      refine va_get (D := G.1) (ci := 6) (v := .ref a_mfst) (C := "BranchStoreModel") (T := F_Model) (N := 16) hx hb hts i_Model hown hK hP 0 rfl rfl 1 (by decide) (hts _ k_771) (fun _ h9 => h9) rfl d_Model_load_136 ?_
                      refine lv_sipush (v := 1500) hx hb d_Model_load_139 (by decide) ?_
                      refine lv_lload hx hb d_Model_load_142 (lv_at hl 5 rfl) ?_
                      obtain ⟨h51, h⟩ := gi_k h
                      refine va_last hx hb hK hP hD hS 1 2 rfl rfl h51 d_Model_load_144 (fun H locs hP hD hS => ?_)
                      obtain ⟨c52, ec52⟩ : ∃ y, y = vp_updL c43 (1500 : Int32).toNatClampNeg x9_39 := ⟨_, rfl⟩
                      have h := nm_k h c52 ec52
                      have hP : va_P G.1 classes (wM G a_m a_mfst a_msnd a_mlet a_mmany a_mval a_mord a_mfree a_mcode a_mnext a_mcom a_mmet c_sort c41 c42 c_cur r36.2 c52 c44 c45 c46 c47 c48 c_free c_code c_next c_com c_met) H := by rw [ec52]; exact hP
                      have hD : va_D A (wM G a_m a_mfst a_msnd a_mlet a_mmany a_mval a_mord a_mfree a_mcode a_mnext a_mcom a_mmet c_sort c41 c42 c_cur r36.2 c52 c44 c45 c46 c47 c48 c_free c_code c_next c_com c_met) := by rw [ec52]; exact hD
                      refine lv_aload_n hx hb d_Model_load_145 rfl (lv_at hl 0 rfl) ?_
                      refine lv_iload hx hb d_Model_load_146 (lv_at hl 6 rfl) ?_
                      refine lv_sipush (v := 1500) hx hb d_Model_load_148 (by decide) ?_
                      refine lv_lload hx hb d_Model_load_151 (lv_at hl 3 rfl) ?_
                      refine lv_iload hx hb d_Model_load_153 (lv_at hl 6 rfl) ?_
                      refine lv_i2l (v := x11_40.toInt64) hx hb d_Model_load_155 rfl ?_
                      refine lv_ladd hx hb d_Model_load_156 ?_
                      obtain ⟨r53, hr53, h⟩ := ob h
                      refine zcallv (wr := []) (w2 := fun _ => (wM G a_m a_mfst a_msnd a_mlet a_mmany a_mval a_mord a_mfree a_mcode a_mnext a_mcom a_mmet c_sort r53.1 r53.2.1 c_cur r36.2 r53.2.2.1 r53.2.2.2.1 r53.2.2.2.2.1 r53.2.2.2.2.2.1 r53.2.2.2.2.2.2.1 r53.2.2.2.2.2.2.2 c_free c_code c_next c_com c_met)) (zrunV (As := [.int x11_40, .int 1500, .long (p_4 + x11_40.toInt64)]) (rest := []) ⟨hx, hb, hml, hown, hts⟩ hN hK (c_Model_insert l G H.size a_m a_mfst a_msnd a_mlet a_mmany a_mval a_mord a_mfree a_mcode a_mnext a_mcom a_mmet c_sort c41 c42 c_cur r36.2 c52 c44 c45 c46 c47 c48 c_free c_code c_next c_com c_met x11_40 1500 (p_4 + x11_40.toInt64) r53 hr53) ⟨rfl, rfl⟩ kv_Model_91 ⟨Nat.le_of_ble_eq_true rfl, Nat.le_of_ble_eq_true rfl⟩ 0 rfl rfl rfl hl.1 (Nat.le_of_ble_eq_true rfl) d_Model_load_157 ⟨Nat.le_of_ble_eq_true rfl, Nat.le_of_ble_eq_true rfl⟩) hP hD hS hA [0, 1, 2, 3, 4, 5, 6, 7, 8, 9, 10, 11] [] [0, 1, 2, 3, 4, 5, 6, 7, 8, 9, 10, 11] rfl rfl rfl rfl (by decide) rfl (fun _ => rfl) (fun _ H locs _ hP hD hS => ?_)
                      refine lv_lload hx hb d_Model_load_160 (lv_at hl 5 rfl) ?_
                      refine lv_lload_n hx hb d_Model_load_162 rfl (lv_at hl 1 rfl) ?_
                      refine lv_ladd hx hb d_Model_load_163 ?_
                      refine lv_topl (fun v54 ev54 => ?_)
                      have h := nm_k h v54 ev54
                      refine lv_lstore (lv' := [(9, .long v54), (0, .ref a_m), (1, .long p_1), (3, .int p_3), (4, .long p_4), (6, .long v20), (11, .int x11_40)]) hx hb d_Model_load_164 hl (by decide) rfl (fun ls hl => ?_)
                      obtain ⟨v55, ev55⟩ : ∃ y : Int32, y = x11_40 + 1 := ⟨_, rfl⟩
                      have h := nm_k h v55 ev55
                      refine lv_iinc (v := v55) (lv' := [(11, .int v55), (9, .long v54), (0, .ref a_m), (1, .long p_1), (3, .int p_3), (4, .long p_4), (6, .long v20)]) hx hb d_Model_load_166 hl (k := 6) rfl (by rw [ev55]; rfl) (by decide) rfl (fun ls hl => ?_)
                      refine lv_goto (tgt := 129) hx hb d_Model_load_169 (by decide) ?_
                      exact hc _ (Option.some.inj h).symm H locs ls hP hD hS (lv_sub hl [2, 3, 4, 5, 6, 1, 0] rfl)
                  exact L129 _ hy49 _ _ ls hP hD hS (lv_sub hl [2, 3, 4, 5, 6, 1, 0] rfl)
                · have h := ie h q38
                  obtain rfl := Option.some.inj h
                  exact zretv () hQ hS.2.2 hx hb hr hlocks hP hD hS trivial (Nat.le_refl _) (Nat.le_refl _) d_Model_load_121
              have h := hy33
              refine lv_icmp_le (tgt := 113) hx hb d_Model_load_106 (by decide) (fun q32 => ?_) (fun q32 => ?_)
              · have h := it h q32
                refine lv_iconst (v := 0) hx hb d_Model_load_113 (by decide) ?_
                exact J114 0 rfl (Option.some.inj h) H locs ls hP hD hS (lv_sub hl [1, 2, 3, 4, 5] rfl)
              · have h := ie h q32
                refine lv_iconst (v := 1) hx hb d_Model_load_109 (by decide) ?_
                refine lv_goto (tgt := 114) hx hb d_Model_load_110 (by decide) ?_
                exact J114 1 rfl (Option.some.inj h) H locs ls hP hD hS (lv_sub hl [1, 2, 3, 4, 5] rfl)
          have h := hy25
          refine lv_icmp_le (tgt := 88) hx hb d_Model_load_63 (by decide) (fun q22 => ?_) (fun q22 => ?_)
          · have h := it h q22
            refine lv_iconst (v := 0) hx hb d_Model_load_88 (by decide) ?_
            exact J89 0 rfl (Option.some.inj h) H locs ls hP hD hS (lv_sub hl [1, 2, 3, 4, 0] rfl)
          · have h := ie h q22
            refine lv_iload_n hx hb d_Model_load_66 rfl (lv_at hl 3 rfl) ?_
            refine lv_iconst (v := 1) hx hb d_Model_load_67 (by decide) ?_
            refine lv_isub hx hb d_Model_load_68 ?_
            refine lv_i2l (v := (p_3 - 1).toInt64) hx hb d_Model_load_69 rfl ?_
            refine lv_ldc2 (v := 9223372036854775807) hx hb hown (hts _ k_954) d_Model_load_70 ?_
            refine lv_lload hx hb d_Model_load_73 (lv_at hl 0 rfl) ?_
            refine lv_lsub hx hb d_Model_load_75 ?_
            refine lv_lload_n hx hb d_Model_load_76 rfl (lv_at hl 2 rfl) ?_
            obtain ⟨r23, hr23, h⟩ := ob h
            refine zpcalll (wr := (wM G a_m a_mfst a_msnd a_mlet a_mmany a_mval a_mord a_mfree a_mcode a_mnext a_mcom a_mmet c_sort c_cnt c_frees c_cur r16.2 c_fst c_snd c_let c_many c_val c_ord c_free c_code c_next c_com c_met)) (w2 := fun _ => (wM G a_m a_mfst a_msnd a_mlet a_mmany a_mval a_mord a_mfree a_mcode a_mnext a_mcom a_mmet c_sort c_cnt c_frees c_cur r16.2 c_fst c_snd c_let c_many c_val c_ord c_free c_code c_next c_com c_met)) (zrunS (As := [.long (9223372036854775807 - v20), .long p_1]) (rest := [.long ((p_3 - 1).toInt64)]) ⟨hx, hb, hml, hown, hts⟩ hN hK (c_Model_steps l G H.size (9223372036854775807 - v20) p_1 r23 hr23) ⟨rfl, rfl⟩ kv_Model_112 ⟨Nat.le_of_ble_eq_true rfl, Nat.le_of_ble_eq_true rfl⟩ rfl hl.1 (Nat.le_of_ble_eq_true rfl) d_Model_load_77 ⟨Nat.le_of_ble_eq_true rfl, Nat.le_of_ble_eq_true rfl⟩) hP hD hS hA [] [0, 1, 2, 3, 4, 5, 6, 7, 8, 9, 10, 11] [0, 1, 2, 3, 4, 5, 6, 7, 8, 9, 10, 11] rfl rfl rfl rfl (by decide) rfl (fun _ => rfl) (fun rr _ H hw hP hD hS => ?_)
            have hw := hw.symm
            subst hw
            refine W.lcmp hx hb d_Model_load_80 ?_
            refine lv_if_le (tgt := 88) hx hb d_Model_load_81 (by decide) (fun q24 => ?_) (fun q24 => ?_)
            · have h := it h q24
              refine lv_iconst (v := 0) hx hb d_Model_load_88 (by decide) ?_
              exact J89 0 rfl (Option.some.inj h) H locs ls hP hD hS (lv_sub hl [1, 2, 3, 4, 0] rfl)
            · have h := ie h q24
              refine lv_iconst (v := 1) hx hb d_Model_load_84 (by decide) ?_
              refine lv_goto (tgt := 89) hx hb d_Model_load_85 (by decide) ?_
              exact J89 1 rfl (Option.some.inj h) H locs ls hP hD hS (lv_sub hl [1, 2, 3, 4, 0] rfl)
        · have h := ie h q18
          obtain rfl := Option.some.inj h
          exact zretv () hQ hS.2.2 hx hb hr hlocks hP hD hS trivial (Nat.le_refl _) (Nat.le_refl _) d_Model_load_50
      have h := hy13
      refine lv_if_lt (tgt := 38) hx hb d_Model_load_31 (by decide) (fun q11 => ?_) (fun q11 => ?_)
      · have h := it h q11
        refine lv_iconst (v := 1) hx hb d_Model_load_38 (by decide) ?_
        refine lv_goto (tgt := 43) hx hb d_Model_load_39 (by decide) ?_
        exact J43 1 rfl (Option.some.inj h) H locs ls hP hD hS (lv_sub hl [0, 1, 2, 3] rfl)
      · have h := ie h q11
        refine lv_iload_n hx hb d_Model_load_34 rfl (lv_at hl 2 rfl) ?_
        refine lv_if_ge (tgt := 42) hx hb d_Model_load_35 (by decide) (fun q12 => ?_) (fun q12 => ?_)
        · have h := it h q12
          refine lv_iconst (v := 0) hx hb d_Model_load_42 (by decide) ?_
          exact J43 0 rfl (Option.some.inj h) H locs ls hP hD hS (lv_sub hl [0, 1, 2, 3] rfl)
        · have h := ie h q12
          refine lv_iconst (v := 1) hx hb d_Model_load_38 (by decide) ?_
          refine lv_goto (tgt := 43) hx hb d_Model_load_39 (by decide) ?_
          exact J43 1 rfl (Option.some.inj h) H locs ls hP hD hS (lv_sub hl [0, 1, 2, 3] rfl)
  have h := hy4
  refine lv_if_ne (tgt := 15) hx hb d_Model_load_5 (by decide) (fun q2 => ?_) (fun q2 => ?_)
  · have h := ie h q2
    refine lv_iconst (v := 1) hx hb d_Model_load_15 (by decide) ?_
    refine lv_goto (tgt := 20) hx hb d_Model_load_16 (by decide) ?_
    exact J20 1 rfl (Option.some.inj h) H locs ls hP hD hS (lv_sub hl [0, 1, 2, 3] rfl)
  · have h := it h q2
    refine lv_aload_n hx hb d_Model_load_8 rfl (lv_at hl 0 rfl) ?_
    refine va_get (D := G.1) (ci := 6) (v := .int c_cnt) (C := "BranchStoreModel") (T := F_Model) (N := 16) hx hb hts i_Model hown hK hP 0 rfl rfl 7 (by decide) (hts _ k_777) (fun _ h9 => h9) rfl d_Model_load_9 ?_
    refine lv_if_le (tgt := 19) hx hb d_Model_load_12 (by decide) (fun q3 => ?_) (fun q3 => ?_)
    · have h := it h q3
      refine lv_iconst (v := 0) hx hb d_Model_load_19 (by decide) ?_
      exact J20 0 rfl (Option.some.inj h) H locs ls hP hD hS (lv_sub hl [0, 1, 2, 3] rfl)
    · have h := ie h q3
      refine lv_iconst (v := 1) hx hb d_Model_load_15 (by decide) ?_
      refine lv_goto (tgt := 20) hx hb d_Model_load_16 (by decide) ?_
      exact J20 1 rfl (Option.some.inj h) H locs ls hP hD hS (lv_sub hl [0, 1, 2, 3] rfl)

noncomputable def s_Model_clear_12 (x1 : Int32) (x2 : Int32) (c_cnt : Int32) (c_frees : Int32) (c_ord : (Nat → Int32)) (c_free : (Nat → Int32)) : Option ((Int32 × Int32 × Int32 × (Nat → Int32) × (Nat → Int32)) ⊕ (Int32 × Int32 × (Nat → Int32) × (Nat → Int32))) :=
if x1 ≤ x2 then
(some (.inr (c_cnt, c_frees, c_ord, c_free)))
else
((f_Model_delete c_cnt c_frees c_ord c_free (c_cnt - 1)).bind fun r8 =>
nm (x2 + 1) fun v9 =>
some (.inl (v9, r8.1, r8.2.1, r8.2.2.1, r8.2.2.2)))
noncomputable def f_Model_clear (c_cnt : Int32) (c_frees : Int32) (c_thr : Int32) (c_ord : (Nat → Int32)) (c_free : (Nat → Int32))  : Option (Int32 × Int32 × Int32 × Int32 × (Nat → Int32) × (Nat → Int32)) :=
(lp (fun v => s_Model_clear_12 c_cnt v.1 v.2.1 v.2.2.1 v.2.2.2.1 v.2.2.2.2) (0, c_cnt, c_frees, c_ord, c_free)).bind fun y14 =>
some (c_cnt, y14.1, y14.2.1, 0, y14.2.2.1, y14.2.2.2)
set_option maxHeartbeats 8000000 in
set_option maxRecDepth 100000 in
theorem c_Model_clear (l : Launch) (G : zG) (sz : Nat) (a_m a_mfst a_msnd a_mlet a_mmany a_mval a_mord a_mfree a_mcode a_mnext a_mcom a_mmet : Nat) (c_sort : Int32) (c_cnt : Int32) (c_frees : Int32) (c_cur : Int32) (c_thr : Int32) (c_fst : (Nat → Int64)) (c_snd : (Nat → Int64)) (c_let : (Nat → Int32)) (c_many : (Nat → Int32)) (c_val : (Nat → Int64)) (c_ord : (Nat → Int32)) (c_free : (Nat → Int32)) (c_code : (Nat → Int32)) (c_next : (Nat → Int32)) (c_com : (Nat → Int32)) (c_met : (Nat → Int32)) (r0 : (Int32 × Int32 × Int32 × Int32 × (Nat → Int32) × (Nat → Int32))) (hf : f_Model_clear c_cnt c_frees c_thr c_ord c_free = some r0) :
    Met l y_Model_clear (Cond.code y_Model_clear prog_9_method_36_code 3 (some .int) :: lw_ok) { frames := 1, cells := 0, slots := 0, locals := 22 } (zPc G sz [.ref a_m] (wM G a_m a_mfst a_msnd a_mlet a_mmany a_mval a_mord a_mfree a_mcode a_mnext a_mcom a_mmet c_sort c_cnt c_frees c_cur c_thr c_fst c_snd c_let c_many c_val c_ord c_free c_code c_next c_com c_met))
      ((fun (A : Nat → Prop) => va_Qi (fun (r : Int32) (_ : Unit) => r = r0.1) (fun _ t => zB G A (wM G a_m a_mfst a_msnd a_mlet a_mmany a_mval a_mord a_mfree a_mcode a_mnext a_mcom a_mmet c_sort r0.2.1 r0.2.2.1 c_cur r0.2.2.2.1 c_fst c_snd c_let c_many c_val r0.2.2.2.2.1 r0.2.2.2.2.2 c_code c_next c_com c_met) t) A) (va_A (wM G a_m a_mfst a_msnd a_mlet a_mmany a_mval a_mord a_mfree a_mcode a_mnext a_mcom a_mmet c_sort c_cnt c_frees c_cur c_thr c_fst c_snd c_let c_many c_val c_ord c_free c_code c_next c_com c_met) sz)) 0 0 (va_A (wM G a_m a_mfst a_msnd a_mlet a_mmany a_mval a_mord a_mfree a_mcode a_mnext a_mcom a_mmet c_sort c_cnt c_frees c_cur c_thr c_fst c_snd c_let c_many c_val c_ord c_free c_code c_next c_com c_met) sz) := by
  refine zMet (Qc := fun (A : Nat → Prop) => va_Qi (fun (r : Int32) (_ : Unit) => r = r0.1) (fun _ t => zB G A (wM G a_m a_mfst a_msnd a_mlet a_mmany a_mval a_mord a_mfree a_mcode a_mnext a_mcom a_mmet c_sort r0.2.1 r0.2.2.1 c_cur r0.2.2.2.1 c_fst c_snd c_let c_many c_val r0.2.2.2.2.1 r0.2.2.2.2.2 c_code c_next c_com c_met) t) A) (by decide) (Nat.le_of_ble_eq_true rfl) (fun xp xe xs xm xb xme xc A ls Q H locs C hN hK hP hD hS hA hl hQ => ?_)
  obtain ⟨hx, hb, hr, hts, hown, hlocks, hml, hin⟩ := C
  have hl : lv_has ls 3 [(0, .ref a_m)] := hl
  have h := hf
  unfold f_Model_clear at h
  refine lv_aload_n hx hb d_Model_clear_0 rfl (lv_at hl 0 rfl) ?_
  refine lv_iconst (v := 0) hx hb d_Model_clear_1 (by decide) ?_
  refine va_put (D := G.1) (ci := 6) (v := .int 0) (ty := .int) (C := "BranchStoreModel") (T := F_Model) (N := 16) hx hb hts i_Model t_Model t_Model_ok n_Model hown hK hP hD hS 0 rfl rfl 11 (by decide) (hts _ k_781) (fun _ h9 => h9) rfl (by decide +kernel) rfl rfl (Nat.le_of_ble_eq_true rfl) d_Model_clear_2 (fun H locs hP hD hS => ?_)
  have hP : va_P G.1 classes (wM G a_m a_mfst a_msnd a_mlet a_mmany a_mval a_mord a_mfree a_mcode a_mnext a_mcom a_mmet c_sort c_cnt c_frees c_cur 0 c_fst c_snd c_let c_many c_val c_ord c_free c_code c_next c_com c_met) H := hP
  have hD : va_D A (wM G a_m a_mfst a_msnd a_mlet a_mmany a_mval a_mord a_mfree a_mcode a_mnext a_mcom a_mmet c_sort c_cnt c_frees c_cur 0 c_fst c_snd c_let c_many c_val c_ord c_free c_code c_next c_com c_met) := hD
  refine lv_aload_n hx hb d_Model_clear_5 rfl (lv_at hl 0 rfl) ?_
  refine va_get (D := G.1) (ci := 6) (v := .int c_cnt) (C := "BranchStoreModel") (T := F_Model) (N := 16) hx hb hts i_Model hown hK hP 0 rfl rfl 7 (by decide) (hts _ k_777) (fun _ h9 => h9) rfl d_Model_clear_6 ?_
  refine lv_istore_n (lv' := [(1, .int c_cnt), (0, .ref a_m)]) hx hb d_Model_clear_9 rfl hl (by decide) rfl (fun ls hl => ?_)
  refine lv_iconst (v := 0) hx hb d_Model_clear_10 (by decide) ?_
  refine lv_istore_n (lv' := [(2, .int 0), (1, .int c_cnt), (0, .ref a_m)]) hx hb d_Model_clear_11 rfl hl (by decide) rfl (fun ls hl => ?_)
  obtain ⟨y6, hy6, h⟩ := ob h
  have E12 : ∀ (z10 : Int32) (z11 : Int32) (z12 : (Nat → Int32)) (z13 : (Nat → Int32)), (z10, z11, z12, z13) = y6 → ∀ (H : Heap) (locs : List Loc) (ls : Array Slot), va_P G.1 classes (wM G a_m a_mfst a_msnd a_mlet a_mmany a_mval a_mord a_mfree a_mcode a_mnext a_mcom a_mmet c_sort z10 z11 c_cur 0 c_fst c_snd c_let c_many c_val z12 z13 c_code c_next c_com c_met) H → va_D A (wM G a_m a_mfst a_msnd a_mlet a_mmany a_mval a_mord a_mfree a_mcode a_mnext a_mcom a_mmet c_sort z10 z11 c_cur 0 c_fst c_snd c_let c_many c_val z12 z13 c_code c_next c_com c_met) → va_S A xs.heap H locs → lv_has ls 3 [(1, .int c_cnt)] → W xp l xe { frames := 1, cells := 0, slots := 0, locals := 22 } xs xm ([.ref a_m] : List Value).toArray xb xme xc H locs 0 0 Q (F0 xm 33 ls []) := by
    intro z10 z11 z12 z13 ey H locs ls hP hD hS hl
    subst ey
    try dsimp only at h
    refine lv_iload_n hx hb d_Model_clear_33 rfl (lv_at hl 0 rfl) ?_
    obtain rfl := Option.some.inj h
    exact zreti () hQ hS.2.2 hx hb hr hlocks hP hD hS rfl (Nat.le_refl _) (Nat.le_refl _) d_Model_clear_34
  have L12 : ∀ v : (Int32 × Int32 × Int32 × (Nat → Int32) × (Nat → Int32)), lp (fun v => s_Model_clear_12 c_cnt v.1 v.2.1 v.2.2.1 v.2.2.2.1 v.2.2.2.2) v = some y6 → ∀ (H : Heap) (locs : List Loc) (ls : Array Slot), va_P G.1 classes (wM G a_m a_mfst a_msnd a_mlet a_mmany a_mval a_mord a_mfree a_mcode a_mnext a_mcom a_mmet c_sort v.2.1 v.2.2.1 c_cur 0 c_fst c_snd c_let c_many c_val v.2.2.2.1 v.2.2.2.2 c_code c_next c_com c_met) H → va_D A (wM G a_m a_mfst a_msnd a_mlet a_mmany a_mval a_mord a_mfree a_mcode a_mnext a_mcom a_mmet c_sort v.2.1 v.2.2.1 c_cur 0 c_fst c_snd c_let c_many c_val v.2.2.2.1 v.2.2.2.2 c_code c_next c_com c_met) → va_S A xs.heap H locs → lv_has ls 3 [(0, .ref a_m), (1, .int c_cnt), (2, .int v.1)] → W xp l xe { frames := 1, cells := 0, slots := 0, locals := 22 } xs xm ([.ref a_m] : List Value).toArray xb xme xc H locs 0 0 Q (F0 xm 12 ls []) := by
    refine lp_walk _ (fun v x h hc he => ?_)
    obtain ⟨x2_1, c2, c3, c4, c5⟩ := v
    intro H locs ls hP hD hS hl
    have h : s_Model_clear_12 c_cnt x2_1 c2 c3 c4 c5 = some x := h
    unfold s_Model_clear_12 at h
    refine lv_iload_n hx hb d_Model_clear_12 rfl (lv_at hl 2 rfl) ?_
    refine lv_iload_n hx hb d_Model_clear_13 rfl (lv_at hl 1 rfl) ?_
    refine lv_icmp_ge (tgt := 33) hx hb d_Model_clear_14 (by decide) (fun q7 => ?_) (fun q7 => ?_)
    · have h := it h q7
      exact E12 c2 c3 c4 c5 (he _ (Option.some.inj h).symm) H locs ls hP hD hS (lv_sub hl [1] rfl)
    · have h := ie h q7
      refine lv_aload_n hx hb d_Model_clear_17 rfl (lv_at hl 0 rfl) ?_
      refine lv_aload_n hx hb d_Model_clear_18 rfl (lv_at hl 0 rfl) ?_
      refine va_get (D := G.1) (ci := 6) (v := .int c2) (C := "BranchStoreModel") (T := F_Model) (N := 16) hx hb hts i_Model hown hK hP 0 rfl rfl 7 (by decide) (hts _ k_777) (fun _ h9 => h9) rfl d_Model_clear_19 ?_
      refine lv_iconst (v := 1) hx hb d_Model_clear_22 (by decide) ?_
      refine lv_isub hx hb d_Model_clear_23 ?_
      obtain ⟨r8, hr8, h⟩ := ob h
      refine zcallv (wr := []) (w2 := fun _ => (wM G a_m a_mfst a_msnd a_mlet a_mmany a_mval a_mord a_mfree a_mcode a_mnext a_mcom a_mmet c_sort r8.1 r8.2.1 c_cur 0 c_fst c_snd c_let c_many c_val r8.2.2.1 r8.2.2.2 c_code c_next c_com c_met)) (zrunV (As := [.int (c2 - 1)]) (rest := []) ⟨hx, hb, hml, hown, hts⟩ hN hK (c_Model_delete l G H.size a_m a_mfst a_msnd a_mlet a_mmany a_mval a_mord a_mfree a_mcode a_mnext a_mcom a_mmet c_sort c2 c3 c_cur 0 c_fst c_snd c_let c_many c_val c4 c5 c_code c_next c_com c_met (c2 - 1) r8 hr8) ⟨rfl, rfl⟩ kv_Model_95 ⟨Nat.le_of_ble_eq_true rfl, Nat.le_of_ble_eq_true rfl⟩ 0 rfl rfl rfl hl.1 (Nat.le_of_ble_eq_true rfl) d_Model_clear_24 ⟨Nat.le_of_ble_eq_true rfl, Nat.le_of_ble_eq_true rfl⟩) hP hD hS hA [0, 1, 2, 3, 4, 5, 6, 7, 8, 9, 10, 11] [] [0, 1, 2, 3, 4, 5, 6, 7, 8, 9, 10, 11] rfl rfl rfl rfl (by decide) rfl (fun _ => rfl) (fun _ H locs _ hP hD hS => ?_)
      obtain ⟨v9, ev9⟩ : ∃ y : Int32, y = x2_1 + 1 := ⟨_, rfl⟩
      have h := nm_k h v9 ev9
      refine lv_iinc (v := v9) (lv' := [(2, .int v9), (0, .ref a_m), (1, .int c_cnt)]) hx hb d_Model_clear_27 hl (k := 2) rfl (by rw [ev9]; rfl) (by decide) rfl (fun ls hl => ?_)
      refine lv_goto (tgt := 12) hx hb d_Model_clear_30 (by decide) ?_
      exact hc _ (Option.some.inj h).symm H locs ls hP hD hS (lv_sub hl [1, 2, 0] rfl)
  exact L12 _ hy6 _ _ ls hP hD hS (lv_sub hl [2, 1, 0] rfl)
