theorem kv_Law_7 : zKV "BranchStoreLaw" 7 y_Store_number prog_1_method_6_code 3 none 1 := ⟨k_429, k_430, k_431, k_1, k_432, by decide +kernel⟩
noncomputable def f_Law_number (c_sort : Int32) (c_ab : (Nat → Int32)) (c_an : Int32) (c_at : Int32) (p_1 : Int64) : Option ((Int32 × (Nat → Int32) × Int32 × Int32) × Nat) :=
bc (f_Store_number c_sort c_ab c_an c_at p_1) (fun j3 =>
if j3 = 0 then
(some ((1, c_ab, c_an, c_at), 0))
else
(none)) fun r1 =>
some ((0, r1.1, r1.2.1, r1.2.2), 0)
set_option maxHeartbeats 8000000 in
set_option maxRecDepth 100000 in
theorem c_Law_number (l : Launch) (G : zG) (hfl : l.flags = flags0) (sz : Nat) (a_s a_t a_ao a_bo a_uo a_go a_aq : Nat) (c_sort : Int32) (c_set : Int32) (c_ab : (Nat → Int32)) (c_an : Int32) (c_at : Int32) (p_1 : Int64) (r0 : (Int32 × (Nat → Int32) × Int32 × Int32)) (rc : Nat) (hf : f_Law_number c_sort c_ab c_an c_at p_1 = some (r0, rc)) :
    Met l y_Law_number (Cond.codeWith y_Law_number method_3_code 4 (some .int) [(0, 5, 8, 13)] :: lw_ok) { frames := 7, cells := rc, slots := 1024 * rc, locals := 112 } (zPcX G sz [.ref a_s, .long p_1] (wB G a_s a_t a_ao a_bo a_uo a_go c_sort c_set ++ wK G a_ao a_aq c_ab c_an c_at))
      ((fun (A : Nat → Prop) => va_Qi (fun (r : Int32) (_ : Unit) => r = r0.1) (fun _ t => zB G A (wB G a_s a_t a_ao a_bo a_uo a_go c_sort c_set ++ wK G a_ao a_aq r0.2.1 r0.2.2.1 r0.2.2.2) t) A) (va_A (wB G a_s a_t a_ao a_bo a_uo a_go c_sort c_set ++ wK G a_ao a_aq c_ab c_an c_at) sz)) rc (1024 * rc) (va_A (wB G a_s a_t a_ao a_bo a_uo a_go c_sort c_set ++ wK G a_ao a_aq c_ab c_an c_at) sz) := by
  refine zMetW (hh := [(0, 5, 8, 13)]) (Qc := fun (A : Nat → Prop) => va_Qi (fun (r : Int32) (_ : Unit) => r = r0.1) (fun _ t => zB G A (wB G a_s a_t a_ao a_bo a_uo a_go c_sort c_set ++ wK G a_ao a_aq r0.2.1 r0.2.2.1 r0.2.2.2) t) A) (by decide) (Nat.le_of_ble_eq_true rfl) (fun xp xe xs xm xb xme xc A ls Q H locs C hex hTs hnA hN hK hP hD hS hA hl hQ => ?_)
  obtain ⟨hx, hb, hr, hts, hown, hlocks, hml, hin⟩ := C
  have hl : lv_has ls 4 [(0, .ref a_s), (1, .long p_1)] := hl
  have h := hf
  unfold f_Law_number at h
  have hRa : r0 = (r0, rc).1 := rfl
  have hRc : rc = 0 + (r0, rc).2 := (Nat.zero_add _).symm
  refine W.widen (k := 0) (n := 1024 * 0) (Nat.le_refl _) (Nat.le_refl _) ?_
  refine lv_aload_n hx hb d_Law_number_0 rfl (lv_at hl 0 rfl) ?_
  refine lv_lload_n hx hb d_Law_number_1 rfl (lv_at hl 1 rfl) ?_
  rcases bc_k h hRa hRc with ⟨j3, d4, y6, h5, h, hRa, hRc⟩ | ⟨r1, dr1, y2, hr1, h, hRa, hRc⟩
  · by_cases q7 : j3 = 0
    · have h := it h q7
      subst q7
      refine zcatch (As := [.long p_1]) (x := ⟨0, 5, 8, 13⟩) (post := []) hts hN hown hP hS (zrunX (As := [.long p_1]) (rest := []) ⟨hx, hb, hml, hown, hts⟩ hN hTs hnA hS hK (c_Store_number_x l G hfl H.size a_s a_t a_ao a_bo a_uo a_go a_aq c_sort c_set c_ab c_an c_at p_1 0 d4 h5) ⟨rfl, rfl⟩ kv_Law_7 ⟨Nat.le_of_ble_eq_true rfl, Nat.le_of_ble_eq_true rfl⟩ 0 rfl rfl rfl hl.1 (Nat.le_of_ble_eq_true rfl) d_Law_number_2 ⟨by show _ ≤ rc; omega, by show _ ≤ 1024 * rc; omega⟩ (hP.sub [0, 1, 2] rfl) (hD.sub [0, 1, 2] (by decide) rfl)) [] hex (fun z hz => absurd hz List.not_mem_nil) (by decide) (by decide) k_428 k_435 k_434 (fun ra8 H hP hS => ?_)
      refine W.widen (k := 0 + d4) (n := 1024 * (0 + d4)) (by omega) (by omega) ?_
      refine lv_astore_n (lv' := [(3, .ref ra8), (0, .ref a_s), (1, .long p_1)]) hx hb d_Law_number_8 rfl hl (by decide) rfl (fun ls hl => ?_)
      refine lv_iconst (v := 1) hx hb d_Law_number_9 (by decide) ?_
      have ey := Option.some.inj h
      rw [← ey] at hRa hRc
      have hRa : r0 = (1, c_ab, c_an, c_at) := hRa
      have hRc : rc = 0 + d4 + 0 := hRc
      subst hRa
      exact zreti () hQ hS.2.2 hx hb hr hlocks hP hD hS rfl (by omega) (by omega) d_Law_number_10
    have h := ie h q7
    cases h
  refine zcallv (wr := []) (w2 := fun _ => (wB G a_s a_t a_ao a_bo a_uo a_go c_sort c_set ++ wK G a_ao a_aq r1.1 r1.2.1 r1.2.2)) (zrunV (As := [.long p_1]) (rest := []) ⟨hx, hb, hml, hown, hts⟩ hN hK (c_Store_number l G H.size a_s a_t a_ao a_bo a_uo a_go a_aq c_sort c_set c_ab c_an c_at p_1 r1 dr1 hr1) ⟨rfl, rfl⟩ kv_Law_7 ⟨Nat.le_of_ble_eq_true rfl, Nat.le_of_ble_eq_true rfl⟩ 0 rfl rfl rfl hl.1 (Nat.le_of_ble_eq_true rfl) d_Law_number_2 ⟨by show _ ≤ rc; omega, by show _ ≤ 1024 * rc; omega⟩) hP hD hS hA [0, 1, 2] [] [0, 1, 2] rfl rfl rfl rfl (by decide) rfl (fun _ => rfl) (fun _ H locs _ hP hD hS => ?_)
  refine W.widen (k := 0 + dr1) (n := 1024 * (0 + dr1)) (by omega) (by omega) ?_
  refine lv_goto (tgt := 11) hx hb d_Law_number_5 (by decide) ?_
  refine lv_iconst (v := 0) hx hb d_Law_number_11 (by decide) ?_
  have ey := Option.some.inj h
  rw [← ey] at hRa hRc
  have hRa : r0 = (0, r1.1, r1.2.1, r1.2.2) := hRa
  have hRc : rc = 0 + dr1 + 0 := hRc
  subst hRa
  exact zreti () hQ hS.2.2 hx hb hr hlocks hP hD hS rfl (by omega) (by omega) d_Law_number_12

theorem kv_Law_15 : zKV "BranchStoreLaw" 15 y_Store_pair prog_1_method_7_code 5 none 2 := ⟨k_503, k_504, k_505, k_1, k_506, by decide +kernel⟩
noncomputable def f_Law_pair (c_sort : Int32) (c_ab : (Nat → Int32)) (c_an : Int32) (c_at : Int32) (p_1 : Int64) (p_3 : Int64) : Option ((Int32 × (Nat → Int32) × Int32 × Int32) × Nat) :=
bc (f_Store_pair c_sort c_ab c_an c_at p_1 p_3) (fun j3 =>
if j3 = 0 then
(some ((1, c_ab, c_an, c_at), 0))
else
(none)) fun r1 =>
some ((0, r1.1, r1.2.1, r1.2.2), 0)
set_option maxHeartbeats 8000000 in
set_option maxRecDepth 100000 in
theorem c_Law_pair (l : Launch) (G : zG) (hfl : l.flags = flags0) (sz : Nat) (a_s a_t a_ao a_bo a_uo a_go a_aq : Nat) (c_sort : Int32) (c_set : Int32) (c_ab : (Nat → Int32)) (c_an : Int32) (c_at : Int32) (p_1 : Int64) (p_3 : Int64) (r0 : (Int32 × (Nat → Int32) × Int32 × Int32)) (rc : Nat) (hf : f_Law_pair c_sort c_ab c_an c_at p_1 p_3 = some (r0, rc)) :
    Met l y_Law_pair (Cond.codeWith y_Law_pair method_4_code 6 (some .int) [(0, 6, 9, 13)] :: lw_ok) { frames := 7, cells := rc, slots := 1024 * rc, locals := 114 } (zPcX G sz [.ref a_s, .long p_1, .long p_3] (wB G a_s a_t a_ao a_bo a_uo a_go c_sort c_set ++ wK G a_ao a_aq c_ab c_an c_at))
      ((fun (A : Nat → Prop) => va_Qi (fun (r : Int32) (_ : Unit) => r = r0.1) (fun _ t => zB G A (wB G a_s a_t a_ao a_bo a_uo a_go c_sort c_set ++ wK G a_ao a_aq r0.2.1 r0.2.2.1 r0.2.2.2) t) A) (va_A (wB G a_s a_t a_ao a_bo a_uo a_go c_sort c_set ++ wK G a_ao a_aq c_ab c_an c_at) sz)) rc (1024 * rc) (va_A (wB G a_s a_t a_ao a_bo a_uo a_go c_sort c_set ++ wK G a_ao a_aq c_ab c_an c_at) sz) := by
  refine zMetW (hh := [(0, 6, 9, 13)]) (Qc := fun (A : Nat → Prop) => va_Qi (fun (r : Int32) (_ : Unit) => r = r0.1) (fun _ t => zB G A (wB G a_s a_t a_ao a_bo a_uo a_go c_sort c_set ++ wK G a_ao a_aq r0.2.1 r0.2.2.1 r0.2.2.2) t) A) (by decide) (Nat.le_of_ble_eq_true rfl) (fun xp xe xs xm xb xme xc A ls Q H locs C hex hTs hnA hN hK hP hD hS hA hl hQ => ?_)
  obtain ⟨hx, hb, hr, hts, hown, hlocks, hml, hin⟩ := C
  have hl : lv_has ls 6 [(0, .ref a_s), (1, .long p_1), (3, .long p_3)] := hl
  have h := hf
  unfold f_Law_pair at h
  have hRa : r0 = (r0, rc).1 := rfl
  have hRc : rc = 0 + (r0, rc).2 := (Nat.zero_add _).symm
  refine W.widen (k := 0) (n := 1024 * 0) (Nat.le_refl _) (Nat.le_refl _) ?_
  refine lv_aload_n hx hb d_Law_pair_0 rfl (lv_at hl 0 rfl) ?_
  refine lv_lload_n hx hb d_Law_pair_1 rfl (lv_at hl 1 rfl) ?_
  refine lv_lload_n hx hb d_Law_pair_2 rfl (lv_at hl 2 rfl) ?_
  rcases bc_k h hRa hRc with ⟨j3, d4, y6, h5, h, hRa, hRc⟩ | ⟨r1, dr1, y2, hr1, h, hRa, hRc⟩
  · by_cases q7 : j3 = 0
    · have h := it h q7
      subst q7
      refine zcatch (As := [.long p_1, .long p_3]) (x := ⟨0, 6, 9, 13⟩) (post := []) hts hN hown hP hS (zrunX (As := [.long p_1, .long p_3]) (rest := []) ⟨hx, hb, hml, hown, hts⟩ hN hTs hnA hS hK (c_Store_pair_x l G hfl H.size a_s a_t a_ao a_bo a_uo a_go a_aq c_sort c_set c_ab c_an c_at p_1 p_3 0 d4 h5) ⟨rfl, rfl⟩ kv_Law_15 ⟨Nat.le_of_ble_eq_true rfl, Nat.le_of_ble_eq_true rfl⟩ 0 rfl rfl rfl hl.1 (Nat.le_of_ble_eq_true rfl) d_Law_pair_3 ⟨by show _ ≤ rc; omega, by show _ ≤ 1024 * rc; omega⟩ (hP.sub [0, 1, 2] rfl) (hD.sub [0, 1, 2] (by decide) rfl)) [] hex (fun z hz => absurd hz List.not_mem_nil) (by decide) (by decide) k_428 k_435 k_434 (fun ra8 H hP hS => ?_)
      refine W.widen (k := 0 + d4) (n := 1024 * (0 + d4)) (by omega) (by omega) ?_
      refine lv_astore (lv' := [(5, .ref ra8), (0, .ref a_s), (1, .long p_1), (3, .long p_3)]) hx hb d_Law_pair_9 hl (by decide) rfl (fun ls hl => ?_)
      refine lv_iconst (v := 1) hx hb d_Law_pair_11 (by decide) ?_
      have ey := Option.some.inj h
      rw [← ey] at hRa hRc
      have hRa : r0 = (1, c_ab, c_an, c_at) := hRa
      have hRc : rc = 0 + d4 + 0 := hRc
      subst hRa
      exact zreti () hQ hS.2.2 hx hb hr hlocks hP hD hS rfl (by omega) (by omega) d_Law_pair_12
    have h := ie h q7
    cases h
  refine zcallv (wr := []) (w2 := fun _ => (wB G a_s a_t a_ao a_bo a_uo a_go c_sort c_set ++ wK G a_ao a_aq r1.1 r1.2.1 r1.2.2)) (zrunV (As := [.long p_1, .long p_3]) (rest := []) ⟨hx, hb, hml, hown, hts⟩ hN hK (c_Store_pair l G H.size a_s a_t a_ao a_bo a_uo a_go a_aq c_sort c_set c_ab c_an c_at p_1 p_3 r1 dr1 hr1) ⟨rfl, rfl⟩ kv_Law_15 ⟨Nat.le_of_ble_eq_true rfl, Nat.le_of_ble_eq_true rfl⟩ 0 rfl rfl rfl hl.1 (Nat.le_of_ble_eq_true rfl) d_Law_pair_3 ⟨by show _ ≤ rc; omega, by show _ ≤ 1024 * rc; omega⟩) hP hD hS hA [0, 1, 2] [] [0, 1, 2] rfl rfl rfl rfl (by decide) rfl (fun _ => rfl) (fun _ H locs _ hP hD hS => ?_)
  refine W.widen (k := 0 + dr1) (n := 1024 * (0 + dr1)) (by omega) (by omega) ?_
  refine lv_goto (tgt := 13) hx hb d_Law_pair_6 (by decide) ?_
  refine lv_iconst (v := 0) hx hb d_Law_pair_13 (by decide) ?_
  have ey := Option.some.inj h
  rw [← ey] at hRa hRc
  have hRa : r0 = (0, r1.1, r1.2.1, r1.2.2) := hRa
  have hRc : rc = 0 + dr1 + 0 := hRc
  subst hRa
  exact zreti () hQ hS.2.2 hx hb hr hlocks hP hD hS rfl (by omega) (by omega) d_Law_pair_14

theorem kv_Law_19 : zKV "BranchStoreLaw" 19 y_Store_letter prog_1_method_8_code 2 (some .int) 1 := ⟨k_512, k_513, k_514, k_1, k_515, by decide +kernel⟩
noncomputable def f_Law_letter (c_sort : Int32) (c_ab : (Nat → Int32)) (c_an : Int32) (c_at : Int32) (c_out : (Nat → Int64)) (p_1 : Int32) : Option ((Int32 × (Nat → Int32) × Int32 × Int32 × (Nat → Int64)) × Nat) :=
bc (f_Store_letter c_sort c_ab c_an c_at p_1) (fun j3 =>
if j3 = 0 then
(some ((1, c_ab, c_an, c_at, c_out), 0))
else
(if j3 = 1 then
(some ((2, c_ab, c_an, c_at, c_out), 0))
else
(if j3 = 2 then
(some ((3, c_ab, c_an, c_at, c_out), 0))
else
(none)))) fun r1 =>
gi 0 1 <|
nm (vp_updL c_out (0 : Int32).toNatClampNeg r1.1.toInt64) fun c14 =>
some ((0, r1.2.1, r1.2.2.1, r1.2.2.2, c14), 0)
set_option maxHeartbeats 8000000 in
set_option maxRecDepth 100000 in
theorem c_Law_letter (l : Launch) (G : zG) (hfl : l.flags = flags0) (sz : Nat) (a_s a_t a_ao a_bo a_uo a_go a_aq a_out : Nat) (c_sort : Int32) (c_set : Int32) (c_ab : (Nat → Int32)) (c_an : Int32) (c_at : Int32) (c_out : (Nat → Int64)) (p_1 : Int32) (r0 : (Int32 × (Nat → Int32) × Int32 × Int32 × (Nat → Int64))) (rc : Nat) (hf : f_Law_letter c_sort c_ab c_an c_at c_out p_1 = some (r0, rc)) :
    Met l y_Law_letter (Cond.codeWith y_Law_letter method_5_code 4 (some .int) [(0, 9, 12, 13), (0, 9, 15, 23), (0, 9, 18, 25)] :: lw_ok) { frames := 7, cells := rc, slots := 1024 * rc, locals := 111 } (zPcX G sz [.ref a_s, .int p_1, .ref a_out] (wB G a_s a_t a_ao a_bo a_uo a_go c_sort c_set ++ wK G a_ao a_aq c_ab c_an c_at ++ wO G a_out c_out))
      ((fun (A : Nat → Prop) => va_Qi (fun (r : Int32) (_ : Unit) => r = r0.1) (fun _ t => zB G A (wB G a_s a_t a_ao a_bo a_uo a_go c_sort c_set ++ wK G a_ao a_aq r0.2.1 r0.2.2.1 r0.2.2.2.1 ++ wO G a_out r0.2.2.2.2) t) A) (va_A (wB G a_s a_t a_ao a_bo a_uo a_go c_sort c_set ++ wK G a_ao a_aq c_ab c_an c_at ++ wO G a_out c_out) sz)) rc (1024 * rc) (va_A (wB G a_s a_t a_ao a_bo a_uo a_go c_sort c_set ++ wK G a_ao a_aq c_ab c_an c_at ++ wO G a_out c_out) sz) := by
  refine zMetW (hh := [(0, 9, 12, 13), (0, 9, 15, 23), (0, 9, 18, 25)]) (Qc := fun (A : Nat → Prop) => va_Qi (fun (r : Int32) (_ : Unit) => r = r0.1) (fun _ t => zB G A (wB G a_s a_t a_ao a_bo a_uo a_go c_sort c_set ++ wK G a_ao a_aq r0.2.1 r0.2.2.1 r0.2.2.2.1 ++ wO G a_out r0.2.2.2.2) t) A) (by decide) (Nat.le_of_ble_eq_true rfl) (fun xp xe xs xm xb xme xc A ls Q H locs C hex hTs hnA hN hK hP hD hS hA hl hQ => ?_)
  obtain ⟨hx, hb, hr, hts, hown, hlocks, hml, hin⟩ := C
  have hl : lv_has ls 4 [(0, .ref a_s), (1, .int p_1), (2, .ref a_out)] := hl
  have h := hf
  unfold f_Law_letter at h
  have hRa : r0 = (r0, rc).1 := rfl
  have hRc : rc = 0 + (r0, rc).2 := (Nat.zero_add _).symm
  refine W.widen (k := 0) (n := 1024 * 0) (Nat.le_refl _) (Nat.le_refl _) ?_
  refine lv_aload_n hx hb d_Law_letter_0 rfl (lv_at hl 2 rfl) ?_
  refine lv_iconst (v := 0) hx hb d_Law_letter_1 (by decide) ?_
  refine lv_aload_n hx hb d_Law_letter_2 rfl (lv_at hl 0 rfl) ?_
  refine lv_iload_n hx hb d_Law_letter_3 rfl (lv_at hl 1 rfl) ?_
  rcases bc_k h hRa hRc with ⟨j3, d4, y6, h5, h, hRa, hRc⟩ | ⟨r1, dr1, y2, hr1, h, hRa, hRc⟩
  · by_cases q7 : j3 = 0
    · have h := it h q7
      subst q7
      refine zcatch (As := [.int p_1]) (x := ⟨0, 9, 12, 13⟩) (post := [⟨0, 9, 15, 23⟩, ⟨0, 9, 18, 25⟩]) hts hN hown hP hS (zrunX (As := [.int p_1]) (rest := [.int 0, .ref a_out]) ⟨hx, hb, hml, hown, hts⟩ hN hTs hnA hS hK (c_Store_letter_x l G hfl H.size a_s a_t a_ao a_bo a_uo a_go a_aq c_sort c_set c_ab c_an c_at p_1 0 d4 h5) ⟨rfl, rfl⟩ kv_Law_19 ⟨Nat.le_of_ble_eq_true rfl, Nat.le_of_ble_eq_true rfl⟩ 0 rfl rfl rfl hl.1 (Nat.le_of_ble_eq_true rfl) d_Law_letter_4 ⟨by show _ ≤ rc; omega, by show _ ≤ 1024 * rc; omega⟩ (hP.sub [0, 1, 2] rfl) (hD.sub [0, 1, 2] (by decide) rfl)) [] hex (fun z hz => absurd hz List.not_mem_nil) (by decide) (by decide) k_428 k_435 k_434 (fun ra8 H hP hS => ?_)
      refine W.widen (k := 0 + d4) (n := 1024 * (0 + d4)) (by omega) (by omega) ?_
      refine lv_astore_n (lv' := [(3, .ref ra8), (0, .ref a_s), (1, .int p_1), (2, .ref a_out)]) hx hb d_Law_letter_12 rfl hl (by decide) rfl (fun ls hl => ?_)
      refine lv_iconst (v := 1) hx hb d_Law_letter_13 (by decide) ?_
      have ey := Option.some.inj h
      rw [← ey] at hRa hRc
      have hRa : r0 = (1, c_ab, c_an, c_at, c_out) := hRa
      have hRc : rc = 0 + d4 + 0 := hRc
      subst hRa
      exact zreti () hQ hS.2.2 hx hb hr hlocks hP hD hS rfl (by omega) (by omega) d_Law_letter_14
    have h := ie h q7
    by_cases q9 : j3 = 1
    · have h := it h q9
      subst q9
      refine zcatch (As := [.int p_1]) (x := ⟨0, 9, 15, 23⟩) (post := [⟨0, 9, 18, 25⟩]) hts hN hown hP hS (zrunX (As := [.int p_1]) (rest := [.int 0, .ref a_out]) ⟨hx, hb, hml, hown, hts⟩ hN hTs hnA hS hK (c_Store_letter_x l G hfl H.size a_s a_t a_ao a_bo a_uo a_go a_aq c_sort c_set c_ab c_an c_at p_1 1 d4 h5) ⟨rfl, rfl⟩ kv_Law_19 ⟨Nat.le_of_ble_eq_true rfl, Nat.le_of_ble_eq_true rfl⟩ 0 rfl rfl rfl hl.1 (Nat.le_of_ble_eq_true rfl) d_Law_letter_4 ⟨by show _ ≤ rc; omega, by show _ ≤ 1024 * rc; omega⟩ (hP.sub [0, 1, 2] rfl) (hD.sub [0, 1, 2] (by decide) rfl)) [⟨0, 9, 12, 13⟩] hex (fun z hz => by
        simp only [List.mem_cons, List.not_mem_nil, or_false] at hz
        rcases hz with rfl
        · exact ⟨by decide, by decide, _, k_428, hTs.2.2.2.2.1⟩) (by decide) (by decide) k_510 k_518 k_517 (fun ra10 H hP hS => ?_)
      refine W.widen (k := 0 + d4) (n := 1024 * (0 + d4)) (by omega) (by omega) ?_
      refine lv_astore_n (lv' := [(3, .ref ra10), (0, .ref a_s), (1, .int p_1), (2, .ref a_out)]) hx hb d_Law_letter_15 rfl hl (by decide) rfl (fun ls hl => ?_)
      refine lv_iconst (v := 2) hx hb d_Law_letter_16 (by decide) ?_
      have ey := Option.some.inj h
      rw [← ey] at hRa hRc
      have hRa : r0 = (2, c_ab, c_an, c_at, c_out) := hRa
      have hRc : rc = 0 + d4 + 0 := hRc
      subst hRa
      exact zreti () hQ hS.2.2 hx hb hr hlocks hP hD hS rfl (by omega) (by omega) d_Law_letter_17
    have h := ie h q9
    by_cases q11 : j3 = 2
    · have h := it h q11
      subst q11
      refine zcatch (As := [.int p_1]) (x := ⟨0, 9, 18, 25⟩) (post := []) hts hN hown hP hS (zrunX (As := [.int p_1]) (rest := [.int 0, .ref a_out]) ⟨hx, hb, hml, hown, hts⟩ hN hTs hnA hS hK (c_Store_letter_x l G hfl H.size a_s a_t a_ao a_bo a_uo a_go a_aq c_sort c_set c_ab c_an c_at p_1 2 d4 h5) ⟨rfl, rfl⟩ kv_Law_19 ⟨Nat.le_of_ble_eq_true rfl, Nat.le_of_ble_eq_true rfl⟩ 0 rfl rfl rfl hl.1 (Nat.le_of_ble_eq_true rfl) d_Law_letter_4 ⟨by show _ ≤ rc; omega, by show _ ≤ 1024 * rc; omega⟩ (hP.sub [0, 1, 2] rfl) (hD.sub [0, 1, 2] (by decide) rfl)) [⟨0, 9, 12, 13⟩, ⟨0, 9, 15, 23⟩] hex (fun z hz => by
        simp only [List.mem_cons, List.not_mem_nil, or_false] at hz
        rcases hz with rfl | rfl
        · exact ⟨by decide, by decide, _, k_428, hTs.2.2.2.2.2.1⟩
        · exact ⟨by decide, by decide, _, k_510, hTs.2.2.2.2.2.2.1⟩) (by decide) (by decide) k_511 k_533 k_532 (fun ra12 H hP hS => ?_)
      refine W.widen (k := 0 + d4) (n := 1024 * (0 + d4)) (by omega) (by omega) ?_
      refine lv_astore_n (lv' := [(3, .ref ra12), (0, .ref a_s), (1, .int p_1), (2, .ref a_out)]) hx hb d_Law_letter_18 rfl hl (by decide) rfl (fun ls hl => ?_)
      refine lv_iconst (v := 3) hx hb d_Law_letter_19 (by decide) ?_
      have ey := Option.some.inj h
      rw [← ey] at hRa hRc
      have hRa : r0 = (3, c_ab, c_an, c_at, c_out) := hRa
      have hRc : rc = 0 + d4 + 0 := hRc
      subst hRa
      exact zreti () hQ hS.2.2 hx hb hr hlocks hP hD hS rfl (by omega) (by omega) d_Law_letter_20
    have h := ie h q11
    cases h
  refine zcalli (wr := [(a_out, .inl (G.2.2.2, 1, .inr (.inl c_out)))]) (w2 := fun _ => (wB G a_s a_t a_ao a_bo a_uo a_go c_sort c_set ++ wK G a_ao a_aq r1.2.1 r1.2.2.1 r1.2.2.2 ++ wO G a_out c_out)) (zrunV (As := [.int p_1]) (rest := [.int 0, .ref a_out]) ⟨hx, hb, hml, hown, hts⟩ hN hK (c_Store_letter l G H.size a_s a_t a_ao a_bo a_uo a_go a_aq c_sort c_set c_ab c_an c_at p_1 r1 dr1 hr1) ⟨rfl, rfl⟩ kv_Law_19 ⟨Nat.le_of_ble_eq_true rfl, Nat.le_of_ble_eq_true rfl⟩ 0 rfl rfl rfl hl.1 (Nat.le_of_ble_eq_true rfl) d_Law_letter_4 ⟨by show _ ≤ rc; omega, by show _ ≤ 1024 * rc; omega⟩) hP hD hS hA [0, 1, 2] [3] [1, 2, 3, 0] rfl rfl rfl rfl (by decide) rfl (fun _ => rfl) (fun rr _ H locs hw hP hD hS => ?_)
  refine W.widen (k := 0 + dr1) (n := 1024 * (0 + dr1)) (by omega) (by omega) ?_
  have hw := hw.symm
  subst hw
  refine lv_i2l (v := r1.1.toInt64) hx hb d_Law_letter_7 rfl ?_
  obtain ⟨h13, h⟩ := gi_k h
  refine va_last hx hb hK hP hD hS 3 2 rfl rfl h13 d_Law_letter_8 (fun H locs hP hD hS => ?_)
  obtain ⟨c14, ec14⟩ : ∃ y, y = vp_updL c_out (0 : Int32).toNatClampNeg r1.1.toInt64 := ⟨_, rfl⟩
  have h := nm_k h c14 ec14
  have hP : va_P G.1 classes (wB G a_s a_t a_ao a_bo a_uo a_go c_sort c_set ++ wK G a_ao a_aq r1.2.1 r1.2.2.1 r1.2.2.2 ++ wO G a_out c14) H := by rw [ec14]; exact hP
  have hD : va_D A (wB G a_s a_t a_ao a_bo a_uo a_go c_sort c_set ++ wK G a_ao a_aq r1.2.1 r1.2.2.1 r1.2.2.2 ++ wO G a_out c14) := by rw [ec14]; exact hD
  refine lv_goto (tgt := 21) hx hb d_Law_letter_9 (by decide) ?_
  refine lv_iconst (v := 0) hx hb d_Law_letter_21 (by decide) ?_
  have ey := Option.some.inj h
  rw [← ey] at hRa hRc
  have hRa : r0 = (0, r1.2.1, r1.2.2.1, r1.2.2.2, c14) := hRa
  have hRc : rc = 0 + dr1 + 0 := hRc
  subst hRa
  exact zreti () hQ hS.2.2 hx hb hr hlocks hP hD hS rfl (by omega) (by omega) d_Law_letter_22

theorem kv_Law_27 : zKV "BranchStoreLaw" 27 y_Store_take prog_1_method_11_code 1 none 0 := ⟨k_554, k_555, k_556, k_1, k_557, by decide +kernel⟩
noncomputable def f_Law_take (c_set : Int32) (c_ab : (Nat → Int32)) (c_an : Int32) (c_at : Int32) (c_ub : (Nat → Int32)) (c_un : Int32) (c_ut : Int32)  : Option ((Int32 × (Nat → Int32) × Int32 × Int32) × Nat) :=
bc (f_Store_take c_set c_ab c_an c_at c_ub c_un c_ut) (fun j3 =>
if j3 = 3 then
(some ((1, c_ab, c_an, c_at), 0))
else
(none)) fun r1 =>
some ((0, r1.1, r1.2.1, r1.2.2), 0)
set_option maxHeartbeats 8000000 in
set_option maxRecDepth 100000 in
theorem c_Law_take (l : Launch) (G : zG) (hfl : l.flags = flags0) (sz : Nat) (a_s a_t a_ao a_bo a_uo a_go a_aq a_uq : Nat) (c_sort : Int32) (c_set : Int32) (c_ab : (Nat → Int32)) (c_an : Int32) (c_at : Int32) (c_ub : (Nat → Int32)) (c_un : Int32) (c_ut : Int32) (r0 : (Int32 × (Nat → Int32) × Int32 × Int32)) (rc : Nat) (hf : f_Law_take c_set c_ab c_an c_at c_ub c_un c_ut = some (r0, rc)) :
    Met l y_Law_take (Cond.codeWith y_Law_take method_6_code 2 (some .int) [(0, 4, 7, 30)] :: lw_ok) { frames := 7, cells := rc, slots := 1024 * rc, locals := 110 } (zPcX G sz [.ref a_s] (wB G a_s a_t a_ao a_bo a_uo a_go c_sort c_set ++ wK G a_ao a_aq c_ab c_an c_at ++ wK G a_uo a_uq c_ub c_un c_ut))
      ((fun (A : Nat → Prop) => va_Qi (fun (r : Int32) (_ : Unit) => r = r0.1) (fun _ t => zB G A (wB G a_s a_t a_ao a_bo a_uo a_go c_sort c_set ++ wK G a_ao a_aq r0.2.1 r0.2.2.1 r0.2.2.2 ++ wK G a_uo a_uq c_ub c_un c_ut) t) A) (va_A (wB G a_s a_t a_ao a_bo a_uo a_go c_sort c_set ++ wK G a_ao a_aq c_ab c_an c_at ++ wK G a_uo a_uq c_ub c_un c_ut) sz)) rc (1024 * rc) (va_A (wB G a_s a_t a_ao a_bo a_uo a_go c_sort c_set ++ wK G a_ao a_aq c_ab c_an c_at ++ wK G a_uo a_uq c_ub c_un c_ut) sz) := by
  refine zMetW (hh := [(0, 4, 7, 30)]) (Qc := fun (A : Nat → Prop) => va_Qi (fun (r : Int32) (_ : Unit) => r = r0.1) (fun _ t => zB G A (wB G a_s a_t a_ao a_bo a_uo a_go c_sort c_set ++ wK G a_ao a_aq r0.2.1 r0.2.2.1 r0.2.2.2 ++ wK G a_uo a_uq c_ub c_un c_ut) t) A) (by decide) (Nat.le_of_ble_eq_true rfl) (fun xp xe xs xm xb xme xc A ls Q H locs C hex hTs hnA hN hK hP hD hS hA hl hQ => ?_)
  obtain ⟨hx, hb, hr, hts, hown, hlocks, hml, hin⟩ := C
  have hl : lv_has ls 2 [(0, .ref a_s)] := hl
  have h := hf
  unfold f_Law_take at h
  have hRa : r0 = (r0, rc).1 := rfl
  have hRc : rc = 0 + (r0, rc).2 := (Nat.zero_add _).symm
  refine W.widen (k := 0) (n := 1024 * 0) (Nat.le_refl _) (Nat.le_refl _) ?_
  refine lv_aload_n hx hb d_Law_take_0 rfl (lv_at hl 0 rfl) ?_
  rcases bc_k h hRa hRc with ⟨j3, d4, y6, h5, h, hRa, hRc⟩ | ⟨r1, dr1, y2, hr1, h, hRa, hRc⟩
  · by_cases q7 : j3 = 3
    · have h := it h q7
      subst q7
      refine zcatch (As := []) (x := ⟨0, 4, 7, 30⟩) (post := []) hts hN hown hP hS (zrunX (As := []) (rest := []) ⟨hx, hb, hml, hown, hts⟩ hN hTs hnA hS hK (c_Store_take_x l G hfl H.size a_s a_t a_ao a_bo a_uo a_go a_aq a_uq c_sort c_set c_ab c_an c_at c_ub c_un c_ut 3 d4 h5) ⟨rfl, rfl⟩ kv_Law_27 ⟨Nat.le_of_ble_eq_true rfl, Nat.le_of_ble_eq_true rfl⟩ 0 rfl rfl rfl hl.1 (Nat.le_of_ble_eq_true rfl) d_Law_take_1 ⟨by show _ ≤ rc; omega, by show _ ≤ 1024 * rc; omega⟩ (hP.sub [0, 1, 2, 3, 4] rfl) (hD.sub [0, 1, 2, 3, 4] (by decide) rfl)) [] hex (fun z hz => absurd hz List.not_mem_nil) (by decide) (by decide) k_553 k_560 k_559 (fun ra8 H hP hS => ?_)
      refine W.widen (k := 0 + d4) (n := 1024 * (0 + d4)) (by omega) (by omega) ?_
      refine lv_astore_n (lv' := [(1, .ref ra8), (0, .ref a_s)]) hx hb d_Law_take_7 rfl hl (by decide) rfl (fun ls hl => ?_)
      refine lv_iconst (v := 1) hx hb d_Law_take_8 (by decide) ?_
      have ey := Option.some.inj h
      rw [← ey] at hRa hRc
      have hRa : r0 = (1, c_ab, c_an, c_at) := hRa
      have hRc : rc = 0 + d4 + 0 := hRc
      subst hRa
      exact zreti () hQ hS.2.2 hx hb hr hlocks hP hD hS rfl (by omega) (by omega) d_Law_take_9
    have h := ie h q7
    cases h
  refine zcallv (wr := []) (w2 := fun _ => (wB G a_s a_t a_ao a_bo a_uo a_go c_sort c_set ++ wK G a_ao a_aq r1.1 r1.2.1 r1.2.2 ++ wK G a_uo a_uq c_ub c_un c_ut)) (zrunV (As := []) (rest := []) ⟨hx, hb, hml, hown, hts⟩ hN hK (c_Store_take l G H.size a_s a_t a_ao a_bo a_uo a_go a_aq a_uq c_sort c_set c_ab c_an c_at c_ub c_un c_ut r1 dr1 hr1) ⟨rfl, rfl⟩ kv_Law_27 ⟨Nat.le_of_ble_eq_true rfl, Nat.le_of_ble_eq_true rfl⟩ 0 rfl rfl rfl hl.1 (Nat.le_of_ble_eq_true rfl) d_Law_take_1 ⟨by show _ ≤ rc; omega, by show _ ≤ 1024 * rc; omega⟩) hP hD hS hA [0, 1, 2, 3, 4] [] [0, 1, 2, 3, 4] rfl rfl rfl rfl (by decide) rfl (fun _ => rfl) (fun _ H locs _ hP hD hS => ?_)
  refine W.widen (k := 0 + dr1) (n := 1024 * (0 + dr1)) (by omega) (by omega) ?_
  refine lv_goto (tgt := 10) hx hb d_Law_take_4 (by decide) ?_
  refine lv_iconst (v := 0) hx hb d_Law_take_10 (by decide) ?_
  have ey := Option.some.inj h
  rw [← ey] at hRa hRc
  have hRa : r0 = (0, r1.1, r1.2.1, r1.2.2) := hRa
  have hRc : rc = 0 + dr1 + 0 := hRc
  subst hRa
  exact zreti () hQ hS.2.2 hx hb hr hlocks hP hD hS rfl (by omega) (by omega) d_Law_take_11

theorem kv_Law_32 : zKV "BranchStoreLaw" 32 y_Store_put prog_1_method_12_code 4 (some .boolean) 1 := ⟨k_576, k_577, k_578, k_1, k_579, by decide +kernel⟩
noncomputable def f_Law_put (c_c : (Nat → Int32)) (c_cl : Nat) (c_en : Int32) (c_rt : Int32) (c_fr : (Nat → Int32)) (c_br : (Nat → Int32)) (c_ab : (Nat → Int32)) (c_an : Int32) (c_at : Int32) (c_out : (Nat → Int64)) (p_1 : Int64) : Option ((Int32 × (Nat → Int32) × Nat × Int32 × Int32 × (Nat → Int32) × (Nat → Int32) × (Nat → Int64)) × Nat) :=
bc (f_Store_put c_c c_cl c_en c_rt c_fr c_br c_ab c_an c_at p_1) (fun j3 =>
if j3 = 2 then
(some ((1, c_c, c_cl, c_en, c_rt, c_fr, c_br, c_out), 0))
else
(none)) fun r1 =>
(if r1.1 = 0 then
(some 0)
else
(some 1)).bind fun y14 =>
gi 0 1 <|
nm (vp_updL c_out (0 : Int32).toNatClampNeg y14) fun c17 =>
some ((0, r1.2.1, r1.2.2.1, r1.2.2.2.1, r1.2.2.2.2.1, r1.2.2.2.2.2.1, r1.2.2.2.2.2.2, c17), 0)
set_option maxHeartbeats 8000000 in
set_option maxRecDepth 100000 in
theorem c_Law_put (l : Launch) (G : zG) (hfl : l.flags = flags0) (sz : Nat) (a_s a_t a_ao a_bo a_uo a_go a_c a_mv a_fr a_br a_e0 a_e1 a_e2 a_e3 a_lo a_ho a_aq a_out : Nat) (c_sort : Int32) (c_set : Int32) (c_c : (Nat → Int32)) (c_cl : Nat) (c_mv : (Nat → Int32)) (c_ml : Nat) (c_en : Int32) (c_rt : Int32) (c_fr : (Nat → Int32)) (c_br : (Nat → Int32)) (c_fi : Int64) (c_st : Int64) (c_vz : Int64) (c_ab : (Nat → Int32)) (c_an : Int32) (c_at : Int32) (c_out : (Nat → Int64)) (p_1 : Int64) (r0 : (Int32 × (Nat → Int32) × Nat × Int32 × Int32 × (Nat → Int32) × (Nat → Int32) × (Nat → Int64))) (rc : Nat) (hf : f_Law_put c_c c_cl c_en c_rt c_fr c_br c_ab c_an c_at c_out p_1 = some (r0, rc)) :
    Met l y_Law_put (Cond.codeWith y_Law_put method_7_code 5 (some .int) [(0, 16, 19, 25)] :: lw_ok) { frames := 8, cells := rc, slots := 1024 * rc, locals := 211 } (zPcX G sz [.ref a_s, .long p_1, .ref a_out] (wB G a_s a_t a_ao a_bo a_uo a_go c_sort c_set ++ wT G a_t a_c a_mv a_fr a_br a_e0 a_e1 a_e2 a_e3 a_lo a_ho c_c c_cl c_mv c_ml c_en c_rt c_fr c_br c_fi c_st c_vz ++ wK G a_ao a_aq c_ab c_an c_at ++ wO G a_out c_out))
      ((fun (A : Nat → Prop) => va_Qi (fun (r : Int32) (u : Nat × Nat) => r = r0.1) (fun u t => zB G A (wB G a_s a_t a_ao a_bo a_uo a_go c_sort c_set ++ wT G a_t u.1 u.2 a_fr a_br a_e0 a_e1 a_e2 a_e3 a_lo a_ho r0.2.1 r0.2.2.1 c_mv c_ml r0.2.2.2.1 r0.2.2.2.2.1 r0.2.2.2.2.2.1 r0.2.2.2.2.2.2.1 c_fi c_st c_vz ++ wK G a_ao a_aq c_ab c_an c_at ++ wO G a_out r0.2.2.2.2.2.2.2) t) A) (va_A (wB G a_s a_t a_ao a_bo a_uo a_go c_sort c_set ++ wT G a_t a_c a_mv a_fr a_br a_e0 a_e1 a_e2 a_e3 a_lo a_ho c_c c_cl c_mv c_ml c_en c_rt c_fr c_br c_fi c_st c_vz ++ wK G a_ao a_aq c_ab c_an c_at ++ wO G a_out c_out) sz)) rc (1024 * rc) (va_A (wB G a_s a_t a_ao a_bo a_uo a_go c_sort c_set ++ wT G a_t a_c a_mv a_fr a_br a_e0 a_e1 a_e2 a_e3 a_lo a_ho c_c c_cl c_mv c_ml c_en c_rt c_fr c_br c_fi c_st c_vz ++ wK G a_ao a_aq c_ab c_an c_at ++ wO G a_out c_out) sz) := by
  refine zMetW (hh := [(0, 16, 19, 25)]) (Qc := fun (A : Nat → Prop) => va_Qi (fun (r : Int32) (u : Nat × Nat) => r = r0.1) (fun u t => zB G A (wB G a_s a_t a_ao a_bo a_uo a_go c_sort c_set ++ wT G a_t u.1 u.2 a_fr a_br a_e0 a_e1 a_e2 a_e3 a_lo a_ho r0.2.1 r0.2.2.1 c_mv c_ml r0.2.2.2.1 r0.2.2.2.2.1 r0.2.2.2.2.2.1 r0.2.2.2.2.2.2.1 c_fi c_st c_vz ++ wK G a_ao a_aq c_ab c_an c_at ++ wO G a_out r0.2.2.2.2.2.2.2) t) A) (by decide) (Nat.le_of_ble_eq_true rfl) (fun xp xe xs xm xb xme xc A ls Q H locs C hex hTs hnA hN hK hP hD hS hA hl hQ => ?_)
  obtain ⟨hx, hb, hr, hts, hown, hlocks, hml, hin⟩ := C
  have hl : lv_has ls 5 [(0, .ref a_s), (1, .long p_1), (3, .ref a_out)] := hl
  have h := hf
  unfold f_Law_put at h
  have hRa : r0 = (r0, rc).1 := rfl
  have hRc : rc = 0 + (r0, rc).2 := (Nat.zero_add _).symm
  refine W.widen (k := 0) (n := 1024 * 0) (Nat.le_refl _) (Nat.le_refl _) ?_
  refine lv_aload_n hx hb d_Law_put_0 rfl (lv_at hl 2 rfl) ?_
  refine lv_iconst (v := 0) hx hb d_Law_put_1 (by decide) ?_
  refine lv_aload_n hx hb d_Law_put_2 rfl (lv_at hl 0 rfl) ?_
  refine lv_lload_n hx hb d_Law_put_3 rfl (lv_at hl 1 rfl) ?_
  rcases bc_k h hRa hRc with ⟨j3, d4, y6, h5, h, hRa, hRc⟩ | ⟨r1, dr1, y2, hr1, h, hRa, hRc⟩
  · by_cases q7 : j3 = 2
    · have h := it h q7
      subst q7
      refine zcatch (As := [.long p_1]) (x := ⟨0, 16, 19, 25⟩) (post := []) hts hN hown hP hS (zrunX (As := [.long p_1]) (rest := [.int 0, .ref a_out]) ⟨hx, hb, hml, hown, hts⟩ hN hTs hnA hS hK (c_Store_put_x l G hfl H.size a_s a_t a_ao a_bo a_uo a_go a_c a_mv a_fr a_br a_e0 a_e1 a_e2 a_e3 a_lo a_ho a_aq c_sort c_set c_c c_cl c_mv c_ml c_en c_rt c_fr c_br c_fi c_st c_vz c_ab c_an c_at p_1 2 d4 h5) ⟨rfl, rfl⟩ kv_Law_32 ⟨Nat.le_of_ble_eq_true rfl, Nat.le_of_ble_eq_true rfl⟩ 0 rfl rfl rfl hl.1 (Nat.le_of_ble_eq_true rfl) d_Law_put_4 ⟨by show _ ≤ rc; omega, by show _ ≤ 1024 * rc; omega⟩ (hP.sub [0, 1, 2, 3, 4, 5, 6, 7, 8, 9, 10, 11] rfl) (hD.sub [0, 1, 2, 3, 4, 5, 6, 7, 8, 9, 10, 11] (by decide) rfl)) [] hex (fun z hz => absurd hz List.not_mem_nil) (by decide) (by decide) k_511 k_533 k_532 (fun ra8 H hP hS => ?_)
      refine W.widen (k := 0 + d4) (n := 1024 * (0 + d4)) (by omega) (by omega) ?_
      refine lv_astore (lv' := [(4, .ref ra8), (0, .ref a_s), (1, .long p_1), (3, .ref a_out)]) hx hb d_Law_put_19 hl (by decide) rfl (fun ls hl => ?_)
      refine lv_iconst (v := 1) hx hb d_Law_put_21 (by decide) ?_
      have ey := Option.some.inj h
      rw [← ey] at hRa hRc
      have hRa : r0 = (1, c_c, c_cl, c_en, c_rt, c_fr, c_br, c_out) := hRa
      have hRc : rc = 0 + d4 + 0 := hRc
      subst hRa
      exact zreti (a_c, a_mv) hQ hS.2.2 hx hb hr hlocks hP hD hS rfl (by omega) (by omega) d_Law_put_22
    have h := ie h q7
    cases h
  refine zcalli (wr := [(a_out, .inl (G.2.2.2, 1, .inr (.inl c_out)))]) (w2 := fun (u9 : Nat × Nat) => (wB G a_s a_t a_ao a_bo a_uo a_go c_sort c_set ++ wT G a_t u9.1 u9.2 a_fr a_br a_e0 a_e1 a_e2 a_e3 a_lo a_ho r1.2.1 r1.2.2.1 c_mv c_ml r1.2.2.2.1 r1.2.2.2.2.1 r1.2.2.2.2.2.1 r1.2.2.2.2.2.2 c_fi c_st c_vz ++ wK G a_ao a_aq c_ab c_an c_at ++ wO G a_out c_out)) (zrunV (As := [.long p_1]) (rest := [.int 0, .ref a_out]) ⟨hx, hb, hml, hown, hts⟩ hN hK (c_Store_put l G H.size a_s a_t a_ao a_bo a_uo a_go a_c a_mv a_fr a_br a_e0 a_e1 a_e2 a_e3 a_lo a_ho a_aq c_sort c_set c_c c_cl c_mv c_ml c_en c_rt c_fr c_br c_fi c_st c_vz c_ab c_an c_at p_1 r1 dr1 hr1) ⟨rfl, rfl⟩ kv_Law_32 ⟨Nat.le_of_ble_eq_true rfl, Nat.le_of_ble_eq_true rfl⟩ 0 rfl rfl rfl hl.1 (Nat.le_of_ble_eq_true rfl) d_Law_put_4 ⟨by show _ ≤ rc; omega, by show _ ≤ 1024 * rc; omega⟩) hP hD hS hA [0, 1, 2, 3, 4, 5, 6, 7, 8, 9, 10, 11] [12] [1, 2, 3, 4, 5, 6, 7, 8, 9, 10, 11, 12, 0] rfl rfl rfl rfl (by decide) rfl (fun _ => rfl) (fun rr u9 H locs hw hP hD hS => ?_)
  refine W.widen (k := 0 + dr1) (n := 1024 * (0 + dr1)) (by omega) (by omega) ?_
  obtain ⟨hw, hz10⟩ := hw
  have hw := hw.symm
  subst hw
  obtain ⟨y13, hy13, h⟩ := ob h
  have J15 : ∀ (z15 : Int64), z15 = y13 → ∀ (H : Heap) (locs : List Loc) (ls : Array Slot), va_P G.1 classes (wB G a_s a_t a_ao a_bo a_uo a_go c_sort c_set ++ wT G a_t u9.1 u9.2 a_fr a_br a_e0 a_e1 a_e2 a_e3 a_lo a_ho r1.2.1 r1.2.2.1 c_mv c_ml r1.2.2.2.1 r1.2.2.2.2.1 r1.2.2.2.2.2.1 r1.2.2.2.2.2.2 c_fi c_st c_vz ++ wK G a_ao a_aq c_ab c_an c_at ++ wO G a_out c_out) H → va_D A (wB G a_s a_t a_ao a_bo a_uo a_go c_sort c_set ++ wT G a_t u9.1 u9.2 a_fr a_br a_e0 a_e1 a_e2 a_e3 a_lo a_ho r1.2.1 r1.2.2.1 c_mv c_ml r1.2.2.2.1 r1.2.2.2.2.1 r1.2.2.2.2.2.1 r1.2.2.2.2.2.2 c_fi c_st c_vz ++ wK G a_ao a_aq c_ab c_an c_at ++ wO G a_out c_out) → va_S A xs.heap H locs → lv_has ls 5 [] → W xp l xe { frames := 8, cells := rc, slots := 1024 * rc, locals := 211 } xs xm ([.ref a_s, .long p_1, .ref a_out] : List Value).toArray xb xme xc H locs (0 + dr1) (1024 * (0 + dr1)) Q (F0 xm 15 ls [.long z15, .int 0, .ref a_out]) := by
    intro z15 ey H locs ls hP hD hS hl
    subst ey
    try dsimp only at h
    obtain ⟨h16, h⟩ := gi_k h
    refine va_last hx hb hK hP hD hS 12 2 rfl rfl h16 d_Law_put_15 (fun H locs hP hD hS => ?_)
    obtain ⟨c17, ec17⟩ : ∃ y, y = vp_updL c_out (0 : Int32).toNatClampNeg z15 := ⟨_, rfl⟩
    have h := nm_k h c17 ec17
    have hP : va_P G.1 classes (wB G a_s a_t a_ao a_bo a_uo a_go c_sort c_set ++ wT G a_t u9.1 u9.2 a_fr a_br a_e0 a_e1 a_e2 a_e3 a_lo a_ho r1.2.1 r1.2.2.1 c_mv c_ml r1.2.2.2.1 r1.2.2.2.2.1 r1.2.2.2.2.2.1 r1.2.2.2.2.2.2 c_fi c_st c_vz ++ wK G a_ao a_aq c_ab c_an c_at ++ wO G a_out c17) H := by rw [ec17]; exact hP
    have hD : va_D A (wB G a_s a_t a_ao a_bo a_uo a_go c_sort c_set ++ wT G a_t u9.1 u9.2 a_fr a_br a_e0 a_e1 a_e2 a_e3 a_lo a_ho r1.2.1 r1.2.2.1 c_mv c_ml r1.2.2.2.1 r1.2.2.2.2.1 r1.2.2.2.2.2.1 r1.2.2.2.2.2.2 c_fi c_st c_vz ++ wK G a_ao a_aq c_ab c_an c_at ++ wO G a_out c17) := by rw [ec17]; exact hD
    refine lv_goto (tgt := 23) hx hb d_Law_put_16 (by decide) ?_
    refine lv_iconst (v := 0) hx hb d_Law_put_23 (by decide) ?_
    have ey := Option.some.inj h
    rw [← ey] at hRa hRc
    have hRa : r0 = (0, r1.2.1, r1.2.2.1, r1.2.2.2.1, r1.2.2.2.2.1, r1.2.2.2.2.2.1, r1.2.2.2.2.2.2, c17) := hRa
    have hRc : rc = 0 + dr1 + 0 := hRc
    subst hRa
    exact zreti (u9.1, u9.2) hQ hS.2.2 hx hb hr hlocks hP hD hS rfl (by omega) (by omega) d_Law_put_24
  have h := hy13
  refine lv_if_eq (tgt := 14) hx hb d_Law_put_7 (by decide) (fun q12 => ?_) (fun q12 => ?_)
  · have h := it h q12
    refine lv_lconst (v := 0) hx hb d_Law_put_14 (by decide) ?_
    exact J15 0 (Option.some.inj h) H locs ls hP hD hS (lv_sub hl [] rfl)
  · have h := ie h q12
    refine lv_lconst (v := 1) hx hb d_Law_put_10 (by decide) ?_
    refine lv_goto (tgt := 15) hx hb d_Law_put_11 (by decide) ?_
    exact J15 1 (Option.some.inj h) H locs ls hP hD hS (lv_sub hl [] rfl)

theorem kv_Law_36 : zKV "BranchStoreLaw" 36 y_Store_get prog_1_method_13_code 1 (some .long) 0 := ⟨k_596, k_597, k_598, k_1, k_599, by decide +kernel⟩
noncomputable def f_Law_get (c_c : (Nat → Int32)) (c_cl : Nat) (c_rt : Int32) (c_ab : (Nat → Int32)) (c_an : Int32) (c_out : (Nat → Int64))  : Option ((Int32 × (Nat → Int64)) × Nat) :=
bc (f_Store_get c_c c_cl c_rt c_ab c_an) (fun j3 =>
if j3 = 3 then
(some ((1, c_out), 0))
else
(none)) fun r1 =>
gi 0 1 <|
nm (vp_updL c_out (0 : Int32).toNatClampNeg r1) fun c11 =>
some ((0, c11), 0)
set_option maxHeartbeats 8000000 in
set_option maxRecDepth 100000 in
theorem c_Law_get (l : Launch) (G : zG) (hfl : l.flags = flags0) (sz : Nat) (a_s a_t a_ao a_bo a_uo a_go a_c a_mv a_fr a_br a_e0 a_e1 a_e2 a_e3 a_lo a_ho a_aq a_out : Nat) (c_sort : Int32) (c_set : Int32) (c_c : (Nat → Int32)) (c_cl : Nat) (c_mv : (Nat → Int32)) (c_ml : Nat) (c_en : Int32) (c_rt : Int32) (c_fr : (Nat → Int32)) (c_br : (Nat → Int32)) (c_fi : Int64) (c_st : Int64) (c_vz : Int64) (c_ab : (Nat → Int32)) (c_an : Int32) (c_at : Int32) (c_out : (Nat → Int64)) (r0 : (Int32 × (Nat → Int64))) (rc : Nat) (hf : f_Law_get c_c c_cl c_rt c_ab c_an c_out = some (r0, rc)) :
    Met l y_Law_get (Cond.codeWith y_Law_get method_8_code 3 (some .int) [(0, 7, 10, 30)] :: lw_ok) { frames := 8, cells := rc, slots := 1024 * rc, locals := 158 } (zPcX G sz [.ref a_s, .ref a_out] (wB G a_s a_t a_ao a_bo a_uo a_go c_sort c_set ++ wT G a_t a_c a_mv a_fr a_br a_e0 a_e1 a_e2 a_e3 a_lo a_ho c_c c_cl c_mv c_ml c_en c_rt c_fr c_br c_fi c_st c_vz ++ wK G a_ao a_aq c_ab c_an c_at ++ wO G a_out c_out))
      ((fun (A : Nat → Prop) => va_Qi (fun (r : Int32) (u : Nat × Nat) => r = r0.1) (fun u t => zB G A (wB G a_s a_t a_ao a_bo a_uo a_go c_sort c_set ++ wT G a_t u.1 u.2 a_fr a_br a_e0 a_e1 a_e2 a_e3 a_lo a_ho c_c c_cl c_mv c_ml c_en c_rt c_fr c_br c_fi c_st c_vz ++ wK G a_ao a_aq c_ab c_an c_at ++ wO G a_out r0.2) t) A) (va_A (wB G a_s a_t a_ao a_bo a_uo a_go c_sort c_set ++ wT G a_t a_c a_mv a_fr a_br a_e0 a_e1 a_e2 a_e3 a_lo a_ho c_c c_cl c_mv c_ml c_en c_rt c_fr c_br c_fi c_st c_vz ++ wK G a_ao a_aq c_ab c_an c_at ++ wO G a_out c_out) sz)) rc (1024 * rc) (va_A (wB G a_s a_t a_ao a_bo a_uo a_go c_sort c_set ++ wT G a_t a_c a_mv a_fr a_br a_e0 a_e1 a_e2 a_e3 a_lo a_ho c_c c_cl c_mv c_ml c_en c_rt c_fr c_br c_fi c_st c_vz ++ wK G a_ao a_aq c_ab c_an c_at ++ wO G a_out c_out) sz) := by
  refine zMetW (hh := [(0, 7, 10, 30)]) (Qc := fun (A : Nat → Prop) => va_Qi (fun (r : Int32) (u : Nat × Nat) => r = r0.1) (fun u t => zB G A (wB G a_s a_t a_ao a_bo a_uo a_go c_sort c_set ++ wT G a_t u.1 u.2 a_fr a_br a_e0 a_e1 a_e2 a_e3 a_lo a_ho c_c c_cl c_mv c_ml c_en c_rt c_fr c_br c_fi c_st c_vz ++ wK G a_ao a_aq c_ab c_an c_at ++ wO G a_out r0.2) t) A) (by decide) (Nat.le_of_ble_eq_true rfl) (fun xp xe xs xm xb xme xc A ls Q H locs C hex hTs hnA hN hK hP hD hS hA hl hQ => ?_)
  obtain ⟨hx, hb, hr, hts, hown, hlocks, hml, hin⟩ := C
  have hl : lv_has ls 3 [(0, .ref a_s), (1, .ref a_out)] := hl
  have h := hf
  unfold f_Law_get at h
  have hRa : r0 = (r0, rc).1 := rfl
  have hRc : rc = 0 + (r0, rc).2 := (Nat.zero_add _).symm
  refine W.widen (k := 0) (n := 1024 * 0) (Nat.le_refl _) (Nat.le_refl _) ?_
  refine lv_aload_n hx hb d_Law_get_0 rfl (lv_at hl 1 rfl) ?_
  refine lv_iconst (v := 0) hx hb d_Law_get_1 (by decide) ?_
  refine lv_aload_n hx hb d_Law_get_2 rfl (lv_at hl 0 rfl) ?_
  rcases bc_k h hRa hRc with ⟨j3, d4, y6, h5, h, hRa, hRc⟩ | ⟨r1, dr1, y2, hr1, h, hRa, hRc⟩
  · by_cases q7 : j3 = 3
    · have h := it h q7
      subst q7
      refine zcatch (As := []) (x := ⟨0, 7, 10, 30⟩) (post := []) hts hN hown hP hS (zrunX (As := []) (rest := [.int 0, .ref a_out]) ⟨hx, hb, hml, hown, hts⟩ hN hTs hnA hS hK (c_Store_get_x l G hfl H.size a_s a_t a_ao a_bo a_uo a_go a_c a_mv a_fr a_br a_e0 a_e1 a_e2 a_e3 a_lo a_ho a_aq c_sort c_set c_c c_cl c_mv c_ml c_en c_rt c_fr c_br c_fi c_st c_vz c_ab c_an c_at 3 d4 h5) ⟨rfl, rfl⟩ kv_Law_36 ⟨Nat.le_of_ble_eq_true rfl, Nat.le_of_ble_eq_true rfl⟩ 0 rfl rfl rfl hl.1 (Nat.le_of_ble_eq_true rfl) d_Law_get_3 ⟨by show _ ≤ rc; omega, by show _ ≤ 1024 * rc; omega⟩ (hP.sub [0, 1, 2, 3, 4, 5, 6, 7, 8, 9, 10, 11] rfl) (hD.sub [0, 1, 2, 3, 4, 5, 6, 7, 8, 9, 10, 11] (by decide) rfl)) [] hex (fun z hz => absurd hz List.not_mem_nil) (by decide) (by decide) k_553 k_560 k_559 (fun ra8 H hP hS => ?_)
      refine W.widen (k := 0 + d4) (n := 1024 * (0 + d4)) (by omega) (by omega) ?_
      refine lv_astore_n (lv' := [(2, .ref ra8), (0, .ref a_s), (1, .ref a_out)]) hx hb d_Law_get_10 rfl hl (by decide) rfl (fun ls hl => ?_)
      refine lv_iconst (v := 1) hx hb d_Law_get_11 (by decide) ?_
      have ey := Option.some.inj h
      rw [← ey] at hRa hRc
      have hRa : r0 = (1, c_out) := hRa
      have hRc : rc = 0 + d4 + 0 := hRc
      subst hRa
      exact zreti (a_c, a_mv) hQ hS.2.2 hx hb hr hlocks hP hD hS rfl (by omega) (by omega) d_Law_get_12
    have h := ie h q7
    cases h
  refine zcalll (wr := [(a_out, .inl (G.2.2.2, 1, .inr (.inl c_out)))]) (w2 := fun (u9 : Nat × Nat) => (wB G a_s a_t a_ao a_bo a_uo a_go c_sort c_set ++ wT G a_t u9.1 u9.2 a_fr a_br a_e0 a_e1 a_e2 a_e3 a_lo a_ho c_c c_cl c_mv c_ml c_en c_rt c_fr c_br c_fi c_st c_vz ++ wK G a_ao a_aq c_ab c_an c_at ++ wO G a_out c_out)) (zrunV (As := []) (rest := [.int 0, .ref a_out]) ⟨hx, hb, hml, hown, hts⟩ hN hK (c_Store_get l G H.size a_s a_t a_ao a_bo a_uo a_go a_c a_mv a_fr a_br a_e0 a_e1 a_e2 a_e3 a_lo a_ho a_aq c_sort c_set c_c c_cl c_mv c_ml c_en c_rt c_fr c_br c_fi c_st c_vz c_ab c_an c_at r1 dr1 hr1) ⟨rfl, rfl⟩ kv_Law_36 ⟨Nat.le_of_ble_eq_true rfl, Nat.le_of_ble_eq_true rfl⟩ 0 rfl rfl rfl hl.1 (Nat.le_of_ble_eq_true rfl) d_Law_get_3 ⟨by show _ ≤ rc; omega, by show _ ≤ 1024 * rc; omega⟩) hP hD hS hA [0, 1, 2, 3, 4, 5, 6, 7, 8, 9, 10, 11] [12] [1, 2, 3, 4, 5, 6, 7, 8, 9, 10, 11, 12, 0] rfl rfl rfl rfl (by decide) rfl (fun _ => rfl) (fun rr u9 H locs hw hP hD hS => ?_)
  refine W.widen (k := 0 + dr1) (n := 1024 * (0 + dr1)) (by omega) (by omega) ?_
  have hw := hw.symm
  subst hw
  obtain ⟨h10, h⟩ := gi_k h
  refine va_last hx hb hK hP hD hS 12 2 rfl rfl h10 d_Law_get_6 (fun H locs hP hD hS => ?_)
  obtain ⟨c11, ec11⟩ : ∃ y, y = vp_updL c_out (0 : Int32).toNatClampNeg r1 := ⟨_, rfl⟩
  have h := nm_k h c11 ec11
  have hP : va_P G.1 classes (wB G a_s a_t a_ao a_bo a_uo a_go c_sort c_set ++ wT G a_t u9.1 u9.2 a_fr a_br a_e0 a_e1 a_e2 a_e3 a_lo a_ho c_c c_cl c_mv c_ml c_en c_rt c_fr c_br c_fi c_st c_vz ++ wK G a_ao a_aq c_ab c_an c_at ++ wO G a_out c11) H := by rw [ec11]; exact hP
  have hD : va_D A (wB G a_s a_t a_ao a_bo a_uo a_go c_sort c_set ++ wT G a_t u9.1 u9.2 a_fr a_br a_e0 a_e1 a_e2 a_e3 a_lo a_ho c_c c_cl c_mv c_ml c_en c_rt c_fr c_br c_fi c_st c_vz ++ wK G a_ao a_aq c_ab c_an c_at ++ wO G a_out c11) := by rw [ec11]; exact hD
  refine lv_goto (tgt := 13) hx hb d_Law_get_7 (by decide) ?_
  refine lv_iconst (v := 0) hx hb d_Law_get_13 (by decide) ?_
  have ey := Option.some.inj h
  rw [← ey] at hRa hRc
  have hRa : r0 = (0, c11) := hRa
  have hRc : rc = 0 + dr1 + 0 := hRc
  subst hRa
  exact zreti (u9.1, u9.2) hQ hS.2.2 hx hb hr hlocks hP hD hS rfl (by omega) (by omega) d_Law_get_14

theorem kv_Law_40 : zKV "BranchStoreLaw" 40 y_Store_remove prog_1_method_14_code 3 (some .long) 0 := ⟨k_612, k_613, k_614, k_1, k_615, by decide +kernel⟩
noncomputable def f_Law_remove (c_c : (Nat → Int32)) (c_cl : Nat) (c_en : Int32) (c_rt : Int32) (c_fr : (Nat → Int32)) (c_br : (Nat → Int32)) (c_ab : (Nat → Int32)) (c_an : Int32) (c_out : (Nat → Int64))  : Option ((Int32 × (Nat → Int32) × Nat × Int32 × Int32 × (Nat → Int32) × (Nat → Int32) × (Nat → Int64)) × Nat) :=
bc (f_Store_remove c_c c_cl c_en c_rt c_fr c_br c_ab c_an) (fun j3 =>
if j3 = 3 then
(some ((1, c_c, c_cl, c_en, c_rt, c_fr, c_br, c_out), 0))
else
(none)) fun r1 =>
gi 0 1 <|
nm (vp_updL c_out (0 : Int32).toNatClampNeg r1.1) fun c11 =>
some ((0, r1.2.1, r1.2.2.1, r1.2.2.2.1, r1.2.2.2.2.1, r1.2.2.2.2.2.1, r1.2.2.2.2.2.2, c11), 0)
set_option maxHeartbeats 8000000 in
set_option maxRecDepth 100000 in
theorem c_Law_remove (l : Launch) (G : zG) (hfl : l.flags = flags0) (sz : Nat) (a_s a_t a_ao a_bo a_uo a_go a_c a_mv a_fr a_br a_e0 a_e1 a_e2 a_e3 a_lo a_ho a_aq a_out : Nat) (c_sort : Int32) (c_set : Int32) (c_c : (Nat → Int32)) (c_cl : Nat) (c_mv : (Nat → Int32)) (c_ml : Nat) (c_en : Int32) (c_rt : Int32) (c_fr : (Nat → Int32)) (c_br : (Nat → Int32)) (c_fi : Int64) (c_st : Int64) (c_vz : Int64) (c_ab : (Nat → Int32)) (c_an : Int32) (c_at : Int32) (c_out : (Nat → Int64)) (r0 : (Int32 × (Nat → Int32) × Nat × Int32 × Int32 × (Nat → Int32) × (Nat → Int32) × (Nat → Int64))) (rc : Nat) (hf : f_Law_remove c_c c_cl c_en c_rt c_fr c_br c_ab c_an c_out = some (r0, rc)) :
    Met l y_Law_remove (Cond.codeWith y_Law_remove method_9_code 3 (some .int) [(0, 7, 10, 30)] :: lw_ok) { frames := 8, cells := rc, slots := 1024 * rc, locals := 204 } (zPcX G sz [.ref a_s, .ref a_out] (wB G a_s a_t a_ao a_bo a_uo a_go c_sort c_set ++ wT G a_t a_c a_mv a_fr a_br a_e0 a_e1 a_e2 a_e3 a_lo a_ho c_c c_cl c_mv c_ml c_en c_rt c_fr c_br c_fi c_st c_vz ++ wK G a_ao a_aq c_ab c_an c_at ++ wO G a_out c_out))
      ((fun (A : Nat → Prop) => va_Qi (fun (r : Int32) (u : Nat × Nat) => r = r0.1) (fun u t => zB G A (wB G a_s a_t a_ao a_bo a_uo a_go c_sort c_set ++ wT G a_t u.1 u.2 a_fr a_br a_e0 a_e1 a_e2 a_e3 a_lo a_ho r0.2.1 r0.2.2.1 c_mv c_ml r0.2.2.2.1 r0.2.2.2.2.1 r0.2.2.2.2.2.1 r0.2.2.2.2.2.2.1 c_fi c_st c_vz ++ wK G a_ao a_aq c_ab c_an c_at ++ wO G a_out r0.2.2.2.2.2.2.2) t) A) (va_A (wB G a_s a_t a_ao a_bo a_uo a_go c_sort c_set ++ wT G a_t a_c a_mv a_fr a_br a_e0 a_e1 a_e2 a_e3 a_lo a_ho c_c c_cl c_mv c_ml c_en c_rt c_fr c_br c_fi c_st c_vz ++ wK G a_ao a_aq c_ab c_an c_at ++ wO G a_out c_out) sz)) rc (1024 * rc) (va_A (wB G a_s a_t a_ao a_bo a_uo a_go c_sort c_set ++ wT G a_t a_c a_mv a_fr a_br a_e0 a_e1 a_e2 a_e3 a_lo a_ho c_c c_cl c_mv c_ml c_en c_rt c_fr c_br c_fi c_st c_vz ++ wK G a_ao a_aq c_ab c_an c_at ++ wO G a_out c_out) sz) := by
  refine zMetW (hh := [(0, 7, 10, 30)]) (Qc := fun (A : Nat → Prop) => va_Qi (fun (r : Int32) (u : Nat × Nat) => r = r0.1) (fun u t => zB G A (wB G a_s a_t a_ao a_bo a_uo a_go c_sort c_set ++ wT G a_t u.1 u.2 a_fr a_br a_e0 a_e1 a_e2 a_e3 a_lo a_ho r0.2.1 r0.2.2.1 c_mv c_ml r0.2.2.2.1 r0.2.2.2.2.1 r0.2.2.2.2.2.1 r0.2.2.2.2.2.2.1 c_fi c_st c_vz ++ wK G a_ao a_aq c_ab c_an c_at ++ wO G a_out r0.2.2.2.2.2.2.2) t) A) (by decide) (Nat.le_of_ble_eq_true rfl) (fun xp xe xs xm xb xme xc A ls Q H locs C hex hTs hnA hN hK hP hD hS hA hl hQ => ?_)
  obtain ⟨hx, hb, hr, hts, hown, hlocks, hml, hin⟩ := C
  have hl : lv_has ls 3 [(0, .ref a_s), (1, .ref a_out)] := hl
  have h := hf
  unfold f_Law_remove at h
  have hRa : r0 = (r0, rc).1 := rfl
  have hRc : rc = 0 + (r0, rc).2 := (Nat.zero_add _).symm
  refine W.widen (k := 0) (n := 1024 * 0) (Nat.le_refl _) (Nat.le_refl _) ?_
  refine lv_aload_n hx hb d_Law_remove_0 rfl (lv_at hl 1 rfl) ?_
  refine lv_iconst (v := 0) hx hb d_Law_remove_1 (by decide) ?_
  refine lv_aload_n hx hb d_Law_remove_2 rfl (lv_at hl 0 rfl) ?_
  rcases bc_k h hRa hRc with ⟨j3, d4, y6, h5, h, hRa, hRc⟩ | ⟨r1, dr1, y2, hr1, h, hRa, hRc⟩
  · by_cases q7 : j3 = 3
    · have h := it h q7
      subst q7
      refine zcatch (As := []) (x := ⟨0, 7, 10, 30⟩) (post := []) hts hN hown hP hS (zrunX (As := []) (rest := [.int 0, .ref a_out]) ⟨hx, hb, hml, hown, hts⟩ hN hTs hnA hS hK (c_Store_remove_x l G hfl H.size a_s a_t a_ao a_bo a_uo a_go a_c a_mv a_fr a_br a_e0 a_e1 a_e2 a_e3 a_lo a_ho a_aq c_sort c_set c_c c_cl c_mv c_ml c_en c_rt c_fr c_br c_fi c_st c_vz c_ab c_an c_at 3 d4 h5) ⟨rfl, rfl⟩ kv_Law_40 ⟨Nat.le_of_ble_eq_true rfl, Nat.le_of_ble_eq_true rfl⟩ 0 rfl rfl rfl hl.1 (Nat.le_of_ble_eq_true rfl) d_Law_remove_3 ⟨by show _ ≤ rc; omega, by show _ ≤ 1024 * rc; omega⟩ (hP.sub [0, 1, 2, 3, 4, 5, 6, 7, 8, 9, 10, 11] rfl) (hD.sub [0, 1, 2, 3, 4, 5, 6, 7, 8, 9, 10, 11] (by decide) rfl)) [] hex (fun z hz => absurd hz List.not_mem_nil) (by decide) (by decide) k_553 k_560 k_559 (fun ra8 H hP hS => ?_)
      refine W.widen (k := 0 + d4) (n := 1024 * (0 + d4)) (by omega) (by omega) ?_
      refine lv_astore_n (lv' := [(2, .ref ra8), (0, .ref a_s), (1, .ref a_out)]) hx hb d_Law_remove_10 rfl hl (by decide) rfl (fun ls hl => ?_)
      refine lv_iconst (v := 1) hx hb d_Law_remove_11 (by decide) ?_
      have ey := Option.some.inj h
      rw [← ey] at hRa hRc
      have hRa : r0 = (1, c_c, c_cl, c_en, c_rt, c_fr, c_br, c_out) := hRa
      have hRc : rc = 0 + d4 + 0 := hRc
      subst hRa
      exact zreti (a_c, a_mv) hQ hS.2.2 hx hb hr hlocks hP hD hS rfl (by omega) (by omega) d_Law_remove_12
    have h := ie h q7
    cases h
  refine zcalll (wr := [(a_out, .inl (G.2.2.2, 1, .inr (.inl c_out)))]) (w2 := fun (u9 : Nat × Nat) => (wB G a_s a_t a_ao a_bo a_uo a_go c_sort c_set ++ wT G a_t u9.1 u9.2 a_fr a_br a_e0 a_e1 a_e2 a_e3 a_lo a_ho r1.2.1 r1.2.2.1 c_mv c_ml r1.2.2.2.1 r1.2.2.2.2.1 r1.2.2.2.2.2.1 r1.2.2.2.2.2.2 c_fi c_st c_vz ++ wK G a_ao a_aq c_ab c_an c_at ++ wO G a_out c_out)) (zrunV (As := []) (rest := [.int 0, .ref a_out]) ⟨hx, hb, hml, hown, hts⟩ hN hK (c_Store_remove l G H.size a_s a_t a_ao a_bo a_uo a_go a_c a_mv a_fr a_br a_e0 a_e1 a_e2 a_e3 a_lo a_ho a_aq c_sort c_set c_c c_cl c_mv c_ml c_en c_rt c_fr c_br c_fi c_st c_vz c_ab c_an c_at r1 dr1 hr1) ⟨rfl, rfl⟩ kv_Law_40 ⟨Nat.le_of_ble_eq_true rfl, Nat.le_of_ble_eq_true rfl⟩ 0 rfl rfl rfl hl.1 (Nat.le_of_ble_eq_true rfl) d_Law_remove_3 ⟨by show _ ≤ rc; omega, by show _ ≤ 1024 * rc; omega⟩) hP hD hS hA [0, 1, 2, 3, 4, 5, 6, 7, 8, 9, 10, 11] [12] [1, 2, 3, 4, 5, 6, 7, 8, 9, 10, 11, 12, 0] rfl rfl rfl rfl (by decide) rfl (fun _ => rfl) (fun rr u9 H locs hw hP hD hS => ?_)
  refine W.widen (k := 0 + dr1) (n := 1024 * (0 + dr1)) (by omega) (by omega) ?_
  have hw := hw.symm
  subst hw
  obtain ⟨h10, h⟩ := gi_k h
  refine va_last hx hb hK hP hD hS 12 2 rfl rfl h10 d_Law_remove_6 (fun H locs hP hD hS => ?_)
  obtain ⟨c11, ec11⟩ : ∃ y, y = vp_updL c_out (0 : Int32).toNatClampNeg r1.1 := ⟨_, rfl⟩
  have h := nm_k h c11 ec11
  have hP : va_P G.1 classes (wB G a_s a_t a_ao a_bo a_uo a_go c_sort c_set ++ wT G a_t u9.1 u9.2 a_fr a_br a_e0 a_e1 a_e2 a_e3 a_lo a_ho r1.2.1 r1.2.2.1 c_mv c_ml r1.2.2.2.1 r1.2.2.2.2.1 r1.2.2.2.2.2.1 r1.2.2.2.2.2.2 c_fi c_st c_vz ++ wK G a_ao a_aq c_ab c_an c_at ++ wO G a_out c11) H := by rw [ec11]; exact hP
  have hD : va_D A (wB G a_s a_t a_ao a_bo a_uo a_go c_sort c_set ++ wT G a_t u9.1 u9.2 a_fr a_br a_e0 a_e1 a_e2 a_e3 a_lo a_ho r1.2.1 r1.2.2.1 c_mv c_ml r1.2.2.2.1 r1.2.2.2.2.1 r1.2.2.2.2.2.1 r1.2.2.2.2.2.2 c_fi c_st c_vz ++ wK G a_ao a_aq c_ab c_an c_at ++ wO G a_out c11) := by rw [ec11]; exact hD
  refine lv_goto (tgt := 13) hx hb d_Law_remove_7 (by decide) ?_
  refine lv_iconst (v := 0) hx hb d_Law_remove_13 (by decide) ?_
  have ey := Option.some.inj h
  rw [← ey] at hRa hRc
  have hRa : r0 = (0, r1.2.1, r1.2.2.1, r1.2.2.2.1, r1.2.2.2.2.1, r1.2.2.2.2.2.1, r1.2.2.2.2.2.2, c11) := hRa
  have hRc : rc = 0 + dr1 + 0 := hRc
  subst hRa
  exact zreti (u9.1, u9.2) hQ hS.2.2 hx hb hr hlocks hP hD hS rfl (by omega) (by omega) d_Law_remove_14

theorem kv_Law_43 : zKV "BranchStoreLaw" 43 y_Store_seek prog_1_method_15_code 4 (some .boolean) 1 := ⟨k_619, k_620, k_621, k_1, k_622, by decide +kernel⟩
noncomputable def f_Law_seek (c_set : Int32) (c_c : (Nat → Int32)) (c_cl : Nat) (c_rt : Int32) (c_ab : (Nat → Int32)) (c_an : Int32) (c_ub : (Nat → Int32)) (c_un : Int32) (c_ut : Int32) (c_out : (Nat → Int64)) (p_1 : Int32) : Option ((Int32 × Int32 × (Nat → Int32) × Int32 × Int32 × (Nat → Int64)) × Nat) :=
bc (f_Store_seek c_set c_c c_cl c_rt c_ab c_an c_ub c_un c_ut p_1) (fun j3 =>
if j3 = 1 then
(some ((1, c_set, c_ub, c_un, c_ut, c_out), 0))
else
(none)) fun r1 =>
(if r1.1 = 0 then
(some 0)
else
(some 1)).bind fun y14 =>
gi 0 1 <|
nm (vp_updL c_out (0 : Int32).toNatClampNeg y14) fun c17 =>
some ((0, r1.2.1, r1.2.2.1, r1.2.2.2.1, r1.2.2.2.2, c17), 0)
set_option maxHeartbeats 8000000 in
set_option maxRecDepth 100000 in
theorem c_Law_seek (l : Launch) (G : zG) (hfl : l.flags = flags0) (sz : Nat) (a_s a_t a_ao a_bo a_uo a_go a_c a_mv a_fr a_br a_e0 a_e1 a_e2 a_e3 a_lo a_ho a_aq a_uq a_out : Nat) (c_sort : Int32) (c_set : Int32) (c_c : (Nat → Int32)) (c_cl : Nat) (c_mv : (Nat → Int32)) (c_ml : Nat) (c_en : Int32) (c_rt : Int32) (c_fr : (Nat → Int32)) (c_br : (Nat → Int32)) (c_fi : Int64) (c_st : Int64) (c_vz : Int64) (c_ab : (Nat → Int32)) (c_an : Int32) (c_at : Int32) (c_ub : (Nat → Int32)) (c_un : Int32) (c_ut : Int32) (c_out : (Nat → Int64)) (p_1 : Int32) (r0 : (Int32 × Int32 × (Nat → Int32) × Int32 × Int32 × (Nat → Int64))) (rc : Nat) (hf : f_Law_seek c_set c_c c_cl c_rt c_ab c_an c_ub c_un c_ut c_out p_1 = some (r0, rc)) :
    Met l y_Law_seek (Cond.codeWith y_Law_seek method_10_code 4 (some .int) [(0, 16, 19, 23)] :: lw_ok) { frames := 8, cells := rc, slots := 1024 * rc, locals := 188 } (zPcX G sz [.ref a_s, .int p_1, .ref a_out] (wB G a_s a_t a_ao a_bo a_uo a_go c_sort c_set ++ wT G a_t a_c a_mv a_fr a_br a_e0 a_e1 a_e2 a_e3 a_lo a_ho c_c c_cl c_mv c_ml c_en c_rt c_fr c_br c_fi c_st c_vz ++ wK G a_ao a_aq c_ab c_an c_at ++ wK G a_uo a_uq c_ub c_un c_ut ++ wO G a_out c_out))
      ((fun (A : Nat → Prop) => va_Qi (fun (r : Int32) (u : Nat × Nat) => r = r0.1) (fun u t => zB G A (wB G a_s a_t a_ao a_bo a_uo a_go c_sort r0.2.1 ++ wT G a_t u.1 u.2 a_fr a_br a_e0 a_e1 a_e2 a_e3 a_lo a_ho c_c c_cl c_mv c_ml c_en c_rt c_fr c_br c_fi c_st c_vz ++ wK G a_ao a_aq c_ab c_an c_at ++ wK G a_uo a_uq r0.2.2.1 r0.2.2.2.1 r0.2.2.2.2.1 ++ wO G a_out r0.2.2.2.2.2) t) A) (va_A (wB G a_s a_t a_ao a_bo a_uo a_go c_sort c_set ++ wT G a_t a_c a_mv a_fr a_br a_e0 a_e1 a_e2 a_e3 a_lo a_ho c_c c_cl c_mv c_ml c_en c_rt c_fr c_br c_fi c_st c_vz ++ wK G a_ao a_aq c_ab c_an c_at ++ wK G a_uo a_uq c_ub c_un c_ut ++ wO G a_out c_out) sz)) rc (1024 * rc) (va_A (wB G a_s a_t a_ao a_bo a_uo a_go c_sort c_set ++ wT G a_t a_c a_mv a_fr a_br a_e0 a_e1 a_e2 a_e3 a_lo a_ho c_c c_cl c_mv c_ml c_en c_rt c_fr c_br c_fi c_st c_vz ++ wK G a_ao a_aq c_ab c_an c_at ++ wK G a_uo a_uq c_ub c_un c_ut ++ wO G a_out c_out) sz) := by
  refine zMetW (hh := [(0, 16, 19, 23)]) (Qc := fun (A : Nat → Prop) => va_Qi (fun (r : Int32) (u : Nat × Nat) => r = r0.1) (fun u t => zB G A (wB G a_s a_t a_ao a_bo a_uo a_go c_sort r0.2.1 ++ wT G a_t u.1 u.2 a_fr a_br a_e0 a_e1 a_e2 a_e3 a_lo a_ho c_c c_cl c_mv c_ml c_en c_rt c_fr c_br c_fi c_st c_vz ++ wK G a_ao a_aq c_ab c_an c_at ++ wK G a_uo a_uq r0.2.2.1 r0.2.2.2.1 r0.2.2.2.2.1 ++ wO G a_out r0.2.2.2.2.2) t) A) (by decide) (Nat.le_of_ble_eq_true rfl) (fun xp xe xs xm xb xme xc A ls Q H locs C hex hTs hnA hN hK hP hD hS hA hl hQ => ?_)
  obtain ⟨hx, hb, hr, hts, hown, hlocks, hml, hin⟩ := C
  have hl : lv_has ls 4 [(0, .ref a_s), (1, .int p_1), (2, .ref a_out)] := hl
  have h := hf
  unfold f_Law_seek at h
  have hRa : r0 = (r0, rc).1 := rfl
  have hRc : rc = 0 + (r0, rc).2 := (Nat.zero_add _).symm
  refine W.widen (k := 0) (n := 1024 * 0) (Nat.le_refl _) (Nat.le_refl _) ?_
  refine lv_aload_n hx hb d_Law_seek_0 rfl (lv_at hl 2 rfl) ?_
  refine lv_iconst (v := 0) hx hb d_Law_seek_1 (by decide) ?_
  refine lv_aload_n hx hb d_Law_seek_2 rfl (lv_at hl 0 rfl) ?_
  refine lv_iload_n hx hb d_Law_seek_3 rfl (lv_at hl 1 rfl) ?_
  rcases bc_k h hRa hRc with ⟨j3, d4, y6, h5, h, hRa, hRc⟩ | ⟨r1, dr1, y2, hr1, h, hRa, hRc⟩
  · by_cases q7 : j3 = 1
    · have h := it h q7
      subst q7
      refine zcatch (As := [.int p_1]) (x := ⟨0, 16, 19, 23⟩) (post := []) hts hN hown hP hS (zrunX (As := [.int p_1]) (rest := [.int 0, .ref a_out]) ⟨hx, hb, hml, hown, hts⟩ hN hTs hnA hS hK (c_Store_seek_x l G hfl H.size a_s a_t a_ao a_bo a_uo a_go a_c a_mv a_fr a_br a_e0 a_e1 a_e2 a_e3 a_lo a_ho a_aq a_uq c_sort c_set c_c c_cl c_mv c_ml c_en c_rt c_fr c_br c_fi c_st c_vz c_ab c_an c_at c_ub c_un c_ut p_1 1 d4 h5) ⟨rfl, rfl⟩ kv_Law_43 ⟨Nat.le_of_ble_eq_true rfl, Nat.le_of_ble_eq_true rfl⟩ 0 rfl rfl rfl hl.1 (Nat.le_of_ble_eq_true rfl) d_Law_seek_4 ⟨by show _ ≤ rc; omega, by show _ ≤ 1024 * rc; omega⟩ (hP.sub [0, 1, 2, 3, 4, 5, 6, 7, 8, 9, 10, 11, 12, 13] rfl) (hD.sub [0, 1, 2, 3, 4, 5, 6, 7, 8, 9, 10, 11, 12, 13] (by decide) rfl)) [] hex (fun z hz => absurd hz List.not_mem_nil) (by decide) (by decide) k_510 k_518 k_517 (fun ra8 H hP hS => ?_)
      refine W.widen (k := 0 + d4) (n := 1024 * (0 + d4)) (by omega) (by omega) ?_
      refine lv_astore_n (lv' := [(3, .ref ra8), (0, .ref a_s), (1, .int p_1), (2, .ref a_out)]) hx hb d_Law_seek_19 rfl hl (by decide) rfl (fun ls hl => ?_)
      refine lv_iconst (v := 1) hx hb d_Law_seek_20 (by decide) ?_
      have ey := Option.some.inj h
      rw [← ey] at hRa hRc
      have hRa : r0 = (1, c_set, c_ub, c_un, c_ut, c_out) := hRa
      have hRc : rc = 0 + d4 + 0 := hRc
      subst hRa
      exact zreti (a_c, a_mv) hQ hS.2.2 hx hb hr hlocks hP hD hS rfl (by omega) (by omega) d_Law_seek_21
    have h := ie h q7
    cases h
  refine zcalli (wr := [(a_out, .inl (G.2.2.2, 1, .inr (.inl c_out)))]) (w2 := fun (u9 : Nat × Nat) => (wB G a_s a_t a_ao a_bo a_uo a_go c_sort r1.2.1 ++ wT G a_t u9.1 u9.2 a_fr a_br a_e0 a_e1 a_e2 a_e3 a_lo a_ho c_c c_cl c_mv c_ml c_en c_rt c_fr c_br c_fi c_st c_vz ++ wK G a_ao a_aq c_ab c_an c_at ++ wK G a_uo a_uq r1.2.2.1 r1.2.2.2.1 r1.2.2.2.2 ++ wO G a_out c_out)) (zrunV (As := [.int p_1]) (rest := [.int 0, .ref a_out]) ⟨hx, hb, hml, hown, hts⟩ hN hK (c_Store_seek l G H.size a_s a_t a_ao a_bo a_uo a_go a_c a_mv a_fr a_br a_e0 a_e1 a_e2 a_e3 a_lo a_ho a_aq a_uq c_sort c_set c_c c_cl c_mv c_ml c_en c_rt c_fr c_br c_fi c_st c_vz c_ab c_an c_at c_ub c_un c_ut p_1 r1 dr1 hr1) ⟨rfl, rfl⟩ kv_Law_43 ⟨Nat.le_of_ble_eq_true rfl, Nat.le_of_ble_eq_true rfl⟩ 0 rfl rfl rfl hl.1 (Nat.le_of_ble_eq_true rfl) d_Law_seek_4 ⟨by show _ ≤ rc; omega, by show _ ≤ 1024 * rc; omega⟩) hP hD hS hA [0, 1, 2, 3, 4, 5, 6, 7, 8, 9, 10, 11, 12, 13] [14] [1, 2, 3, 4, 5, 6, 7, 8, 9, 10, 11, 12, 13, 14, 0] rfl rfl rfl rfl (by decide) rfl (fun _ => rfl) (fun rr u9 H locs hw hP hD hS => ?_)
  refine W.widen (k := 0 + dr1) (n := 1024 * (0 + dr1)) (by omega) (by omega) ?_
  obtain ⟨hw, hz10⟩ := hw
  have hw := hw.symm
  subst hw
  obtain ⟨y13, hy13, h⟩ := ob h
  have J15 : ∀ (z15 : Int64), z15 = y13 → ∀ (H : Heap) (locs : List Loc) (ls : Array Slot), va_P G.1 classes (wB G a_s a_t a_ao a_bo a_uo a_go c_sort r1.2.1 ++ wT G a_t u9.1 u9.2 a_fr a_br a_e0 a_e1 a_e2 a_e3 a_lo a_ho c_c c_cl c_mv c_ml c_en c_rt c_fr c_br c_fi c_st c_vz ++ wK G a_ao a_aq c_ab c_an c_at ++ wK G a_uo a_uq r1.2.2.1 r1.2.2.2.1 r1.2.2.2.2 ++ wO G a_out c_out) H → va_D A (wB G a_s a_t a_ao a_bo a_uo a_go c_sort r1.2.1 ++ wT G a_t u9.1 u9.2 a_fr a_br a_e0 a_e1 a_e2 a_e3 a_lo a_ho c_c c_cl c_mv c_ml c_en c_rt c_fr c_br c_fi c_st c_vz ++ wK G a_ao a_aq c_ab c_an c_at ++ wK G a_uo a_uq r1.2.2.1 r1.2.2.2.1 r1.2.2.2.2 ++ wO G a_out c_out) → va_S A xs.heap H locs → lv_has ls 4 [] → W xp l xe { frames := 8, cells := rc, slots := 1024 * rc, locals := 188 } xs xm ([.ref a_s, .int p_1, .ref a_out] : List Value).toArray xb xme xc H locs (0 + dr1) (1024 * (0 + dr1)) Q (F0 xm 15 ls [.long z15, .int 0, .ref a_out]) := by
    intro z15 ey H locs ls hP hD hS hl
    subst ey
    try dsimp only at h
    obtain ⟨h16, h⟩ := gi_k h
    refine va_last hx hb hK hP hD hS 14 2 rfl rfl h16 d_Law_seek_15 (fun H locs hP hD hS => ?_)
    obtain ⟨c17, ec17⟩ : ∃ y, y = vp_updL c_out (0 : Int32).toNatClampNeg z15 := ⟨_, rfl⟩
    have h := nm_k h c17 ec17
    have hP : va_P G.1 classes (wB G a_s a_t a_ao a_bo a_uo a_go c_sort r1.2.1 ++ wT G a_t u9.1 u9.2 a_fr a_br a_e0 a_e1 a_e2 a_e3 a_lo a_ho c_c c_cl c_mv c_ml c_en c_rt c_fr c_br c_fi c_st c_vz ++ wK G a_ao a_aq c_ab c_an c_at ++ wK G a_uo a_uq r1.2.2.1 r1.2.2.2.1 r1.2.2.2.2 ++ wO G a_out c17) H := by rw [ec17]; exact hP
    have hD : va_D A (wB G a_s a_t a_ao a_bo a_uo a_go c_sort r1.2.1 ++ wT G a_t u9.1 u9.2 a_fr a_br a_e0 a_e1 a_e2 a_e3 a_lo a_ho c_c c_cl c_mv c_ml c_en c_rt c_fr c_br c_fi c_st c_vz ++ wK G a_ao a_aq c_ab c_an c_at ++ wK G a_uo a_uq r1.2.2.1 r1.2.2.2.1 r1.2.2.2.2 ++ wO G a_out c17) := by rw [ec17]; exact hD
    refine lv_goto (tgt := 22) hx hb d_Law_seek_16 (by decide) ?_
    refine lv_iconst (v := 0) hx hb d_Law_seek_22 (by decide) ?_
    have ey := Option.some.inj h
    rw [← ey] at hRa hRc
    have hRa : r0 = (0, r1.2.1, r1.2.2.1, r1.2.2.2.1, r1.2.2.2.2, c17) := hRa
    have hRc : rc = 0 + dr1 + 0 := hRc
    subst hRa
    exact zreti (u9.1, u9.2) hQ hS.2.2 hx hb hr hlocks hP hD hS rfl (by omega) (by omega) d_Law_seek_23
  have h := hy13
  refine lv_if_eq (tgt := 14) hx hb d_Law_seek_7 (by decide) (fun q12 => ?_) (fun q12 => ?_)
  · have h := it h q12
    refine lv_lconst (v := 0) hx hb d_Law_seek_14 (by decide) ?_
    exact J15 0 (Option.some.inj h) H locs ls hP hD hS (lv_sub hl [] rfl)
  · have h := ie h q12
    refine lv_lconst (v := 1) hx hb d_Law_seek_10 (by decide) ?_
    refine lv_goto (tgt := 15) hx hb d_Law_seek_11 (by decide) ?_
    exact J15 1 (Option.some.inj h) H locs ls hP hD hS (lv_sub hl [] rfl)

theorem kv_Law_47 : zKV "BranchStoreLaw" 47 y_Store_move prog_1_method_16_code 3 (some .boolean) 1 := ⟨k_630, k_631, k_632, k_1, k_633, by decide +kernel⟩
noncomputable def f_Law_move (c_set : Int32) (c_c : (Nat → Int32)) (c_cl : Nat) (c_rt : Int32) (c_ub : (Nat → Int32)) (c_un : Int32) (c_ut : Int32) (c_out : (Nat → Int64)) (p_1 : Int32) : Option ((Int32 × Int32 × (Nat → Int32) × Int32 × Int32 × (Nat → Int64)) × Nat) :=
bc (f_Store_move c_set c_c c_cl c_rt c_ub c_un c_ut p_1) (fun j3 =>
if j3 = 3 then
(some ((1, c_set, c_ub, c_un, c_ut, c_out), 0))
else
(none)) fun r1 =>
(if r1.1 = 0 then
(some 0)
else
(some 1)).bind fun y14 =>
gi 0 1 <|
nm (vp_updL c_out (0 : Int32).toNatClampNeg y14) fun c17 =>
some ((0, r1.2.1, r1.2.2.1, r1.2.2.2.1, r1.2.2.2.2, c17), 0)
set_option maxHeartbeats 8000000 in
set_option maxRecDepth 100000 in
theorem c_Law_move (l : Launch) (G : zG) (hfl : l.flags = flags0) (sz : Nat) (a_s a_t a_ao a_bo a_uo a_go a_c a_mv a_fr a_br a_e0 a_e1 a_e2 a_e3 a_lo a_ho a_uq a_out : Nat) (c_sort : Int32) (c_set : Int32) (c_c : (Nat → Int32)) (c_cl : Nat) (c_mv : (Nat → Int32)) (c_ml : Nat) (c_en : Int32) (c_rt : Int32) (c_fr : (Nat → Int32)) (c_br : (Nat → Int32)) (c_fi : Int64) (c_st : Int64) (c_vz : Int64) (c_ub : (Nat → Int32)) (c_un : Int32) (c_ut : Int32) (c_out : (Nat → Int64)) (p_1 : Int32) (b_1 : narrow .boolean (.int p_1) = .int p_1) (r0 : (Int32 × Int32 × (Nat → Int32) × Int32 × Int32 × (Nat → Int64))) (rc : Nat) (hf : f_Law_move c_set c_c c_cl c_rt c_ub c_un c_ut c_out p_1 = some (r0, rc)) :
    Met l y_Law_move (Cond.codeWith y_Law_move method_11_code 4 (some .int) [(0, 16, 19, 30)] :: lw_ok) { frames := 8, cells := rc, slots := 1024 * rc, locals := 187 } (zPcX G sz [.ref a_s, .int p_1, .ref a_out] (wB G a_s a_t a_ao a_bo a_uo a_go c_sort c_set ++ wT G a_t a_c a_mv a_fr a_br a_e0 a_e1 a_e2 a_e3 a_lo a_ho c_c c_cl c_mv c_ml c_en c_rt c_fr c_br c_fi c_st c_vz ++ wK G a_uo a_uq c_ub c_un c_ut ++ wO G a_out c_out))
      ((fun (A : Nat → Prop) => va_Qi (fun (r : Int32) (u : Nat × Nat) => r = r0.1) (fun u t => zB G A (wB G a_s a_t a_ao a_bo a_uo a_go c_sort r0.2.1 ++ wT G a_t u.1 u.2 a_fr a_br a_e0 a_e1 a_e2 a_e3 a_lo a_ho c_c c_cl c_mv c_ml c_en c_rt c_fr c_br c_fi c_st c_vz ++ wK G a_uo a_uq r0.2.2.1 r0.2.2.2.1 r0.2.2.2.2.1 ++ wO G a_out r0.2.2.2.2.2) t) A) (va_A (wB G a_s a_t a_ao a_bo a_uo a_go c_sort c_set ++ wT G a_t a_c a_mv a_fr a_br a_e0 a_e1 a_e2 a_e3 a_lo a_ho c_c c_cl c_mv c_ml c_en c_rt c_fr c_br c_fi c_st c_vz ++ wK G a_uo a_uq c_ub c_un c_ut ++ wO G a_out c_out) sz)) rc (1024 * rc) (va_A (wB G a_s a_t a_ao a_bo a_uo a_go c_sort c_set ++ wT G a_t a_c a_mv a_fr a_br a_e0 a_e1 a_e2 a_e3 a_lo a_ho c_c c_cl c_mv c_ml c_en c_rt c_fr c_br c_fi c_st c_vz ++ wK G a_uo a_uq c_ub c_un c_ut ++ wO G a_out c_out) sz) := by
  refine zMetW (hh := [(0, 16, 19, 30)]) (Qc := fun (A : Nat → Prop) => va_Qi (fun (r : Int32) (u : Nat × Nat) => r = r0.1) (fun u t => zB G A (wB G a_s a_t a_ao a_bo a_uo a_go c_sort r0.2.1 ++ wT G a_t u.1 u.2 a_fr a_br a_e0 a_e1 a_e2 a_e3 a_lo a_ho c_c c_cl c_mv c_ml c_en c_rt c_fr c_br c_fi c_st c_vz ++ wK G a_uo a_uq r0.2.2.1 r0.2.2.2.1 r0.2.2.2.2.1 ++ wO G a_out r0.2.2.2.2.2) t) A) (by decide) (Nat.le_of_ble_eq_true rfl) (fun xp xe xs xm xb xme xc A ls Q H locs C hex hTs hnA hN hK hP hD hS hA hl hQ => ?_)
  obtain ⟨hx, hb, hr, hts, hown, hlocks, hml, hin⟩ := C
  have hl : lv_has ls 4 [(0, .ref a_s), (1, .int p_1), (2, .ref a_out)] := hl
  have h := hf
  unfold f_Law_move at h
  have hRa : r0 = (r0, rc).1 := rfl
  have hRc : rc = 0 + (r0, rc).2 := (Nat.zero_add _).symm
  refine W.widen (k := 0) (n := 1024 * 0) (Nat.le_refl _) (Nat.le_refl _) ?_
  refine lv_aload_n hx hb d_Law_move_0 rfl (lv_at hl 2 rfl) ?_
  refine lv_iconst (v := 0) hx hb d_Law_move_1 (by decide) ?_
  refine lv_aload_n hx hb d_Law_move_2 rfl (lv_at hl 0 rfl) ?_
  refine lv_iload_n hx hb d_Law_move_3 rfl (lv_at hl 1 rfl) ?_
  rcases bc_k h hRa hRc with ⟨j3, d4, y6, h5, h, hRa, hRc⟩ | ⟨r1, dr1, y2, hr1, h, hRa, hRc⟩
  · by_cases q7 : j3 = 3
    · have h := it h q7
      subst q7
      refine zcatch (As := [.int p_1]) (x := ⟨0, 16, 19, 30⟩) (post := []) hts hN hown hP hS (zrunX (As := [.int p_1]) (rest := [.int 0, .ref a_out]) ⟨hx, hb, hml, hown, hts⟩ hN hTs hnA hS hK (c_Store_move_x l G hfl H.size a_s a_t a_ao a_bo a_uo a_go a_c a_mv a_fr a_br a_e0 a_e1 a_e2 a_e3 a_lo a_ho a_uq c_sort c_set c_c c_cl c_mv c_ml c_en c_rt c_fr c_br c_fi c_st c_vz c_ub c_un c_ut p_1 b_1 3 d4 h5) ⟨rfl, rfl⟩ kv_Law_47 ⟨Nat.le_of_ble_eq_true rfl, Nat.le_of_ble_eq_true rfl⟩ 0 rfl rfl rfl hl.1 (Nat.le_of_ble_eq_true rfl) d_Law_move_4 ⟨by show _ ≤ rc; omega, by show _ ≤ 1024 * rc; omega⟩ (hP.sub [0, 1, 2, 3, 4, 5, 6, 7, 8, 9, 10, 11] rfl) (hD.sub [0, 1, 2, 3, 4, 5, 6, 7, 8, 9, 10, 11] (by decide) rfl)) [] hex (fun z hz => absurd hz List.not_mem_nil) (by decide) (by decide) k_553 k_560 k_559 (fun ra8 H hP hS => ?_)
      refine W.widen (k := 0 + d4) (n := 1024 * (0 + d4)) (by omega) (by omega) ?_
      refine lv_astore_n (lv' := [(3, .ref ra8), (0, .ref a_s), (1, .int p_1), (2, .ref a_out)]) hx hb d_Law_move_19 rfl hl (by decide) rfl (fun ls hl => ?_)
      refine lv_iconst (v := 1) hx hb d_Law_move_20 (by decide) ?_
      have ey := Option.some.inj h
      rw [← ey] at hRa hRc
      have hRa : r0 = (1, c_set, c_ub, c_un, c_ut, c_out) := hRa
      have hRc : rc = 0 + d4 + 0 := hRc
      subst hRa
      exact zreti (a_c, a_mv) hQ hS.2.2 hx hb hr hlocks hP hD hS rfl (by omega) (by omega) d_Law_move_21
    have h := ie h q7
    cases h
  refine zcalli (wr := [(a_out, .inl (G.2.2.2, 1, .inr (.inl c_out)))]) (w2 := fun (u9 : Nat × Nat) => (wB G a_s a_t a_ao a_bo a_uo a_go c_sort r1.2.1 ++ wT G a_t u9.1 u9.2 a_fr a_br a_e0 a_e1 a_e2 a_e3 a_lo a_ho c_c c_cl c_mv c_ml c_en c_rt c_fr c_br c_fi c_st c_vz ++ wK G a_uo a_uq r1.2.2.1 r1.2.2.2.1 r1.2.2.2.2 ++ wO G a_out c_out)) (zrunV (As := [.int p_1]) (rest := [.int 0, .ref a_out]) ⟨hx, hb, hml, hown, hts⟩ hN hK (c_Store_move l G H.size a_s a_t a_ao a_bo a_uo a_go a_c a_mv a_fr a_br a_e0 a_e1 a_e2 a_e3 a_lo a_ho a_uq c_sort c_set c_c c_cl c_mv c_ml c_en c_rt c_fr c_br c_fi c_st c_vz c_ub c_un c_ut p_1 b_1 r1 dr1 hr1) ⟨rfl, rfl⟩ kv_Law_47 ⟨Nat.le_of_ble_eq_true rfl, Nat.le_of_ble_eq_true rfl⟩ 0 rfl rfl rfl hl.1 (Nat.le_of_ble_eq_true rfl) d_Law_move_4 ⟨by show _ ≤ rc; omega, by show _ ≤ 1024 * rc; omega⟩) hP hD hS hA [0, 1, 2, 3, 4, 5, 6, 7, 8, 9, 10, 11] [12] [1, 2, 3, 4, 5, 6, 7, 8, 9, 10, 11, 12, 0] rfl rfl rfl rfl (by decide) rfl (fun _ => rfl) (fun rr u9 H locs hw hP hD hS => ?_)
  refine W.widen (k := 0 + dr1) (n := 1024 * (0 + dr1)) (by omega) (by omega) ?_
  obtain ⟨hw, hz10⟩ := hw
  have hw := hw.symm
  subst hw
  obtain ⟨y13, hy13, h⟩ := ob h
  have J15 : ∀ (z15 : Int64), z15 = y13 → ∀ (H : Heap) (locs : List Loc) (ls : Array Slot), va_P G.1 classes (wB G a_s a_t a_ao a_bo a_uo a_go c_sort r1.2.1 ++ wT G a_t u9.1 u9.2 a_fr a_br a_e0 a_e1 a_e2 a_e3 a_lo a_ho c_c c_cl c_mv c_ml c_en c_rt c_fr c_br c_fi c_st c_vz ++ wK G a_uo a_uq r1.2.2.1 r1.2.2.2.1 r1.2.2.2.2 ++ wO G a_out c_out) H → va_D A (wB G a_s a_t a_ao a_bo a_uo a_go c_sort r1.2.1 ++ wT G a_t u9.1 u9.2 a_fr a_br a_e0 a_e1 a_e2 a_e3 a_lo a_ho c_c c_cl c_mv c_ml c_en c_rt c_fr c_br c_fi c_st c_vz ++ wK G a_uo a_uq r1.2.2.1 r1.2.2.2.1 r1.2.2.2.2 ++ wO G a_out c_out) → va_S A xs.heap H locs → lv_has ls 4 [] → W xp l xe { frames := 8, cells := rc, slots := 1024 * rc, locals := 187 } xs xm ([.ref a_s, .int p_1, .ref a_out] : List Value).toArray xb xme xc H locs (0 + dr1) (1024 * (0 + dr1)) Q (F0 xm 15 ls [.long z15, .int 0, .ref a_out]) := by
    intro z15 ey H locs ls hP hD hS hl
    subst ey
    try dsimp only at h
    obtain ⟨h16, h⟩ := gi_k h
    refine va_last hx hb hK hP hD hS 12 2 rfl rfl h16 d_Law_move_15 (fun H locs hP hD hS => ?_)
    obtain ⟨c17, ec17⟩ : ∃ y, y = vp_updL c_out (0 : Int32).toNatClampNeg z15 := ⟨_, rfl⟩
    have h := nm_k h c17 ec17
    have hP : va_P G.1 classes (wB G a_s a_t a_ao a_bo a_uo a_go c_sort r1.2.1 ++ wT G a_t u9.1 u9.2 a_fr a_br a_e0 a_e1 a_e2 a_e3 a_lo a_ho c_c c_cl c_mv c_ml c_en c_rt c_fr c_br c_fi c_st c_vz ++ wK G a_uo a_uq r1.2.2.1 r1.2.2.2.1 r1.2.2.2.2 ++ wO G a_out c17) H := by rw [ec17]; exact hP
    have hD : va_D A (wB G a_s a_t a_ao a_bo a_uo a_go c_sort r1.2.1 ++ wT G a_t u9.1 u9.2 a_fr a_br a_e0 a_e1 a_e2 a_e3 a_lo a_ho c_c c_cl c_mv c_ml c_en c_rt c_fr c_br c_fi c_st c_vz ++ wK G a_uo a_uq r1.2.2.1 r1.2.2.2.1 r1.2.2.2.2 ++ wO G a_out c17) := by rw [ec17]; exact hD
    refine lv_goto (tgt := 22) hx hb d_Law_move_16 (by decide) ?_
    refine lv_iconst (v := 0) hx hb d_Law_move_22 (by decide) ?_
    have ey := Option.some.inj h
    rw [← ey] at hRa hRc
    have hRa : r0 = (0, r1.2.1, r1.2.2.1, r1.2.2.2.1, r1.2.2.2.2, c17) := hRa
    have hRc : rc = 0 + dr1 + 0 := hRc
    subst hRa
    exact zreti (u9.1, u9.2) hQ hS.2.2 hx hb hr hlocks hP hD hS rfl (by omega) (by omega) d_Law_move_23
  have h := hy13
  refine lv_if_eq (tgt := 14) hx hb d_Law_move_7 (by decide) (fun q12 => ?_) (fun q12 => ?_)
  · have h := it h q12
    refine lv_lconst (v := 0) hx hb d_Law_move_14 (by decide) ?_
    exact J15 0 (Option.some.inj h) H locs ls hP hD hS (lv_sub hl [] rfl)
  · have h := ie h q12
    refine lv_lconst (v := 1) hx hb d_Law_move_10 (by decide) ?_
    refine lv_goto (tgt := 15) hx hb d_Law_move_11 (by decide) ?_
    exact J15 1 (Option.some.inj h) H locs ls hP hD hS (lv_sub hl [] rfl)

theorem kv_Law_51 : zKV "BranchStoreLaw" 51 y_Store_length prog_1_method_18_code 2 (some .int) 0 := ⟨k_641, k_642, k_643, k_1, k_644, by decide +kernel⟩
noncomputable def f_Law_length (c_sort : Int32) (c_set : Int32) (c_ut : Int32) (c_out : (Nat → Int64))  : Option ((Int32 × (Nat → Int64)) × Nat) :=
bc (f_Store_length c_sort c_set c_ut) (fun j3 =>
if j3 = 3 then
(some ((1, c_out), 0))
else
(none)) fun r1 =>
gi 0 1 <|
nm (vp_updL c_out (0 : Int32).toNatClampNeg r1.toInt64) fun c10 =>
some ((0, c10), 0)
set_option maxHeartbeats 8000000 in
set_option maxRecDepth 100000 in
theorem c_Law_length (l : Launch) (G : zG) (hfl : l.flags = flags0) (sz : Nat) (a_s a_t a_ao a_bo a_uo a_go a_uq a_out : Nat) (c_sort : Int32) (c_set : Int32) (c_ub : (Nat → Int32)) (c_un : Int32) (c_ut : Int32) (c_out : (Nat → Int64)) (r0 : (Int32 × (Nat → Int64))) (rc : Nat) (hf : f_Law_length c_sort c_set c_ut c_out = some (r0, rc)) :
    Met l y_Law_length (Cond.codeWith y_Law_length method_12_code 3 (some .int) [(0, 8, 11, 30)] :: lw_ok) { frames := 8, cells := rc, slots := 1024 * rc, locals := 131 } (zPcX G sz [.ref a_s, .ref a_out] (wB G a_s a_t a_ao a_bo a_uo a_go c_sort c_set ++ wK G a_uo a_uq c_ub c_un c_ut ++ wO G a_out c_out))
      ((fun (A : Nat → Prop) => va_Qi (fun (r : Int32) (_ : Unit) => r = r0.1) (fun _ t => zB G A (wB G a_s a_t a_ao a_bo a_uo a_go c_sort c_set ++ wK G a_uo a_uq c_ub c_un c_ut ++ wO G a_out r0.2) t) A) (va_A (wB G a_s a_t a_ao a_bo a_uo a_go c_sort c_set ++ wK G a_uo a_uq c_ub c_un c_ut ++ wO G a_out c_out) sz)) rc (1024 * rc) (va_A (wB G a_s a_t a_ao a_bo a_uo a_go c_sort c_set ++ wK G a_uo a_uq c_ub c_un c_ut ++ wO G a_out c_out) sz) := by
  refine zMetW (hh := [(0, 8, 11, 30)]) (Qc := fun (A : Nat → Prop) => va_Qi (fun (r : Int32) (_ : Unit) => r = r0.1) (fun _ t => zB G A (wB G a_s a_t a_ao a_bo a_uo a_go c_sort c_set ++ wK G a_uo a_uq c_ub c_un c_ut ++ wO G a_out r0.2) t) A) (by decide) (Nat.le_of_ble_eq_true rfl) (fun xp xe xs xm xb xme xc A ls Q H locs C hex hTs hnA hN hK hP hD hS hA hl hQ => ?_)
  obtain ⟨hx, hb, hr, hts, hown, hlocks, hml, hin⟩ := C
  have hl : lv_has ls 3 [(0, .ref a_s), (1, .ref a_out)] := hl
  have h := hf
  unfold f_Law_length at h
  have hRa : r0 = (r0, rc).1 := rfl
  have hRc : rc = 0 + (r0, rc).2 := (Nat.zero_add _).symm
  refine W.widen (k := 0) (n := 1024 * 0) (Nat.le_refl _) (Nat.le_refl _) ?_
  refine lv_aload_n hx hb d_Law_length_0 rfl (lv_at hl 1 rfl) ?_
  refine lv_iconst (v := 0) hx hb d_Law_length_1 (by decide) ?_
  refine lv_aload_n hx hb d_Law_length_2 rfl (lv_at hl 0 rfl) ?_
  rcases bc_k h hRa hRc with ⟨j3, d4, y6, h5, h, hRa, hRc⟩ | ⟨r1, dr1, y2, hr1, h, hRa, hRc⟩
  · by_cases q7 : j3 = 3
    · have h := it h q7
      subst q7
      refine zcatch (As := []) (x := ⟨0, 8, 11, 30⟩) (post := []) hts hN hown hP hS (zrunX (As := []) (rest := [.int 0, .ref a_out]) ⟨hx, hb, hml, hown, hts⟩ hN hTs hnA hS hK (c_Store_length_x l G hfl H.size a_s a_t a_ao a_bo a_uo a_go a_uq c_sort c_set c_ub c_un c_ut 3 d4 h5) ⟨rfl, rfl⟩ kv_Law_51 ⟨Nat.le_of_ble_eq_true rfl, Nat.le_of_ble_eq_true rfl⟩ 0 rfl rfl rfl hl.1 (Nat.le_of_ble_eq_true rfl) d_Law_length_3 ⟨by show _ ≤ rc; omega, by show _ ≤ 1024 * rc; omega⟩ (hP.sub [0, 1, 2] rfl) (hD.sub [0, 1, 2] (by decide) rfl)) [] hex (fun z hz => absurd hz List.not_mem_nil) (by decide) (by decide) k_553 k_560 k_559 (fun ra8 H hP hS => ?_)
      refine W.widen (k := 0 + d4) (n := 1024 * (0 + d4)) (by omega) (by omega) ?_
      refine lv_astore_n (lv' := [(2, .ref ra8), (0, .ref a_s), (1, .ref a_out)]) hx hb d_Law_length_11 rfl hl (by decide) rfl (fun ls hl => ?_)
      refine lv_iconst (v := 1) hx hb d_Law_length_12 (by decide) ?_
      have ey := Option.some.inj h
      rw [← ey] at hRa hRc
      have hRa : r0 = (1, c_out) := hRa
      have hRc : rc = 0 + d4 + 0 := hRc
      subst hRa
      exact zreti () hQ hS.2.2 hx hb hr hlocks hP hD hS rfl (by omega) (by omega) d_Law_length_13
    have h := ie h q7
    cases h
  refine zcalli (wr := [(a_out, .inl (G.2.2.2, 1, .inr (.inl c_out)))]) (w2 := fun _ => (wB G a_s a_t a_ao a_bo a_uo a_go c_sort c_set ++ wK G a_uo a_uq c_ub c_un c_ut ++ wO G a_out c_out)) (zrunV (As := []) (rest := [.int 0, .ref a_out]) ⟨hx, hb, hml, hown, hts⟩ hN hK (c_Store_length l G H.size a_s a_t a_ao a_bo a_uo a_go a_uq c_sort c_set c_ub c_un c_ut r1 dr1 hr1) ⟨rfl, rfl⟩ kv_Law_51 ⟨Nat.le_of_ble_eq_true rfl, Nat.le_of_ble_eq_true rfl⟩ 0 rfl rfl rfl hl.1 (Nat.le_of_ble_eq_true rfl) d_Law_length_3 ⟨by show _ ≤ rc; omega, by show _ ≤ 1024 * rc; omega⟩) hP hD hS hA [0, 1, 2] [3] [1, 2, 3, 0] rfl rfl rfl rfl (by decide) rfl (fun _ => rfl) (fun rr _ H locs hw hP hD hS => ?_)
  refine W.widen (k := 0 + dr1) (n := 1024 * (0 + dr1)) (by omega) (by omega) ?_
  have hw := hw.symm
  subst hw
  refine lv_i2l (v := r1.toInt64) hx hb d_Law_length_6 rfl ?_
  obtain ⟨h9, h⟩ := gi_k h
  refine va_last hx hb hK hP hD hS 3 2 rfl rfl h9 d_Law_length_7 (fun H locs hP hD hS => ?_)
  obtain ⟨c10, ec10⟩ : ∃ y, y = vp_updL c_out (0 : Int32).toNatClampNeg r1.toInt64 := ⟨_, rfl⟩
  have h := nm_k h c10 ec10
  have hP : va_P G.1 classes (wB G a_s a_t a_ao a_bo a_uo a_go c_sort c_set ++ wK G a_uo a_uq c_ub c_un c_ut ++ wO G a_out c10) H := by rw [ec10]; exact hP
  have hD : va_D A (wB G a_s a_t a_ao a_bo a_uo a_go c_sort c_set ++ wK G a_uo a_uq c_ub c_un c_ut ++ wO G a_out c10) := by rw [ec10]; exact hD
  refine lv_goto (tgt := 14) hx hb d_Law_length_8 (by decide) ?_
  refine lv_iconst (v := 0) hx hb d_Law_length_14 (by decide) ?_
  have ey := Option.some.inj h
  rw [← ey] at hRa hRc
  have hRa : r0 = (0, c10) := hRa
  have hRc : rc = 0 + dr1 + 0 := hRc
  subst hRa
  exact zreti () hQ hS.2.2 hx hb hr hlocks hP hD hS rfl (by omega) (by omega) d_Law_length_15

theorem kv_Law_55 : zKV "BranchStoreLaw" 55 y_Store_part prog_1_method_19_code 3 (some .long) 1 := ⟨k_649, k_650, k_651, k_1, k_652, by decide +kernel⟩
noncomputable def f_Law_part (c_sort : Int32) (c_set : Int32) (c_ub : (Nat → Int32)) (c_ut : Int32) (c_out : (Nat → Int64)) (p_1 : Int32) : Option ((Int32 × (Nat → Int64)) × Nat) :=
bc (f_Store_part c_sort c_set c_ub c_ut p_1) (fun j3 =>
if j3 = 3 then
(some ((1, c_out), 0))
else
(if j3 = 4 then
(some ((2, c_out), 0))
else
(none))) fun r1 =>
gi 0 1 <|
nm (vp_updL c_out (0 : Int32).toNatClampNeg r1) fun c12 =>
some ((0, c12), 0)
set_option maxHeartbeats 8000000 in
set_option maxRecDepth 100000 in
theorem c_Law_part (l : Launch) (G : zG) (hfl : l.flags = flags0) (sz : Nat) (a_s a_t a_ao a_bo a_uo a_go a_uq a_out : Nat) (c_sort : Int32) (c_set : Int32) (c_ub : (Nat → Int32)) (c_un : Int32) (c_ut : Int32) (c_out : (Nat → Int64)) (p_1 : Int32) (r0 : (Int32 × (Nat → Int64))) (rc : Nat) (hf : f_Law_part c_sort c_set c_ub c_ut c_out p_1 = some (r0, rc)) :
    Met l y_Law_part (Cond.codeWith y_Law_part method_13_code 4 (some .int) [(0, 8, 11, 30), (0, 8, 14, 59)] :: lw_ok) { frames := 8, cells := rc, slots := 1024 * rc, locals := 132 } (zPcX G sz [.ref a_s, .int p_1, .ref a_out] (wB G a_s a_t a_ao a_bo a_uo a_go c_sort c_set ++ wK G a_uo a_uq c_ub c_un c_ut ++ wO G a_out c_out))
      ((fun (A : Nat → Prop) => va_Qi (fun (r : Int32) (_ : Unit) => r = r0.1) (fun _ t => zB G A (wB G a_s a_t a_ao a_bo a_uo a_go c_sort c_set ++ wK G a_uo a_uq c_ub c_un c_ut ++ wO G a_out r0.2) t) A) (va_A (wB G a_s a_t a_ao a_bo a_uo a_go c_sort c_set ++ wK G a_uo a_uq c_ub c_un c_ut ++ wO G a_out c_out) sz)) rc (1024 * rc) (va_A (wB G a_s a_t a_ao a_bo a_uo a_go c_sort c_set ++ wK G a_uo a_uq c_ub c_un c_ut ++ wO G a_out c_out) sz) := by
  refine zMetW (hh := [(0, 8, 11, 30), (0, 8, 14, 59)]) (Qc := fun (A : Nat → Prop) => va_Qi (fun (r : Int32) (_ : Unit) => r = r0.1) (fun _ t => zB G A (wB G a_s a_t a_ao a_bo a_uo a_go c_sort c_set ++ wK G a_uo a_uq c_ub c_un c_ut ++ wO G a_out r0.2) t) A) (by decide) (Nat.le_of_ble_eq_true rfl) (fun xp xe xs xm xb xme xc A ls Q H locs C hex hTs hnA hN hK hP hD hS hA hl hQ => ?_)
  obtain ⟨hx, hb, hr, hts, hown, hlocks, hml, hin⟩ := C
  have hl : lv_has ls 4 [(0, .ref a_s), (1, .int p_1), (2, .ref a_out)] := hl
  have h := hf
  unfold f_Law_part at h
  have hRa : r0 = (r0, rc).1 := rfl
  have hRc : rc = 0 + (r0, rc).2 := (Nat.zero_add _).symm
  refine W.widen (k := 0) (n := 1024 * 0) (Nat.le_refl _) (Nat.le_refl _) ?_
  refine lv_aload_n hx hb d_Law_part_0 rfl (lv_at hl 2 rfl) ?_
  refine lv_iconst (v := 0) hx hb d_Law_part_1 (by decide) ?_
  refine lv_aload_n hx hb d_Law_part_2 rfl (lv_at hl 0 rfl) ?_
  refine lv_iload_n hx hb d_Law_part_3 rfl (lv_at hl 1 rfl) ?_
  rcases bc_k h hRa hRc with ⟨j3, d4, y6, h5, h, hRa, hRc⟩ | ⟨r1, dr1, y2, hr1, h, hRa, hRc⟩
  · by_cases q7 : j3 = 3
    · have h := it h q7
      subst q7
      refine zcatch (As := [.int p_1]) (x := ⟨0, 8, 11, 30⟩) (post := [⟨0, 8, 14, 59⟩]) hts hN hown hP hS (zrunX (As := [.int p_1]) (rest := [.int 0, .ref a_out]) ⟨hx, hb, hml, hown, hts⟩ hN hTs hnA hS hK (c_Store_part_x l G hfl H.size a_s a_t a_ao a_bo a_uo a_go a_uq c_sort c_set c_ub c_un c_ut p_1 3 d4 h5) ⟨rfl, rfl⟩ kv_Law_55 ⟨Nat.le_of_ble_eq_true rfl, Nat.le_of_ble_eq_true rfl⟩ 0 rfl rfl rfl hl.1 (Nat.le_of_ble_eq_true rfl) d_Law_part_4 ⟨by show _ ≤ rc; omega, by show _ ≤ 1024 * rc; omega⟩ (hP.sub [0, 1, 2] rfl) (hD.sub [0, 1, 2] (by decide) rfl)) [] hex (fun z hz => absurd hz List.not_mem_nil) (by decide) (by decide) k_553 k_560 k_559 (fun ra8 H hP hS => ?_)
      refine W.widen (k := 0 + d4) (n := 1024 * (0 + d4)) (by omega) (by omega) ?_
      refine lv_astore_n (lv' := [(3, .ref ra8), (0, .ref a_s), (1, .int p_1), (2, .ref a_out)]) hx hb d_Law_part_11 rfl hl (by decide) rfl (fun ls hl => ?_)
      refine lv_iconst (v := 1) hx hb d_Law_part_12 (by decide) ?_
      have ey := Option.some.inj h
      rw [← ey] at hRa hRc
      have hRa : r0 = (1, c_out) := hRa
      have hRc : rc = 0 + d4 + 0 := hRc
      subst hRa
      exact zreti () hQ hS.2.2 hx hb hr hlocks hP hD hS rfl (by omega) (by omega) d_Law_part_13
    have h := ie h q7
    by_cases q9 : j3 = 4
    · have h := it h q9
      subst q9
      refine zcatch (As := [.int p_1]) (x := ⟨0, 8, 14, 59⟩) (post := []) hts hN hown hP hS (zrunX (As := [.int p_1]) (rest := [.int 0, .ref a_out]) ⟨hx, hb, hml, hown, hts⟩ hN hTs hnA hS hK (c_Store_part_x l G hfl H.size a_s a_t a_ao a_bo a_uo a_go a_uq c_sort c_set c_ub c_un c_ut p_1 4 d4 h5) ⟨rfl, rfl⟩ kv_Law_55 ⟨Nat.le_of_ble_eq_true rfl, Nat.le_of_ble_eq_true rfl⟩ 0 rfl rfl rfl hl.1 (Nat.le_of_ble_eq_true rfl) d_Law_part_4 ⟨by show _ ≤ rc; omega, by show _ ≤ 1024 * rc; omega⟩ (hP.sub [0, 1, 2] rfl) (hD.sub [0, 1, 2] (by decide) rfl)) [⟨0, 8, 11, 30⟩] hex (fun z hz => by
        simp only [List.mem_cons, List.not_mem_nil, or_false] at hz
        rcases hz with rfl
        · exact ⟨by decide, by decide, _, k_553, hTs.2.2.2.2.2.2.2⟩) (by decide) (by decide) k_648 k_655 k_654 (fun ra10 H hP hS => ?_)
      refine W.widen (k := 0 + d4) (n := 1024 * (0 + d4)) (by omega) (by omega) ?_
      refine lv_astore_n (lv' := [(3, .ref ra10), (0, .ref a_s), (1, .int p_1), (2, .ref a_out)]) hx hb d_Law_part_14 rfl hl (by decide) rfl (fun ls hl => ?_)
      refine lv_iconst (v := 2) hx hb d_Law_part_15 (by decide) ?_
      have ey := Option.some.inj h
      rw [← ey] at hRa hRc
      have hRa : r0 = (2, c_out) := hRa
      have hRc : rc = 0 + d4 + 0 := hRc
      subst hRa
      exact zreti () hQ hS.2.2 hx hb hr hlocks hP hD hS rfl (by omega) (by omega) d_Law_part_16
    have h := ie h q9
    cases h
  refine zcalll (wr := [(a_out, .inl (G.2.2.2, 1, .inr (.inl c_out)))]) (w2 := fun _ => (wB G a_s a_t a_ao a_bo a_uo a_go c_sort c_set ++ wK G a_uo a_uq c_ub c_un c_ut ++ wO G a_out c_out)) (zrunV (As := [.int p_1]) (rest := [.int 0, .ref a_out]) ⟨hx, hb, hml, hown, hts⟩ hN hK (c_Store_part l G H.size a_s a_t a_ao a_bo a_uo a_go a_uq c_sort c_set c_ub c_un c_ut p_1 r1 dr1 hr1) ⟨rfl, rfl⟩ kv_Law_55 ⟨Nat.le_of_ble_eq_true rfl, Nat.le_of_ble_eq_true rfl⟩ 0 rfl rfl rfl hl.1 (Nat.le_of_ble_eq_true rfl) d_Law_part_4 ⟨by show _ ≤ rc; omega, by show _ ≤ 1024 * rc; omega⟩) hP hD hS hA [0, 1, 2] [3] [1, 2, 3, 0] rfl rfl rfl rfl (by decide) rfl (fun _ => rfl) (fun rr _ H locs hw hP hD hS => ?_)
  refine W.widen (k := 0 + dr1) (n := 1024 * (0 + dr1)) (by omega) (by omega) ?_
  have hw := hw.symm
  subst hw
  obtain ⟨h11, h⟩ := gi_k h
  refine va_last hx hb hK hP hD hS 3 2 rfl rfl h11 d_Law_part_7 (fun H locs hP hD hS => ?_)
  obtain ⟨c12, ec12⟩ : ∃ y, y = vp_updL c_out (0 : Int32).toNatClampNeg r1 := ⟨_, rfl⟩
  have h := nm_k h c12 ec12
  have hP : va_P G.1 classes (wB G a_s a_t a_ao a_bo a_uo a_go c_sort c_set ++ wK G a_uo a_uq c_ub c_un c_ut ++ wO G a_out c12) H := by rw [ec12]; exact hP
  have hD : va_D A (wB G a_s a_t a_ao a_bo a_uo a_go c_sort c_set ++ wK G a_uo a_uq c_ub c_un c_ut ++ wO G a_out c12) := by rw [ec12]; exact hD
  refine lv_goto (tgt := 17) hx hb d_Law_part_8 (by decide) ?_
  refine lv_iconst (v := 0) hx hb d_Law_part_17 (by decide) ?_
  have ey := Option.some.inj h
  rw [← ey] at hRa hRc
  have hRa : r0 = (0, c12) := hRa
  have hRc : rc = 0 + dr1 + 0 := hRc
  subst hRa
  exact zreti () hQ hS.2.2 hx hb hr hlocks hP hD hS rfl (by omega) (by omega) d_Law_part_18

theorem kv_Law_61 : zKV "BranchStoreLaw" 61 y_Store_value prog_1_method_20_code 1 (some .long) 0 := ⟨k_679, k_680, k_681, k_1, k_682, by decide +kernel⟩
noncomputable def f_Law_value (c_set : Int32) (c_c : (Nat → Int32)) (c_cl : Nat) (c_rt : Int32) (c_ub : (Nat → Int32)) (c_un : Int32) (c_out : (Nat → Int64))  : Option ((Int32 × (Nat → Int64)) × Nat) :=
bc (f_Store_value c_set c_c c_cl c_rt c_ub c_un) (fun j3 =>
if j3 = 3 then
(some ((1, c_out), 0))
else
(none)) fun r1 =>
gi 0 1 <|
nm (vp_updL c_out (0 : Int32).toNatClampNeg r1) fun c11 =>
some ((0, c11), 0)
set_option maxHeartbeats 8000000 in
set_option maxRecDepth 100000 in
theorem c_Law_value (l : Launch) (G : zG) (hfl : l.flags = flags0) (sz : Nat) (a_s a_t a_ao a_bo a_uo a_go a_c a_mv a_fr a_br a_e0 a_e1 a_e2 a_e3 a_lo a_ho a_uq a_out : Nat) (c_sort : Int32) (c_set : Int32) (c_c : (Nat → Int32)) (c_cl : Nat) (c_mv : (Nat → Int32)) (c_ml : Nat) (c_en : Int32) (c_rt : Int32) (c_fr : (Nat → Int32)) (c_br : (Nat → Int32)) (c_fi : Int64) (c_st : Int64) (c_vz : Int64) (c_ub : (Nat → Int32)) (c_un : Int32) (c_ut : Int32) (c_out : (Nat → Int64)) (r0 : (Int32 × (Nat → Int64))) (rc : Nat) (hf : f_Law_value c_set c_c c_cl c_rt c_ub c_un c_out = some (r0, rc)) :
    Met l y_Law_value (Cond.codeWith y_Law_value method_14_code 3 (some .int) [(0, 7, 10, 30)] :: lw_ok) { frames := 8, cells := rc, slots := 1024 * rc, locals := 158 } (zPcX G sz [.ref a_s, .ref a_out] (wB G a_s a_t a_ao a_bo a_uo a_go c_sort c_set ++ wT G a_t a_c a_mv a_fr a_br a_e0 a_e1 a_e2 a_e3 a_lo a_ho c_c c_cl c_mv c_ml c_en c_rt c_fr c_br c_fi c_st c_vz ++ wK G a_uo a_uq c_ub c_un c_ut ++ wO G a_out c_out))
      ((fun (A : Nat → Prop) => va_Qi (fun (r : Int32) (u : Nat × Nat) => r = r0.1) (fun u t => zB G A (wB G a_s a_t a_ao a_bo a_uo a_go c_sort c_set ++ wT G a_t u.1 u.2 a_fr a_br a_e0 a_e1 a_e2 a_e3 a_lo a_ho c_c c_cl c_mv c_ml c_en c_rt c_fr c_br c_fi c_st c_vz ++ wK G a_uo a_uq c_ub c_un c_ut ++ wO G a_out r0.2) t) A) (va_A (wB G a_s a_t a_ao a_bo a_uo a_go c_sort c_set ++ wT G a_t a_c a_mv a_fr a_br a_e0 a_e1 a_e2 a_e3 a_lo a_ho c_c c_cl c_mv c_ml c_en c_rt c_fr c_br c_fi c_st c_vz ++ wK G a_uo a_uq c_ub c_un c_ut ++ wO G a_out c_out) sz)) rc (1024 * rc) (va_A (wB G a_s a_t a_ao a_bo a_uo a_go c_sort c_set ++ wT G a_t a_c a_mv a_fr a_br a_e0 a_e1 a_e2 a_e3 a_lo a_ho c_c c_cl c_mv c_ml c_en c_rt c_fr c_br c_fi c_st c_vz ++ wK G a_uo a_uq c_ub c_un c_ut ++ wO G a_out c_out) sz) := by
  refine zMetW (hh := [(0, 7, 10, 30)]) (Qc := fun (A : Nat → Prop) => va_Qi (fun (r : Int32) (u : Nat × Nat) => r = r0.1) (fun u t => zB G A (wB G a_s a_t a_ao a_bo a_uo a_go c_sort c_set ++ wT G a_t u.1 u.2 a_fr a_br a_e0 a_e1 a_e2 a_e3 a_lo a_ho c_c c_cl c_mv c_ml c_en c_rt c_fr c_br c_fi c_st c_vz ++ wK G a_uo a_uq c_ub c_un c_ut ++ wO G a_out r0.2) t) A) (by decide) (Nat.le_of_ble_eq_true rfl) (fun xp xe xs xm xb xme xc A ls Q H locs C hex hTs hnA hN hK hP hD hS hA hl hQ => ?_)
  obtain ⟨hx, hb, hr, hts, hown, hlocks, hml, hin⟩ := C
  have hl : lv_has ls 3 [(0, .ref a_s), (1, .ref a_out)] := hl
  have h := hf
  unfold f_Law_value at h
  have hRa : r0 = (r0, rc).1 := rfl
  have hRc : rc = 0 + (r0, rc).2 := (Nat.zero_add _).symm
  refine W.widen (k := 0) (n := 1024 * 0) (Nat.le_refl _) (Nat.le_refl _) ?_
  refine lv_aload_n hx hb d_Law_value_0 rfl (lv_at hl 1 rfl) ?_
  refine lv_iconst (v := 0) hx hb d_Law_value_1 (by decide) ?_
  refine lv_aload_n hx hb d_Law_value_2 rfl (lv_at hl 0 rfl) ?_
  rcases bc_k h hRa hRc with ⟨j3, d4, y6, h5, h, hRa, hRc⟩ | ⟨r1, dr1, y2, hr1, h, hRa, hRc⟩
  · by_cases q7 : j3 = 3
    · have h := it h q7
      subst q7
      refine zcatch (As := []) (x := ⟨0, 7, 10, 30⟩) (post := []) hts hN hown hP hS (zrunX (As := []) (rest := [.int 0, .ref a_out]) ⟨hx, hb, hml, hown, hts⟩ hN hTs hnA hS hK (c_Store_value_x l G hfl H.size a_s a_t a_ao a_bo a_uo a_go a_c a_mv a_fr a_br a_e0 a_e1 a_e2 a_e3 a_lo a_ho a_uq c_sort c_set c_c c_cl c_mv c_ml c_en c_rt c_fr c_br c_fi c_st c_vz c_ub c_un c_ut 3 d4 h5) ⟨rfl, rfl⟩ kv_Law_61 ⟨Nat.le_of_ble_eq_true rfl, Nat.le_of_ble_eq_true rfl⟩ 0 rfl rfl rfl hl.1 (Nat.le_of_ble_eq_true rfl) d_Law_value_3 ⟨by show _ ≤ rc; omega, by show _ ≤ 1024 * rc; omega⟩ (hP.sub [0, 1, 2, 3, 4, 5, 6, 7, 8, 9, 10, 11] rfl) (hD.sub [0, 1, 2, 3, 4, 5, 6, 7, 8, 9, 10, 11] (by decide) rfl)) [] hex (fun z hz => absurd hz List.not_mem_nil) (by decide) (by decide) k_553 k_560 k_559 (fun ra8 H hP hS => ?_)
      refine W.widen (k := 0 + d4) (n := 1024 * (0 + d4)) (by omega) (by omega) ?_
      refine lv_astore_n (lv' := [(2, .ref ra8), (0, .ref a_s), (1, .ref a_out)]) hx hb d_Law_value_10 rfl hl (by decide) rfl (fun ls hl => ?_)
      refine lv_iconst (v := 1) hx hb d_Law_value_11 (by decide) ?_
      have ey := Option.some.inj h
      rw [← ey] at hRa hRc
      have hRa : r0 = (1, c_out) := hRa
      have hRc : rc = 0 + d4 + 0 := hRc
      subst hRa
      exact zreti (a_c, a_mv) hQ hS.2.2 hx hb hr hlocks hP hD hS rfl (by omega) (by omega) d_Law_value_12
    have h := ie h q7
    cases h
  refine zcalll (wr := [(a_out, .inl (G.2.2.2, 1, .inr (.inl c_out)))]) (w2 := fun (u9 : Nat × Nat) => (wB G a_s a_t a_ao a_bo a_uo a_go c_sort c_set ++ wT G a_t u9.1 u9.2 a_fr a_br a_e0 a_e1 a_e2 a_e3 a_lo a_ho c_c c_cl c_mv c_ml c_en c_rt c_fr c_br c_fi c_st c_vz ++ wK G a_uo a_uq c_ub c_un c_ut ++ wO G a_out c_out)) (zrunV (As := []) (rest := [.int 0, .ref a_out]) ⟨hx, hb, hml, hown, hts⟩ hN hK (c_Store_value l G H.size a_s a_t a_ao a_bo a_uo a_go a_c a_mv a_fr a_br a_e0 a_e1 a_e2 a_e3 a_lo a_ho a_uq c_sort c_set c_c c_cl c_mv c_ml c_en c_rt c_fr c_br c_fi c_st c_vz c_ub c_un c_ut r1 dr1 hr1) ⟨rfl, rfl⟩ kv_Law_61 ⟨Nat.le_of_ble_eq_true rfl, Nat.le_of_ble_eq_true rfl⟩ 0 rfl rfl rfl hl.1 (Nat.le_of_ble_eq_true rfl) d_Law_value_3 ⟨by show _ ≤ rc; omega, by show _ ≤ 1024 * rc; omega⟩) hP hD hS hA [0, 1, 2, 3, 4, 5, 6, 7, 8, 9, 10, 11] [12] [1, 2, 3, 4, 5, 6, 7, 8, 9, 10, 11, 12, 0] rfl rfl rfl rfl (by decide) rfl (fun _ => rfl) (fun rr u9 H locs hw hP hD hS => ?_)
  refine W.widen (k := 0 + dr1) (n := 1024 * (0 + dr1)) (by omega) (by omega) ?_
  have hw := hw.symm
  subst hw
  obtain ⟨h10, h⟩ := gi_k h
  refine va_last hx hb hK hP hD hS 12 2 rfl rfl h10 d_Law_value_6 (fun H locs hP hD hS => ?_)
  obtain ⟨c11, ec11⟩ : ∃ y, y = vp_updL c_out (0 : Int32).toNatClampNeg r1 := ⟨_, rfl⟩
  have h := nm_k h c11 ec11
  have hP : va_P G.1 classes (wB G a_s a_t a_ao a_bo a_uo a_go c_sort c_set ++ wT G a_t u9.1 u9.2 a_fr a_br a_e0 a_e1 a_e2 a_e3 a_lo a_ho c_c c_cl c_mv c_ml c_en c_rt c_fr c_br c_fi c_st c_vz ++ wK G a_uo a_uq c_ub c_un c_ut ++ wO G a_out c11) H := by rw [ec11]; exact hP
  have hD : va_D A (wB G a_s a_t a_ao a_bo a_uo a_go c_sort c_set ++ wT G a_t u9.1 u9.2 a_fr a_br a_e0 a_e1 a_e2 a_e3 a_lo a_ho c_c c_cl c_mv c_ml c_en c_rt c_fr c_br c_fi c_st c_vz ++ wK G a_uo a_uq c_ub c_un c_ut ++ wO G a_out c11) := by rw [ec11]; exact hD
  refine lv_goto (tgt := 13) hx hb d_Law_value_7 (by decide) ?_
  refine lv_iconst (v := 0) hx hb d_Law_value_13 (by decide) ?_
  have ey := Option.some.inj h
  rw [← ey] at hRa hRc
  have hRa : r0 = (0, c11) := hRa
  have hRc : rc = 0 + dr1 + 0 := hRc
  subst hRa
  exact zreti (u9.1, u9.2) hQ hS.2.2 hx hb hr hlocks hP hD hS rfl (by omega) (by omega) d_Law_value_14

theorem kv_Law_64 : zKV "BranchStoreLaw" 64 y_Store_select prog_1_method_22_code 2 none 1 := ⟨k_686, k_687, k_688, k_1, k_689, by decide +kernel⟩
noncomputable def f_Law_select (c_set : Int32) (c_c : (Nat → Int32)) (c_cl : Nat) (c_rt : Int32) (c_ub : (Nat → Int32)) (c_un : Int32) (c_ut : Int32) (p_1 : Int32) : Option ((Int32 × Int32 × (Nat → Int32) × Int32 × Int32) × Nat) :=
bc (f_Store_select c_set c_c c_cl c_rt c_ub c_un c_ut p_1) (fun j3 =>
if j3 = 4 then
(some ((1, c_set, c_ub, c_un, c_ut), 0))
else
(none)) fun r1 =>
some ((0, r1.1, r1.2.1, r1.2.2.1, r1.2.2.2), 0)
set_option maxHeartbeats 8000000 in
set_option maxRecDepth 100000 in
theorem c_Law_select (l : Launch) (G : zG) (hfl : l.flags = flags0) (sz : Nat) (a_s a_t a_ao a_bo a_uo a_go a_c a_mv a_fr a_br a_e0 a_e1 a_e2 a_e3 a_lo a_ho a_uq : Nat) (c_sort : Int32) (c_set : Int32) (c_c : (Nat → Int32)) (c_cl : Nat) (c_mv : (Nat → Int32)) (c_ml : Nat) (c_en : Int32) (c_rt : Int32) (c_fr : (Nat → Int32)) (c_br : (Nat → Int32)) (c_fi : Int64) (c_st : Int64) (c_vz : Int64) (c_ub : (Nat → Int32)) (c_un : Int32) (c_ut : Int32) (p_1 : Int32) (r0 : (Int32 × Int32 × (Nat → Int32) × Int32 × Int32)) (rc : Nat) (hf : f_Law_select c_set c_c c_cl c_rt c_ub c_un c_ut p_1 = some (r0, rc)) :
    Met l y_Law_select (Cond.codeWith y_Law_select method_15_code 3 (some .int) [(0, 5, 8, 59)] :: lw_ok) { frames := 7, cells := rc, slots := 1024 * rc, locals := 162 } (zPcX G sz [.ref a_s, .int p_1] (wB G a_s a_t a_ao a_bo a_uo a_go c_sort c_set ++ wT G a_t a_c a_mv a_fr a_br a_e0 a_e1 a_e2 a_e3 a_lo a_ho c_c c_cl c_mv c_ml c_en c_rt c_fr c_br c_fi c_st c_vz ++ wK G a_uo a_uq c_ub c_un c_ut))
      ((fun (A : Nat → Prop) => va_Qi (fun (r : Int32) (u : Nat × Nat) => r = r0.1) (fun u t => zB G A (wB G a_s a_t a_ao a_bo a_uo a_go c_sort r0.2.1 ++ wT G a_t u.1 u.2 a_fr a_br a_e0 a_e1 a_e2 a_e3 a_lo a_ho c_c c_cl c_mv c_ml c_en c_rt c_fr c_br c_fi c_st c_vz ++ wK G a_uo a_uq r0.2.2.1 r0.2.2.2.1 r0.2.2.2.2) t) A) (va_A (wB G a_s a_t a_ao a_bo a_uo a_go c_sort c_set ++ wT G a_t a_c a_mv a_fr a_br a_e0 a_e1 a_e2 a_e3 a_lo a_ho c_c c_cl c_mv c_ml c_en c_rt c_fr c_br c_fi c_st c_vz ++ wK G a_uo a_uq c_ub c_un c_ut) sz)) rc (1024 * rc) (va_A (wB G a_s a_t a_ao a_bo a_uo a_go c_sort c_set ++ wT G a_t a_c a_mv a_fr a_br a_e0 a_e1 a_e2 a_e3 a_lo a_ho c_c c_cl c_mv c_ml c_en c_rt c_fr c_br c_fi c_st c_vz ++ wK G a_uo a_uq c_ub c_un c_ut) sz) := by
  refine zMetW (hh := [(0, 5, 8, 59)]) (Qc := fun (A : Nat → Prop) => va_Qi (fun (r : Int32) (u : Nat × Nat) => r = r0.1) (fun u t => zB G A (wB G a_s a_t a_ao a_bo a_uo a_go c_sort r0.2.1 ++ wT G a_t u.1 u.2 a_fr a_br a_e0 a_e1 a_e2 a_e3 a_lo a_ho c_c c_cl c_mv c_ml c_en c_rt c_fr c_br c_fi c_st c_vz ++ wK G a_uo a_uq r0.2.2.1 r0.2.2.2.1 r0.2.2.2.2) t) A) (by decide) (Nat.le_of_ble_eq_true rfl) (fun xp xe xs xm xb xme xc A ls Q H locs C hex hTs hnA hN hK hP hD hS hA hl hQ => ?_)
  obtain ⟨hx, hb, hr, hts, hown, hlocks, hml, hin⟩ := C
  have hl : lv_has ls 3 [(0, .ref a_s), (1, .int p_1)] := hl
  have h := hf
  unfold f_Law_select at h
  have hRa : r0 = (r0, rc).1 := rfl
  have hRc : rc = 0 + (r0, rc).2 := (Nat.zero_add _).symm
  refine W.widen (k := 0) (n := 1024 * 0) (Nat.le_refl _) (Nat.le_refl _) ?_
  refine lv_aload_n hx hb d_Law_select_0 rfl (lv_at hl 0 rfl) ?_
  refine lv_iload_n hx hb d_Law_select_1 rfl (lv_at hl 1 rfl) ?_
  rcases bc_k h hRa hRc with ⟨j3, d4, y6, h5, h, hRa, hRc⟩ | ⟨r1, dr1, y2, hr1, h, hRa, hRc⟩
  · by_cases q7 : j3 = 4
    · have h := it h q7
      subst q7
      refine zcatch (As := [.int p_1]) (x := ⟨0, 5, 8, 59⟩) (post := []) hts hN hown hP hS (zrunX (As := [.int p_1]) (rest := []) ⟨hx, hb, hml, hown, hts⟩ hN hTs hnA hS hK (c_Store_select_x l G hfl H.size a_s a_t a_ao a_bo a_uo a_go a_c a_mv a_fr a_br a_e0 a_e1 a_e2 a_e3 a_lo a_ho a_uq c_sort c_set c_c c_cl c_mv c_ml c_en c_rt c_fr c_br c_fi c_st c_vz c_ub c_un c_ut p_1 4 d4 h5) ⟨rfl, rfl⟩ kv_Law_64 ⟨Nat.le_of_ble_eq_true rfl, Nat.le_of_ble_eq_true rfl⟩ 0 rfl rfl rfl hl.1 (Nat.le_of_ble_eq_true rfl) d_Law_select_2 ⟨by show _ ≤ rc; omega, by show _ ≤ 1024 * rc; omega⟩ (hP.sub [0, 1, 2, 3, 4, 5, 6, 7, 8, 9, 10, 11] rfl) (hD.sub [0, 1, 2, 3, 4, 5, 6, 7, 8, 9, 10, 11] (by decide) rfl)) [] hex (fun z hz => absurd hz List.not_mem_nil) (by decide) (by decide) k_648 k_655 k_654 (fun ra8 H hP hS => ?_)
      refine W.widen (k := 0 + d4) (n := 1024 * (0 + d4)) (by omega) (by omega) ?_
      refine lv_astore_n (lv' := [(2, .ref ra8), (0, .ref a_s), (1, .int p_1)]) hx hb d_Law_select_8 rfl hl (by decide) rfl (fun ls hl => ?_)
      refine lv_iconst (v := 1) hx hb d_Law_select_9 (by decide) ?_
      have ey := Option.some.inj h
      rw [← ey] at hRa hRc
      have hRa : r0 = (1, c_set, c_ub, c_un, c_ut) := hRa
      have hRc : rc = 0 + d4 + 0 := hRc
      subst hRa
      exact zreti (a_c, a_mv) hQ hS.2.2 hx hb hr hlocks hP hD hS rfl (by omega) (by omega) d_Law_select_10
    have h := ie h q7
    cases h
  refine zcallv (wr := []) (w2 := fun (u9 : Nat × Nat) => (wB G a_s a_t a_ao a_bo a_uo a_go c_sort r1.1 ++ wT G a_t u9.1 u9.2 a_fr a_br a_e0 a_e1 a_e2 a_e3 a_lo a_ho c_c c_cl c_mv c_ml c_en c_rt c_fr c_br c_fi c_st c_vz ++ wK G a_uo a_uq r1.2.1 r1.2.2.1 r1.2.2.2)) (zrunV (As := [.int p_1]) (rest := []) ⟨hx, hb, hml, hown, hts⟩ hN hK (c_Store_select l G H.size a_s a_t a_ao a_bo a_uo a_go a_c a_mv a_fr a_br a_e0 a_e1 a_e2 a_e3 a_lo a_ho a_uq c_sort c_set c_c c_cl c_mv c_ml c_en c_rt c_fr c_br c_fi c_st c_vz c_ub c_un c_ut p_1 r1 dr1 hr1) ⟨rfl, rfl⟩ kv_Law_64 ⟨Nat.le_of_ble_eq_true rfl, Nat.le_of_ble_eq_true rfl⟩ 0 rfl rfl rfl hl.1 (Nat.le_of_ble_eq_true rfl) d_Law_select_2 ⟨by show _ ≤ rc; omega, by show _ ≤ 1024 * rc; omega⟩) hP hD hS hA [0, 1, 2, 3, 4, 5, 6, 7, 8, 9, 10, 11] [] [0, 1, 2, 3, 4, 5, 6, 7, 8, 9, 10, 11] rfl rfl rfl rfl (by decide) rfl (fun _ => rfl) (fun u9 H locs _ hP hD hS => ?_)
  refine W.widen (k := 0 + dr1) (n := 1024 * (0 + dr1)) (by omega) (by omega) ?_
  refine lv_goto (tgt := 11) hx hb d_Law_select_5 (by decide) ?_
  refine lv_iconst (v := 0) hx hb d_Law_select_11 (by decide) ?_
  have ey := Option.some.inj h
  rw [← ey] at hRa hRc
  have hRa : r0 = (0, r1.1, r1.2.1, r1.2.2.1, r1.2.2.2) := hRa
  have hRc : rc = 0 + dr1 + 0 := hRc
  subst hRa
  exact zreti (u9.1, u9.2) hQ hS.2.2 hx hb hr hlocks hP hD hS rfl (by omega) (by omega) d_Law_select_12

theorem kv_Law_68 : zKV "BranchStoreLaw" 68 y_Store_begins prog_1_method_25_code 1 (some .int) 0 := ⟨k_693, k_694, k_695, k_1, k_696, by decide +kernel⟩
noncomputable def f_Law_begins (c_sort : Int32) (c_c : (Nat → Int32)) (c_cl : Nat) (c_rt : Int32) (c_ab : (Nat → Int32)) (c_an : Int32) (c_out : (Nat → Int64))  : Option ((Int32 × (Nat → Int64)) × Nat) :=
bc (f_Store_begins c_sort c_c c_cl c_rt c_ab c_an) (fun j3 =>
if j3 = 0 then
(some ((1, c_out), 0))
else
(none)) fun r1 =>
gi 0 1 <|
nm (vp_updL c_out (0 : Int32).toNatClampNeg r1.toInt64) fun c11 =>
some ((0, c11), 0)
set_option maxHeartbeats 8000000 in
set_option maxRecDepth 100000 in
theorem c_Law_begins (l : Launch) (G : zG) (hfl : l.flags = flags0) (sz : Nat) (a_s a_t a_ao a_bo a_uo a_go a_c a_mv a_fr a_br a_e0 a_e1 a_e2 a_e3 a_lo a_ho a_aq a_out : Nat) (c_sort : Int32) (c_set : Int32) (c_c : (Nat → Int32)) (c_cl : Nat) (c_mv : (Nat → Int32)) (c_ml : Nat) (c_en : Int32) (c_rt : Int32) (c_fr : (Nat → Int32)) (c_br : (Nat → Int32)) (c_fi : Int64) (c_st : Int64) (c_vz : Int64) (c_ab : (Nat → Int32)) (c_an : Int32) (c_at : Int32) (c_out : (Nat → Int64)) (r0 : (Int32 × (Nat → Int64))) (rc : Nat) (hf : f_Law_begins c_sort c_c c_cl c_rt c_ab c_an c_out = some (r0, rc)) :
    Met l y_Law_begins (Cond.codeWith y_Law_begins method_16_code 3 (some .int) [(0, 8, 11, 13)] :: lw_ok) { frames := 7, cells := rc, slots := 1024 * rc, locals := 160 } (zPcX G sz [.ref a_s, .ref a_out] (wB G a_s a_t a_ao a_bo a_uo a_go c_sort c_set ++ wT G a_t a_c a_mv a_fr a_br a_e0 a_e1 a_e2 a_e3 a_lo a_ho c_c c_cl c_mv c_ml c_en c_rt c_fr c_br c_fi c_st c_vz ++ wK G a_ao a_aq c_ab c_an c_at ++ wO G a_out c_out))
      ((fun (A : Nat → Prop) => va_Qi (fun (r : Int32) (u : Nat × Nat) => r = r0.1) (fun u t => zB G A (wB G a_s a_t a_ao a_bo a_uo a_go c_sort c_set ++ wT G a_t u.1 u.2 a_fr a_br a_e0 a_e1 a_e2 a_e3 a_lo a_ho c_c c_cl c_mv c_ml c_en c_rt c_fr c_br c_fi c_st c_vz ++ wK G a_ao a_aq c_ab c_an c_at ++ wO G a_out r0.2) t) A) (va_A (wB G a_s a_t a_ao a_bo a_uo a_go c_sort c_set ++ wT G a_t a_c a_mv a_fr a_br a_e0 a_e1 a_e2 a_e3 a_lo a_ho c_c c_cl c_mv c_ml c_en c_rt c_fr c_br c_fi c_st c_vz ++ wK G a_ao a_aq c_ab c_an c_at ++ wO G a_out c_out) sz)) rc (1024 * rc) (va_A (wB G a_s a_t a_ao a_bo a_uo a_go c_sort c_set ++ wT G a_t a_c a_mv a_fr a_br a_e0 a_e1 a_e2 a_e3 a_lo a_ho c_c c_cl c_mv c_ml c_en c_rt c_fr c_br c_fi c_st c_vz ++ wK G a_ao a_aq c_ab c_an c_at ++ wO G a_out c_out) sz) := by
  refine zMetW (hh := [(0, 8, 11, 13)]) (Qc := fun (A : Nat → Prop) => va_Qi (fun (r : Int32) (u : Nat × Nat) => r = r0.1) (fun u t => zB G A (wB G a_s a_t a_ao a_bo a_uo a_go c_sort c_set ++ wT G a_t u.1 u.2 a_fr a_br a_e0 a_e1 a_e2 a_e3 a_lo a_ho c_c c_cl c_mv c_ml c_en c_rt c_fr c_br c_fi c_st c_vz ++ wK G a_ao a_aq c_ab c_an c_at ++ wO G a_out r0.2) t) A) (by decide) (Nat.le_of_ble_eq_true rfl) (fun xp xe xs xm xb xme xc A ls Q H locs C hex hTs hnA hN hK hP hD hS hA hl hQ => ?_)
  obtain ⟨hx, hb, hr, hts, hown, hlocks, hml, hin⟩ := C
  have hl : lv_has ls 3 [(0, .ref a_s), (1, .ref a_out)] := hl
  have h := hf
  unfold f_Law_begins at h
  have hRa : r0 = (r0, rc).1 := rfl
  have hRc : rc = 0 + (r0, rc).2 := (Nat.zero_add _).symm
  refine W.widen (k := 0) (n := 1024 * 0) (Nat.le_refl _) (Nat.le_refl _) ?_
  refine lv_aload_n hx hb d_Law_begins_0 rfl (lv_at hl 1 rfl) ?_
  refine lv_iconst (v := 0) hx hb d_Law_begins_1 (by decide) ?_
  refine lv_aload_n hx hb d_Law_begins_2 rfl (lv_at hl 0 rfl) ?_
  rcases bc_k h hRa hRc with ⟨j3, d4, y6, h5, h, hRa, hRc⟩ | ⟨r1, dr1, y2, hr1, h, hRa, hRc⟩
  · by_cases q7 : j3 = 0
    · have h := it h q7
      subst q7
      refine zcatch (As := []) (x := ⟨0, 8, 11, 13⟩) (post := []) hts hN hown hP hS (zrunX (As := []) (rest := [.int 0, .ref a_out]) ⟨hx, hb, hml, hown, hts⟩ hN hTs hnA hS hK (c_Store_begins_x l G hfl H.size a_s a_t a_ao a_bo a_uo a_go a_c a_mv a_fr a_br a_e0 a_e1 a_e2 a_e3 a_lo a_ho a_aq c_sort c_set c_c c_cl c_mv c_ml c_en c_rt c_fr c_br c_fi c_st c_vz c_ab c_an c_at 0 d4 h5) ⟨rfl, rfl⟩ kv_Law_68 ⟨Nat.le_of_ble_eq_true rfl, Nat.le_of_ble_eq_true rfl⟩ 0 rfl rfl rfl hl.1 (Nat.le_of_ble_eq_true rfl) d_Law_begins_3 ⟨by show _ ≤ rc; omega, by show _ ≤ 1024 * rc; omega⟩ (hP.sub [0, 1, 2, 3, 4, 5, 6, 7, 8, 9, 10, 11] rfl) (hD.sub [0, 1, 2, 3, 4, 5, 6, 7, 8, 9, 10, 11] (by decide) rfl)) [] hex (fun z hz => absurd hz List.not_mem_nil) (by decide) (by decide) k_428 k_435 k_434 (fun ra8 H hP hS => ?_)
      refine W.widen (k := 0 + d4) (n := 1024 * (0 + d4)) (by omega) (by omega) ?_
      refine lv_astore_n (lv' := [(2, .ref ra8), (0, .ref a_s), (1, .ref a_out)]) hx hb d_Law_begins_11 rfl hl (by decide) rfl (fun ls hl => ?_)
      refine lv_iconst (v := 1) hx hb d_Law_begins_12 (by decide) ?_
      have ey := Option.some.inj h
      rw [← ey] at hRa hRc
      have hRa : r0 = (1, c_out) := hRa
      have hRc : rc = 0 + d4 + 0 := hRc
      subst hRa
      exact zreti (a_c, a_mv) hQ hS.2.2 hx hb hr hlocks hP hD hS rfl (by omega) (by omega) d_Law_begins_13
    have h := ie h q7
    cases h
  refine zcalli (wr := [(a_out, .inl (G.2.2.2, 1, .inr (.inl c_out)))]) (w2 := fun (u9 : Nat × Nat) => (wB G a_s a_t a_ao a_bo a_uo a_go c_sort c_set ++ wT G a_t u9.1 u9.2 a_fr a_br a_e0 a_e1 a_e2 a_e3 a_lo a_ho c_c c_cl c_mv c_ml c_en c_rt c_fr c_br c_fi c_st c_vz ++ wK G a_ao a_aq c_ab c_an c_at ++ wO G a_out c_out)) (zrunV (As := []) (rest := [.int 0, .ref a_out]) ⟨hx, hb, hml, hown, hts⟩ hN hK (c_Store_begins l G H.size a_s a_t a_ao a_bo a_uo a_go a_c a_mv a_fr a_br a_e0 a_e1 a_e2 a_e3 a_lo a_ho a_aq c_sort c_set c_c c_cl c_mv c_ml c_en c_rt c_fr c_br c_fi c_st c_vz c_ab c_an c_at r1 dr1 hr1) ⟨rfl, rfl⟩ kv_Law_68 ⟨Nat.le_of_ble_eq_true rfl, Nat.le_of_ble_eq_true rfl⟩ 0 rfl rfl rfl hl.1 (Nat.le_of_ble_eq_true rfl) d_Law_begins_3 ⟨by show _ ≤ rc; omega, by show _ ≤ 1024 * rc; omega⟩) hP hD hS hA [0, 1, 2, 3, 4, 5, 6, 7, 8, 9, 10, 11] [12] [1, 2, 3, 4, 5, 6, 7, 8, 9, 10, 11, 12, 0] rfl rfl rfl rfl (by decide) rfl (fun _ => rfl) (fun rr u9 H locs hw hP hD hS => ?_)
  refine W.widen (k := 0 + dr1) (n := 1024 * (0 + dr1)) (by omega) (by omega) ?_
  have hw := hw.symm
  subst hw
  refine lv_i2l (v := r1.toInt64) hx hb d_Law_begins_6 rfl ?_
  obtain ⟨h10, h⟩ := gi_k h
  refine va_last hx hb hK hP hD hS 12 2 rfl rfl h10 d_Law_begins_7 (fun H locs hP hD hS => ?_)
  obtain ⟨c11, ec11⟩ : ∃ y, y = vp_updL c_out (0 : Int32).toNatClampNeg r1.toInt64 := ⟨_, rfl⟩
  have h := nm_k h c11 ec11
  have hP : va_P G.1 classes (wB G a_s a_t a_ao a_bo a_uo a_go c_sort c_set ++ wT G a_t u9.1 u9.2 a_fr a_br a_e0 a_e1 a_e2 a_e3 a_lo a_ho c_c c_cl c_mv c_ml c_en c_rt c_fr c_br c_fi c_st c_vz ++ wK G a_ao a_aq c_ab c_an c_at ++ wO G a_out c11) H := by rw [ec11]; exact hP
  have hD : va_D A (wB G a_s a_t a_ao a_bo a_uo a_go c_sort c_set ++ wT G a_t u9.1 u9.2 a_fr a_br a_e0 a_e1 a_e2 a_e3 a_lo a_ho c_c c_cl c_mv c_ml c_en c_rt c_fr c_br c_fi c_st c_vz ++ wK G a_ao a_aq c_ab c_an c_at ++ wO G a_out c11) := by rw [ec11]; exact hD
  refine lv_goto (tgt := 14) hx hb d_Law_begins_8 (by decide) ?_
  refine lv_iconst (v := 0) hx hb d_Law_begins_14 (by decide) ?_
  have ey := Option.some.inj h
  rw [← ey] at hRa hRc
  have hRa : r0 = (0, c11) := hRa
  have hRc : rc = 0 + dr1 + 0 := hRc
  subst hRa
  exact zreti (u9.1, u9.2) hQ hS.2.2 hx hb hr hlocks hP hD hS rfl (by omega) (by omega) d_Law_begins_15

theorem kv_Law_71 : zKV "BranchStoreLaw" 71 y_Store_load prog_1_method_26_code 8 none 3 := ⟨k_704, k_705, k_706, k_1, k_707, by decide +kernel⟩
noncomputable def f_Law_load (c_sort : Int32) (c_c : (Nat → Int32)) (c_cl : Nat) (c_en : Int32) (c_rt : Int32) (c_fr : (Nat → Int32)) (c_br : (Nat → Int32)) (c_fi : Int64) (c_st : Int64) (c_vz : Int64) (c_lb : (Nat → Int32)) (c_ln : Int32) (c_lt : Int32) (c_hb : (Nat → Int32)) (c_hn : Int32) (c_ht : Int32) (c_ab : (Nat → Int32)) (p_1 : Int64) (p_3 : Int32) (p_4 : Int64) : Option ((Int32 × (Nat → Int32) × Nat × Int32 × Int32 × (Nat → Int32) × (Nat → Int32) × Int64 × Int64 × Int64 × (Nat → Int32) × Int32 × Int32 × (Nat → Int32) × Int32 × Int32) × Nat) :=
bc (f_Store_load c_sort c_c c_cl c_en c_rt c_fr c_br c_fi c_st c_vz c_lb c_ln c_lt c_hb c_hn c_ht c_ab p_1 p_3 p_4) (fun j3 =>
if j3 = 0 then
(some ((1, c_c, c_cl, c_en, c_rt, c_fr, c_br, c_fi, c_st, c_vz, c_lb, c_ln, c_lt, c_hb, c_hn, c_ht), 0))
else
(if j3 = 1 then
(some ((2, c_c, c_cl, c_en, c_rt, c_fr, c_br, c_fi, c_st, c_vz, c_lb, c_ln, c_lt, c_hb, c_hn, c_ht), 0))
else
(if j3 = 2 then
(some ((3, c_c, c_cl, c_en, c_rt, c_fr, c_br, c_fi, c_st, c_vz, c_lb, c_ln, c_lt, c_hb, c_hn, c_ht), 0))
else
(none)))) fun r1 =>
some ((0, r1.1, r1.2.1, r1.2.2.1, r1.2.2.2.1, r1.2.2.2.2.1, r1.2.2.2.2.2.1, r1.2.2.2.2.2.2.1, r1.2.2.2.2.2.2.2.1, r1.2.2.2.2.2.2.2.2.1, r1.2.2.2.2.2.2.2.2.2.1, r1.2.2.2.2.2.2.2.2.2.2.1, r1.2.2.2.2.2.2.2.2.2.2.2.1, r1.2.2.2.2.2.2.2.2.2.2.2.2.1, r1.2.2.2.2.2.2.2.2.2.2.2.2.2.1, r1.2.2.2.2.2.2.2.2.2.2.2.2.2.2), 0)
set_option maxHeartbeats 8000000 in
set_option maxRecDepth 100000 in
theorem c_Law_load (l : Launch) (G : zG) (hfl : l.flags = flags0) (sz : Nat) (a_s a_t a_ao a_bo a_uo a_go a_c a_mv a_fr a_br a_e0 a_e1 a_e2 a_e3 a_lo a_ho a_lq a_hq a_aq : Nat) (c_sort : Int32) (c_set : Int32) (c_c : (Nat → Int32)) (c_cl : Nat) (c_mv : (Nat → Int32)) (c_ml : Nat) (c_en : Int32) (c_rt : Int32) (c_fr : (Nat → Int32)) (c_br : (Nat → Int32)) (c_fi : Int64) (c_st : Int64) (c_vz : Int64) (c_lb : (Nat → Int32)) (c_ln : Int32) (c_lt : Int32) (c_hb : (Nat → Int32)) (c_hn : Int32) (c_ht : Int32) (c_ab : (Nat → Int32)) (c_an : Int32) (c_at : Int32) (p_1 : Int64) (p_3 : Int32) (p_4 : Int64) (r0 : (Int32 × (Nat → Int32) × Nat × Int32 × Int32 × (Nat → Int32) × (Nat → Int32) × Int64 × Int64 × Int64 × (Nat → Int32) × Int32 × Int32 × (Nat → Int32) × Int32 × Int32)) (rc : Nat) (hf : f_Law_load c_sort c_c c_cl c_en c_rt c_fr c_br c_fi c_st c_vz c_lb c_ln c_lt c_hb c_hn c_ht c_ab p_1 p_3 p_4 = some (r0, rc)) :
    Met l y_Law_load (Cond.codeWith y_Law_load method_17_code 7 (some .int) [(0, 8, 11, 13), (0, 8, 15, 23), (0, 8, 19, 25)] :: lw_ok) { frames := 67, cells := rc, slots := 1024 * rc, locals := 2015 } (zPcX G sz [.ref a_s, .long p_1, .int p_3, .long p_4] (wB G a_s a_t a_ao a_bo a_uo a_go c_sort c_set ++ wT G a_t a_c a_mv a_fr a_br a_e0 a_e1 a_e2 a_e3 a_lo a_ho c_c c_cl c_mv c_ml c_en c_rt c_fr c_br c_fi c_st c_vz ++ wK G a_lo a_lq c_lb c_ln c_lt ++ wK G a_ho a_hq c_hb c_hn c_ht ++ wK G a_ao a_aq c_ab c_an c_at))
      ((fun (A : Nat → Prop) => va_Qi (fun (r : Int32) (u : Nat × Nat) => r = r0.1) (fun u t => zB G A (wB G a_s a_t a_ao a_bo a_uo a_go c_sort c_set ++ wT G a_t u.1 u.2 a_fr a_br a_e0 a_e1 a_e2 a_e3 a_lo a_ho r0.2.1 r0.2.2.1 c_mv c_ml r0.2.2.2.1 r0.2.2.2.2.1 r0.2.2.2.2.2.1 r0.2.2.2.2.2.2.1 r0.2.2.2.2.2.2.2.1 r0.2.2.2.2.2.2.2.2.1 r0.2.2.2.2.2.2.2.2.2.1 ++ wK G a_lo a_lq r0.2.2.2.2.2.2.2.2.2.2.1 r0.2.2.2.2.2.2.2.2.2.2.2.1 r0.2.2.2.2.2.2.2.2.2.2.2.2.1 ++ wK G a_ho a_hq r0.2.2.2.2.2.2.2.2.2.2.2.2.2.1 r0.2.2.2.2.2.2.2.2.2.2.2.2.2.2.1 r0.2.2.2.2.2.2.2.2.2.2.2.2.2.2.2 ++ wK G a_ao a_aq c_ab c_an c_at) t) A) (va_A (wB G a_s a_t a_ao a_bo a_uo a_go c_sort c_set ++ wT G a_t a_c a_mv a_fr a_br a_e0 a_e1 a_e2 a_e3 a_lo a_ho c_c c_cl c_mv c_ml c_en c_rt c_fr c_br c_fi c_st c_vz ++ wK G a_lo a_lq c_lb c_ln c_lt ++ wK G a_ho a_hq c_hb c_hn c_ht ++ wK G a_ao a_aq c_ab c_an c_at) sz)) rc (1024 * rc) (va_A (wB G a_s a_t a_ao a_bo a_uo a_go c_sort c_set ++ wT G a_t a_c a_mv a_fr a_br a_e0 a_e1 a_e2 a_e3 a_lo a_ho c_c c_cl c_mv c_ml c_en c_rt c_fr c_br c_fi c_st c_vz ++ wK G a_lo a_lq c_lb c_ln c_lt ++ wK G a_ho a_hq c_hb c_hn c_ht ++ wK G a_ao a_aq c_ab c_an c_at) sz) := by
  refine zMetW (hh := [(0, 8, 11, 13), (0, 8, 15, 23), (0, 8, 19, 25)]) (Qc := fun (A : Nat → Prop) => va_Qi (fun (r : Int32) (u : Nat × Nat) => r = r0.1) (fun u t => zB G A (wB G a_s a_t a_ao a_bo a_uo a_go c_sort c_set ++ wT G a_t u.1 u.2 a_fr a_br a_e0 a_e1 a_e2 a_e3 a_lo a_ho r0.2.1 r0.2.2.1 c_mv c_ml r0.2.2.2.1 r0.2.2.2.2.1 r0.2.2.2.2.2.1 r0.2.2.2.2.2.2.1 r0.2.2.2.2.2.2.2.1 r0.2.2.2.2.2.2.2.2.1 r0.2.2.2.2.2.2.2.2.2.1 ++ wK G a_lo a_lq r0.2.2.2.2.2.2.2.2.2.2.1 r0.2.2.2.2.2.2.2.2.2.2.2.1 r0.2.2.2.2.2.2.2.2.2.2.2.2.1 ++ wK G a_ho a_hq r0.2.2.2.2.2.2.2.2.2.2.2.2.2.1 r0.2.2.2.2.2.2.2.2.2.2.2.2.2.2.1 r0.2.2.2.2.2.2.2.2.2.2.2.2.2.2.2 ++ wK G a_ao a_aq c_ab c_an c_at) t) A) (by decide) (Nat.le_of_ble_eq_true rfl) (fun xp xe xs xm xb xme xc A ls Q H locs C hex hTs hnA hN hK hP hD hS hA hl hQ => ?_)
  obtain ⟨hx, hb, hr, hts, hown, hlocks, hml, hin⟩ := C
  have hl : lv_has ls 7 [(0, .ref a_s), (1, .long p_1), (3, .int p_3), (4, .long p_4)] := hl
  have h := hf
  unfold f_Law_load at h
  have hRa : r0 = (r0, rc).1 := rfl
  have hRc : rc = 0 + (r0, rc).2 := (Nat.zero_add _).symm
  refine W.widen (k := 0) (n := 1024 * 0) (Nat.le_refl _) (Nat.le_refl _) ?_
  refine lv_aload_n hx hb d_Law_load_0 rfl (lv_at hl 0 rfl) ?_
  refine lv_lload_n hx hb d_Law_load_1 rfl (lv_at hl 1 rfl) ?_
  refine lv_iload_n hx hb d_Law_load_2 rfl (lv_at hl 2 rfl) ?_
  refine lv_lload hx hb d_Law_load_3 (lv_at hl 3 rfl) ?_
  rcases bc_k h hRa hRc with ⟨j3, d4, y6, h5, h, hRa, hRc⟩ | ⟨r1, dr1, y2, hr1, h, hRa, hRc⟩
  · by_cases q7 : j3 = 0
    · have h := it h q7
      subst q7
      refine zcatch (As := [.long p_1, .int p_3, .long p_4]) (x := ⟨0, 8, 11, 13⟩) (post := [⟨0, 8, 15, 23⟩, ⟨0, 8, 19, 25⟩]) hts hN hown hP hS (zrunX (As := [.long p_1, .int p_3, .long p_4]) (rest := []) ⟨hx, hb, hml, hown, hts⟩ hN hTs hnA hS hK (c_Store_load_x l G hfl H.size a_s a_t a_ao a_bo a_uo a_go a_c a_mv a_fr a_br a_e0 a_e1 a_e2 a_e3 a_lo a_ho a_lq a_hq a_aq c_sort c_set c_c c_cl c_mv c_ml c_en c_rt c_fr c_br c_fi c_st c_vz c_lb c_ln c_lt c_hb c_hn c_ht c_ab c_an c_at p_1 p_3 p_4 0 d4 h5) ⟨rfl, rfl⟩ kv_Law_71 ⟨Nat.le_of_ble_eq_true rfl, Nat.le_of_ble_eq_true rfl⟩ 0 rfl rfl rfl hl.1 (Nat.le_of_ble_eq_true rfl) d_Law_load_5 ⟨by show _ ≤ rc; omega, by show _ ≤ 1024 * rc; omega⟩ (hP.sub [0, 1, 2, 3, 4, 5, 6, 7, 8, 9, 10, 11, 12, 13, 14, 15] rfl) (hD.sub [0, 1, 2, 3, 4, 5, 6, 7, 8, 9, 10, 11, 12, 13, 14, 15] (by decide) rfl)) [] hex (fun z hz => absurd hz List.not_mem_nil) (by decide) (by decide) k_428 k_435 k_434 (fun ra8 H hP hS => ?_)
      refine W.widen (k := 0 + d4) (n := 1024 * (0 + d4)) (by omega) (by omega) ?_
      refine lv_astore (lv' := [(6, .ref ra8), (0, .ref a_s), (1, .long p_1), (3, .int p_3), (4, .long p_4)]) hx hb d_Law_load_11 hl (by decide) rfl (fun ls hl => ?_)
      refine lv_iconst (v := 1) hx hb d_Law_load_13 (by decide) ?_
      have ey := Option.some.inj h
      rw [← ey] at hRa hRc
      have hRa : r0 = (1, c_c, c_cl, c_en, c_rt, c_fr, c_br, c_fi, c_st, c_vz, c_lb, c_ln, c_lt, c_hb, c_hn, c_ht) := hRa
      have hRc : rc = 0 + d4 + 0 := hRc
      subst hRa
      exact zreti (a_c, a_mv) hQ hS.2.2 hx hb hr hlocks hP hD hS rfl (by omega) (by omega) d_Law_load_14
    have h := ie h q7
    by_cases q9 : j3 = 1
    · have h := it h q9
      subst q9
      refine zcatch (As := [.long p_1, .int p_3, .long p_4]) (x := ⟨0, 8, 15, 23⟩) (post := [⟨0, 8, 19, 25⟩]) hts hN hown hP hS (zrunX (As := [.long p_1, .int p_3, .long p_4]) (rest := []) ⟨hx, hb, hml, hown, hts⟩ hN hTs hnA hS hK (c_Store_load_x l G hfl H.size a_s a_t a_ao a_bo a_uo a_go a_c a_mv a_fr a_br a_e0 a_e1 a_e2 a_e3 a_lo a_ho a_lq a_hq a_aq c_sort c_set c_c c_cl c_mv c_ml c_en c_rt c_fr c_br c_fi c_st c_vz c_lb c_ln c_lt c_hb c_hn c_ht c_ab c_an c_at p_1 p_3 p_4 1 d4 h5) ⟨rfl, rfl⟩ kv_Law_71 ⟨Nat.le_of_ble_eq_true rfl, Nat.le_of_ble_eq_true rfl⟩ 0 rfl rfl rfl hl.1 (Nat.le_of_ble_eq_true rfl) d_Law_load_5 ⟨by show _ ≤ rc; omega, by show _ ≤ 1024 * rc; omega⟩ (hP.sub [0, 1, 2, 3, 4, 5, 6, 7, 8, 9, 10, 11, 12, 13, 14, 15] rfl) (hD.sub [0, 1, 2, 3, 4, 5, 6, 7, 8, 9, 10, 11, 12, 13, 14, 15] (by decide) rfl)) [⟨0, 8, 11, 13⟩] hex (fun z hz => by
        simp only [List.mem_cons, List.not_mem_nil, or_false] at hz
        rcases hz with rfl
        · exact ⟨by decide, by decide, _, k_428, hTs.2.2.2.2.1⟩) (by decide) (by decide) k_510 k_518 k_517 (fun ra10 H hP hS => ?_)
      refine W.widen (k := 0 + d4) (n := 1024 * (0 + d4)) (by omega) (by omega) ?_
      refine lv_astore (lv' := [(6, .ref ra10), (0, .ref a_s), (1, .long p_1), (3, .int p_3), (4, .long p_4)]) hx hb d_Law_load_15 hl (by decide) rfl (fun ls hl => ?_)
      refine lv_iconst (v := 2) hx hb d_Law_load_17 (by decide) ?_
      have ey := Option.some.inj h
      rw [← ey] at hRa hRc
      have hRa : r0 = (2, c_c, c_cl, c_en, c_rt, c_fr, c_br, c_fi, c_st, c_vz, c_lb, c_ln, c_lt, c_hb, c_hn, c_ht) := hRa
      have hRc : rc = 0 + d4 + 0 := hRc
      subst hRa
      exact zreti (a_c, a_mv) hQ hS.2.2 hx hb hr hlocks hP hD hS rfl (by omega) (by omega) d_Law_load_18
    have h := ie h q9
    by_cases q11 : j3 = 2
    · have h := it h q11
      subst q11
      refine zcatch (As := [.long p_1, .int p_3, .long p_4]) (x := ⟨0, 8, 19, 25⟩) (post := []) hts hN hown hP hS (zrunX (As := [.long p_1, .int p_3, .long p_4]) (rest := []) ⟨hx, hb, hml, hown, hts⟩ hN hTs hnA hS hK (c_Store_load_x l G hfl H.size a_s a_t a_ao a_bo a_uo a_go a_c a_mv a_fr a_br a_e0 a_e1 a_e2 a_e3 a_lo a_ho a_lq a_hq a_aq c_sort c_set c_c c_cl c_mv c_ml c_en c_rt c_fr c_br c_fi c_st c_vz c_lb c_ln c_lt c_hb c_hn c_ht c_ab c_an c_at p_1 p_3 p_4 2 d4 h5) ⟨rfl, rfl⟩ kv_Law_71 ⟨Nat.le_of_ble_eq_true rfl, Nat.le_of_ble_eq_true rfl⟩ 0 rfl rfl rfl hl.1 (Nat.le_of_ble_eq_true rfl) d_Law_load_5 ⟨by show _ ≤ rc; omega, by show _ ≤ 1024 * rc; omega⟩ (hP.sub [0, 1, 2, 3, 4, 5, 6, 7, 8, 9, 10, 11, 12, 13, 14, 15] rfl) (hD.sub [0, 1, 2, 3, 4, 5, 6, 7, 8, 9, 10, 11, 12, 13, 14, 15] (by decide) rfl)) [⟨0, 8, 11, 13⟩, ⟨0, 8, 15, 23⟩] hex (fun z hz => by
        simp only [List.mem_cons, List.not_mem_nil, or_false] at hz
        rcases hz with rfl | rfl
        · exact ⟨by decide, by decide, _, k_428, hTs.2.2.2.2.2.1⟩
        · exact ⟨by decide, by decide, _, k_510, hTs.2.2.2.2.2.2.1⟩) (by decide) (by decide) k_511 k_533 k_532 (fun ra12 H hP hS => ?_)
      refine W.widen (k := 0 + d4) (n := 1024 * (0 + d4)) (by omega) (by omega) ?_
      refine lv_astore (lv' := [(6, .ref ra12), (0, .ref a_s), (1, .long p_1), (3, .int p_3), (4, .long p_4)]) hx hb d_Law_load_19 hl (by decide) rfl (fun ls hl => ?_)
      refine lv_iconst (v := 3) hx hb d_Law_load_21 (by decide) ?_
      have ey := Option.some.inj h
      rw [← ey] at hRa hRc
      have hRa : r0 = (3, c_c, c_cl, c_en, c_rt, c_fr, c_br, c_fi, c_st, c_vz, c_lb, c_ln, c_lt, c_hb, c_hn, c_ht) := hRa
      have hRc : rc = 0 + d4 + 0 := hRc
      subst hRa
      exact zreti (a_c, a_mv) hQ hS.2.2 hx hb hr hlocks hP hD hS rfl (by omega) (by omega) d_Law_load_22
    have h := ie h q11
    cases h
  refine zcallv (wr := []) (w2 := fun (u13 : Nat × Nat) => (wB G a_s a_t a_ao a_bo a_uo a_go c_sort c_set ++ wT G a_t u13.1 u13.2 a_fr a_br a_e0 a_e1 a_e2 a_e3 a_lo a_ho r1.1 r1.2.1 c_mv c_ml r1.2.2.1 r1.2.2.2.1 r1.2.2.2.2.1 r1.2.2.2.2.2.1 r1.2.2.2.2.2.2.1 r1.2.2.2.2.2.2.2.1 r1.2.2.2.2.2.2.2.2.1 ++ wK G a_lo a_lq r1.2.2.2.2.2.2.2.2.2.1 r1.2.2.2.2.2.2.2.2.2.2.1 r1.2.2.2.2.2.2.2.2.2.2.2.1 ++ wK G a_ho a_hq r1.2.2.2.2.2.2.2.2.2.2.2.2.1 r1.2.2.2.2.2.2.2.2.2.2.2.2.2.1 r1.2.2.2.2.2.2.2.2.2.2.2.2.2.2 ++ wK G a_ao a_aq c_ab c_an c_at)) (zrunV (As := [.long p_1, .int p_3, .long p_4]) (rest := []) ⟨hx, hb, hml, hown, hts⟩ hN hK (c_Store_load l G H.size a_s a_t a_ao a_bo a_uo a_go a_c a_mv a_fr a_br a_e0 a_e1 a_e2 a_e3 a_lo a_ho a_lq a_hq a_aq c_sort c_set c_c c_cl c_mv c_ml c_en c_rt c_fr c_br c_fi c_st c_vz c_lb c_ln c_lt c_hb c_hn c_ht c_ab c_an c_at p_1 p_3 p_4 r1 dr1 hr1) ⟨rfl, rfl⟩ kv_Law_71 ⟨Nat.le_of_ble_eq_true rfl, Nat.le_of_ble_eq_true rfl⟩ 0 rfl rfl rfl hl.1 (Nat.le_of_ble_eq_true rfl) d_Law_load_5 ⟨by show _ ≤ rc; omega, by show _ ≤ 1024 * rc; omega⟩) hP hD hS hA [0, 1, 2, 3, 4, 5, 6, 7, 8, 9, 10, 11, 12, 13, 14, 15] [] [0, 1, 2, 3, 4, 5, 6, 7, 8, 9, 10, 11, 12, 13, 14, 15] rfl rfl rfl rfl (by decide) rfl (fun _ => rfl) (fun u13 H locs _ hP hD hS => ?_)
  refine W.widen (k := 0 + dr1) (n := 1024 * (0 + dr1)) (by omega) (by omega) ?_
  refine lv_goto (tgt := 23) hx hb d_Law_load_8 (by decide) ?_
  refine lv_iconst (v := 0) hx hb d_Law_load_23 (by decide) ?_
  have ey := Option.some.inj h
  rw [← ey] at hRa hRc
  have hRa : r0 = (0, r1.1, r1.2.1, r1.2.2.1, r1.2.2.2.1, r1.2.2.2.2.1, r1.2.2.2.2.2.1, r1.2.2.2.2.2.2.1, r1.2.2.2.2.2.2.2.1, r1.2.2.2.2.2.2.2.2.1, r1.2.2.2.2.2.2.2.2.2.1, r1.2.2.2.2.2.2.2.2.2.2.1, r1.2.2.2.2.2.2.2.2.2.2.2.1, r1.2.2.2.2.2.2.2.2.2.2.2.2.1, r1.2.2.2.2.2.2.2.2.2.2.2.2.2.1, r1.2.2.2.2.2.2.2.2.2.2.2.2.2.2) := hRa
  have hRc : rc = 0 + dr1 + 0 := hRc
  subst hRa
  exact zreti (u13.1, u13.2) hQ hS.2.2 hx hb hr hlocks hP hD hS rfl (by omega) (by omega) d_Law_load_24

theorem kv_Law_75 : zKV "BranchStoreLaw" 75 y_Store_about prog_1_method_28_code 2 (some .int) 1 := ⟨k_741, k_742, k_743, k_1, k_744, by decide +kernel⟩
noncomputable def f_Law_about (c_c : (Nat → Int32)) (c_cl : Nat) (c_rt : Int32) (c_br : (Nat → Int32)) (c_ab : (Nat → Int32)) (c_an : Int32) (c_out : (Nat → Int64)) (p_1 : Int32) : Option ((Int32 × (Nat → Int64)) × Nat) :=
bc (f_Store_about c_c c_cl c_rt c_br c_ab c_an p_1) (fun j3 =>
if j3 = 1 then
(some ((1, c_out), 0))
else
(none)) fun r1 =>
gi 0 1 <|
nm (vp_updL c_out (0 : Int32).toNatClampNeg r1.toInt64) fun c11 =>
some ((0, c11), 0)
set_option maxHeartbeats 8000000 in
set_option maxRecDepth 100000 in
theorem c_Law_about (l : Launch) (G : zG) (hfl : l.flags = flags0) (sz : Nat) (a_s a_t a_ao a_bo a_uo a_go a_c a_mv a_fr a_br a_e0 a_e1 a_e2 a_e3 a_lo a_ho a_aq a_out : Nat) (c_sort : Int32) (c_set : Int32) (c_c : (Nat → Int32)) (c_cl : Nat) (c_mv : (Nat → Int32)) (c_ml : Nat) (c_en : Int32) (c_rt : Int32) (c_fr : (Nat → Int32)) (c_br : (Nat → Int32)) (c_fi : Int64) (c_st : Int64) (c_vz : Int64) (c_ab : (Nat → Int32)) (c_an : Int32) (c_at : Int32) (c_out : (Nat → Int64)) (p_1 : Int32) (r0 : (Int32 × (Nat → Int64))) (rc : Nat) (hf : f_Law_about c_c c_cl c_rt c_br c_ab c_an c_out p_1 = some (r0, rc)) :
    Met l y_Law_about (Cond.codeWith y_Law_about method_18_code 4 (some .int) [(0, 9, 12, 23)] :: lw_ok) { frames := 67, cells := rc, slots := 1024 * rc, locals := 1599 } (zPcX G sz [.ref a_s, .int p_1, .ref a_out] (wB G a_s a_t a_ao a_bo a_uo a_go c_sort c_set ++ wT G a_t a_c a_mv a_fr a_br a_e0 a_e1 a_e2 a_e3 a_lo a_ho c_c c_cl c_mv c_ml c_en c_rt c_fr c_br c_fi c_st c_vz ++ wK G a_ao a_aq c_ab c_an c_at ++ wO G a_out c_out))
      ((fun (A : Nat → Prop) => va_Qi (fun (r : Int32) (u : Nat × Nat) => r = r0.1) (fun u t => zB G A (wB G a_s a_t a_ao a_bo a_uo a_go c_sort c_set ++ wT G a_t u.1 u.2 a_fr a_br a_e0 a_e1 a_e2 a_e3 a_lo a_ho c_c c_cl c_mv c_ml c_en c_rt c_fr c_br c_fi c_st c_vz ++ wK G a_ao a_aq c_ab c_an c_at ++ wO G a_out r0.2) t) A) (va_A (wB G a_s a_t a_ao a_bo a_uo a_go c_sort c_set ++ wT G a_t a_c a_mv a_fr a_br a_e0 a_e1 a_e2 a_e3 a_lo a_ho c_c c_cl c_mv c_ml c_en c_rt c_fr c_br c_fi c_st c_vz ++ wK G a_ao a_aq c_ab c_an c_at ++ wO G a_out c_out) sz)) rc (1024 * rc) (va_A (wB G a_s a_t a_ao a_bo a_uo a_go c_sort c_set ++ wT G a_t a_c a_mv a_fr a_br a_e0 a_e1 a_e2 a_e3 a_lo a_ho c_c c_cl c_mv c_ml c_en c_rt c_fr c_br c_fi c_st c_vz ++ wK G a_ao a_aq c_ab c_an c_at ++ wO G a_out c_out) sz) := by
  refine zMetW (hh := [(0, 9, 12, 23)]) (Qc := fun (A : Nat → Prop) => va_Qi (fun (r : Int32) (u : Nat × Nat) => r = r0.1) (fun u t => zB G A (wB G a_s a_t a_ao a_bo a_uo a_go c_sort c_set ++ wT G a_t u.1 u.2 a_fr a_br a_e0 a_e1 a_e2 a_e3 a_lo a_ho c_c c_cl c_mv c_ml c_en c_rt c_fr c_br c_fi c_st c_vz ++ wK G a_ao a_aq c_ab c_an c_at ++ wO G a_out r0.2) t) A) (by decide) (Nat.le_of_ble_eq_true rfl) (fun xp xe xs xm xb xme xc A ls Q H locs C hex hTs hnA hN hK hP hD hS hA hl hQ => ?_)
  obtain ⟨hx, hb, hr, hts, hown, hlocks, hml, hin⟩ := C
  have hl : lv_has ls 4 [(0, .ref a_s), (1, .int p_1), (2, .ref a_out)] := hl
  have h := hf
  unfold f_Law_about at h
  have hRa : r0 = (r0, rc).1 := rfl
  have hRc : rc = 0 + (r0, rc).2 := (Nat.zero_add _).symm
  refine W.widen (k := 0) (n := 1024 * 0) (Nat.le_refl _) (Nat.le_refl _) ?_
  refine lv_aload_n hx hb d_Law_about_0 rfl (lv_at hl 2 rfl) ?_
  refine lv_iconst (v := 0) hx hb d_Law_about_1 (by decide) ?_
  refine lv_aload_n hx hb d_Law_about_2 rfl (lv_at hl 0 rfl) ?_
  refine lv_iload_n hx hb d_Law_about_3 rfl (lv_at hl 1 rfl) ?_
  rcases bc_k h hRa hRc with ⟨j3, d4, y6, h5, h, hRa, hRc⟩ | ⟨r1, dr1, y2, hr1, h, hRa, hRc⟩
  · by_cases q7 : j3 = 1
    · have h := it h q7
      subst q7
      refine zcatch (As := [.int p_1]) (x := ⟨0, 9, 12, 23⟩) (post := []) hts hN hown hP hS (zrunX (As := [.int p_1]) (rest := [.int 0, .ref a_out]) ⟨hx, hb, hml, hown, hts⟩ hN hTs hnA hS hK (c_Store_about_x l G hfl H.size a_s a_t a_ao a_bo a_uo a_go a_c a_mv a_fr a_br a_e0 a_e1 a_e2 a_e3 a_lo a_ho a_aq c_sort c_set c_c c_cl c_mv c_ml c_en c_rt c_fr c_br c_fi c_st c_vz c_ab c_an c_at p_1 1 d4 h5) ⟨rfl, rfl⟩ kv_Law_75 ⟨Nat.le_of_ble_eq_true rfl, Nat.le_of_ble_eq_true rfl⟩ 0 rfl rfl rfl hl.1 (Nat.le_of_ble_eq_true rfl) d_Law_about_4 ⟨by show _ ≤ rc; omega, by show _ ≤ 1024 * rc; omega⟩ (hP.sub [0, 1, 2, 3, 4, 5, 6, 7, 8, 9, 10, 11] rfl) (hD.sub [0, 1, 2, 3, 4, 5, 6, 7, 8, 9, 10, 11] (by decide) rfl)) [] hex (fun z hz => absurd hz List.not_mem_nil) (by decide) (by decide) k_510 k_518 k_517 (fun ra8 H hP hS => ?_)
      refine W.widen (k := 0 + d4) (n := 1024 * (0 + d4)) (by omega) (by omega) ?_
      refine lv_astore_n (lv' := [(3, .ref ra8), (0, .ref a_s), (1, .int p_1), (2, .ref a_out)]) hx hb d_Law_about_12 rfl hl (by decide) rfl (fun ls hl => ?_)
      refine lv_iconst (v := 1) hx hb d_Law_about_13 (by decide) ?_
      have ey := Option.some.inj h
      rw [← ey] at hRa hRc
      have hRa : r0 = (1, c_out) := hRa
      have hRc : rc = 0 + d4 + 0 := hRc
      subst hRa
      exact zreti (a_c, a_mv) hQ hS.2.2 hx hb hr hlocks hP hD hS rfl (by omega) (by omega) d_Law_about_14
    have h := ie h q7
    cases h
  refine zcalli (wr := [(a_out, .inl (G.2.2.2, 1, .inr (.inl c_out)))]) (w2 := fun (u9 : Nat × Nat) => (wB G a_s a_t a_ao a_bo a_uo a_go c_sort c_set ++ wT G a_t u9.1 u9.2 a_fr a_br a_e0 a_e1 a_e2 a_e3 a_lo a_ho c_c c_cl c_mv c_ml c_en c_rt c_fr c_br c_fi c_st c_vz ++ wK G a_ao a_aq c_ab c_an c_at ++ wO G a_out c_out)) (zrunV (As := [.int p_1]) (rest := [.int 0, .ref a_out]) ⟨hx, hb, hml, hown, hts⟩ hN hK (c_Store_about l G H.size a_s a_t a_ao a_bo a_uo a_go a_c a_mv a_fr a_br a_e0 a_e1 a_e2 a_e3 a_lo a_ho a_aq c_sort c_set c_c c_cl c_mv c_ml c_en c_rt c_fr c_br c_fi c_st c_vz c_ab c_an c_at p_1 r1 dr1 hr1) ⟨rfl, rfl⟩ kv_Law_75 ⟨Nat.le_of_ble_eq_true rfl, Nat.le_of_ble_eq_true rfl⟩ 0 rfl rfl rfl hl.1 (Nat.le_of_ble_eq_true rfl) d_Law_about_4 ⟨by show _ ≤ rc; omega, by show _ ≤ 1024 * rc; omega⟩) hP hD hS hA [0, 1, 2, 3, 4, 5, 6, 7, 8, 9, 10, 11] [12] [1, 2, 3, 4, 5, 6, 7, 8, 9, 10, 11, 12, 0] rfl rfl rfl rfl (by decide) rfl (fun _ => rfl) (fun rr u9 H locs hw hP hD hS => ?_)
  refine W.widen (k := 0 + dr1) (n := 1024 * (0 + dr1)) (by omega) (by omega) ?_
  have hw := hw.symm
  subst hw
  refine lv_i2l (v := r1.toInt64) hx hb d_Law_about_7 rfl ?_
  obtain ⟨h10, h⟩ := gi_k h
  refine va_last hx hb hK hP hD hS 12 2 rfl rfl h10 d_Law_about_8 (fun H locs hP hD hS => ?_)
  obtain ⟨c11, ec11⟩ : ∃ y, y = vp_updL c_out (0 : Int32).toNatClampNeg r1.toInt64 := ⟨_, rfl⟩
  have h := nm_k h c11 ec11
  have hP : va_P G.1 classes (wB G a_s a_t a_ao a_bo a_uo a_go c_sort c_set ++ wT G a_t u9.1 u9.2 a_fr a_br a_e0 a_e1 a_e2 a_e3 a_lo a_ho c_c c_cl c_mv c_ml c_en c_rt c_fr c_br c_fi c_st c_vz ++ wK G a_ao a_aq c_ab c_an c_at ++ wO G a_out c11) H := by rw [ec11]; exact hP
  have hD : va_D A (wB G a_s a_t a_ao a_bo a_uo a_go c_sort c_set ++ wT G a_t u9.1 u9.2 a_fr a_br a_e0 a_e1 a_e2 a_e3 a_lo a_ho c_c c_cl c_mv c_ml c_en c_rt c_fr c_br c_fi c_st c_vz ++ wK G a_ao a_aq c_ab c_an c_at ++ wO G a_out c11) := by rw [ec11]; exact hD
  refine lv_goto (tgt := 15) hx hb d_Law_about_9 (by decide) ?_
  refine lv_iconst (v := 0) hx hb d_Law_about_15 (by decide) ?_
  have ey := Option.some.inj h
  rw [← ey] at hRa hRc
  have hRa : r0 = (0, c11) := hRa
  have hRc : rc = 0 + dr1 + 0 := hRc
  subst hRa
  exact zreti (u9.1, u9.2) hQ hS.2.2 hx hb hr hlocks hP hD hS rfl (by omega) (by omega) d_Law_about_16
