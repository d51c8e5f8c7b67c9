theorem kv_Store_7 : zKV "BranchStore" 7 y_Tree_find prog_7_method_20_code 3 (some .int) 1 := ⟨k_211, k_212, k_213, k_2, k_214, by decide +kernel⟩
noncomputable def f_Store_found (c_c : (Nat → Int32)) (c_cl : Nat) (c_rt : Int32) (c_kb : (Nat → Int32)) (c_kn : Int32)  : Option ((Nat ⊕ Int32) × Nat) :=
(f_Tree_find c_c c_cl c_rt c_kb c_kn).bind fun r1 =>
if r1 = 0 then
(some (.inl 3, 1))
else
(nx <|
some (r1, 0))
set_option maxHeartbeats 8000000 in
set_option maxRecDepth 100000 in
theorem c_Store_found (l : Launch) (G : zG) (sz : Nat) (a_s a_t a_ao a_bo a_uo a_go a_c a_mv a_fr a_br a_e0 a_e1 a_e2 a_e3 a_lo a_ho a_ko a_kq : Nat) (c_sort : Int32) (c_set : Int32) (c_c : (Nat → Int32)) (c_cl : Nat) (c_mv : (Nat → Int32)) (c_ml : Nat) (c_en : Int32) (c_rt : Int32) (c_fr : (Nat → Int32)) (c_br : (Nat → Int32)) (c_fi : Int64) (c_st : Int64) (c_vz : Int64) (c_kb : (Nat → Int32)) (c_kn : Int32) (c_kt : Int32) (r0 : Int32) (rc : Nat) (hf : f_Store_found c_c c_cl c_rt c_kb c_kn = some (.inr r0, rc)) :
    Met l y_Store_found (Cond.code y_Store_found prog_1_method_1_code 3 (some .int) :: lw_ok) { frames := 6, cells := rc, slots := 1024 * rc, locals := 116 } (zPc G sz [.ref a_s, .ref a_ko] (wB G a_s a_t a_ao a_bo a_uo a_go c_sort c_set ++ wT G a_t a_c a_mv a_fr a_br a_e0 a_e1 a_e2 a_e3 a_lo a_ho c_c c_cl c_mv c_ml c_en c_rt c_fr c_br c_fi c_st c_vz ++ wK G a_ko a_kq c_kb c_kn c_kt))
      ((fun (A : Nat → Prop) => va_Qi (fun (r : Int32) (_ : Unit) => r = r0) (fun _ t => zB G A (wB G a_s a_t a_ao a_bo a_uo a_go c_sort c_set ++ wT G a_t a_c a_mv a_fr a_br a_e0 a_e1 a_e2 a_e3 a_lo a_ho c_c c_cl c_mv c_ml c_en c_rt c_fr c_br c_fi c_st c_vz ++ wK G a_ko a_kq c_kb c_kn c_kt) t) A) (va_A (wB G a_s a_t a_ao a_bo a_uo a_go c_sort c_set ++ wT G a_t a_c a_mv a_fr a_br a_e0 a_e1 a_e2 a_e3 a_lo a_ho c_c c_cl c_mv c_ml c_en c_rt c_fr c_br c_fi c_st c_vz ++ wK G a_ko a_kq c_kb c_kn c_kt) sz)) rc (1024 * rc) (fun q => sz ≤ q) := by
  refine zMetR (Qc := fun (A : Nat → Prop) => va_Qi (fun (r : Int32) (_ : Unit) => r = r0) (fun _ t => zB G A (wB G a_s a_t a_ao a_bo a_uo a_go c_sort c_set ++ wT G a_t a_c a_mv a_fr a_br a_e0 a_e1 a_e2 a_e3 a_lo a_ho c_c c_cl c_mv c_ml c_en c_rt c_fr c_br c_fi c_st c_vz ++ wK G a_ko a_kq c_kb c_kn c_kt) t) A) (by decide) (Nat.le_of_ble_eq_true rfl) (fun xp xe xs xm xb xme xc A ls Q H locs C hN hK hP hD hS hL hA hl hQ => ?_)
  obtain ⟨hx, hb, hr, hts, hown, hlocks, hml, hin⟩ := C
  have hl : lv_has ls 3 [(0, .ref a_s), (1, .ref a_ko)] := hl
  have h := hf
  unfold f_Store_found at h
  have hRa : (Sum.inr r0 : Nat ⊕ Int32) = ((Sum.inr r0, rc) : (Nat ⊕ Int32) × Nat).1 := rfl
  have hRc : rc = 0 + ((Sum.inr r0, rc) : (Nat ⊕ Int32) × Nat).2 := (Nat.zero_add _).symm
  refine W.widen (k := 0) (n := 1024 * 0) (Nat.le_refl _) (Nat.le_refl _) ?_
  refine lv_aload_n hx hb d_Store_found_0 rfl (lv_at hl 0 rfl) ?_
  refine va_get (D := G.1) (ci := 5) (v := .ref a_t) (C := "BranchStore") (T := F_Store) (N := 7) hx hb hts i_Store hown hK hP 0 rfl rfl 1 (by decide) (hts _ k_173) (fun _ h9 => h9) rfl d_Store_found_1 ?_
  refine lv_aload_n hx hb d_Store_found_4 rfl (lv_at hl 1 rfl) ?_
  obtain ⟨r1, hr1, h⟩ := ob h
  refine zpcalli (wr := [(a_s, .inr (5, [.int c_sort, .ref a_t, .ref a_ao, .ref a_bo, .ref a_uo, .int c_set, .ref a_go]))]) (w2 := fun _ => (wB G a_s a_t a_ao a_bo a_uo a_go c_sort c_set ++ wT G a_t a_c a_mv a_fr a_br a_e0 a_e1 a_e2 a_e3 a_lo a_ho c_c c_cl c_mv c_ml c_en c_rt c_fr c_br c_fi c_st c_vz ++ wK G a_ko a_kq c_kb c_kn c_kt)) (zrunV (As := [.ref a_ko]) (rest := []) ⟨hx, hb, hml, hown, hts⟩ hN hK (c_Tree_find l G H.size a_t a_c a_mv a_fr a_br a_e0 a_e1 a_e2 a_e3 a_lo a_ho a_ko a_kq c_c c_cl c_mv c_ml c_en c_rt c_fr c_br c_fi c_st c_vz c_kb c_kn c_kt r1 hr1) ⟨rfl, rfl⟩ kv_Store_7 ⟨Nat.le_of_ble_eq_true rfl, Nat.le_of_ble_eq_true rfl⟩ 0 rfl rfl rfl hl.1 (Nat.le_of_ble_eq_true rfl) d_Store_found_5 ⟨by show _ ≤ rc; omega, by show _ ≤ 1024 * rc; omega⟩) hP hD hS hA [1, 2, 3, 4, 5, 6, 7, 8, 9, 10, 11] [0] [0, 1, 2, 3, 4, 5, 6, 7, 8, 9, 10, 11] rfl rfl rfl rfl (by decide) rfl (fun _ => rfl) (fun rr _ H hw hP hD hS => ?_)
  have hw := hw.symm
  subst hw
  refine lv_istore_n (lv' := [(2, .int r1), (0, .ref a_s), (1, .ref a_ko)]) hx hb d_Store_found_8 rfl hl (by decide) rfl (fun ls hl => ?_)
  refine lv_iload_n hx hb d_Store_found_9 rfl (lv_at hl 0 rfl) ?_
  refine lv_if_ne (tgt := 21) hx hb d_Store_found_10 (by decide) (fun q2 => ?_) (fun q2 => ?_)
  · have h := ie h q2
    obtain ⟨y3, h, hRa, hRc⟩ := nx_n h hRa hRc
    refine lv_iload_n hx hb d_Store_found_21 rfl (lv_at hl 0 rfl) ?_
    have ey := Option.some.inj h
    rw [← ey] at hRa hRc
    have hRa : r0 = r1 := hRa
    have hRc : rc = 0 + 0 := hRc
    subst hRa
    exact zreti () hQ hL hx hb hr hlocks hP hD hS rfl (by omega) (by omega) d_Store_found_22
  · have h := it h q2
    have ey := Option.some.inj h
    rw [← ey] at hRa
    cases hRa

set_option maxHeartbeats 8000000 in
set_option maxRecDepth 100000 in
theorem c_Store_found_x (l : Launch) (G : zG) (hfl : l.flags = flags0) (sz : Nat) (a_s a_t a_ao a_bo a_uo a_go a_c a_mv a_fr a_br a_e0 a_e1 a_e2 a_e3 a_lo a_ho a_ko a_kq : Nat) (c_sort : Int32) (c_set : Int32) (c_c : (Nat → Int32)) (c_cl : Nat) (c_mv : (Nat → Int32)) (c_ml : Nat) (c_en : Int32) (c_rt : Int32) (c_fr : (Nat → Int32)) (c_br : (Nat → Int32)) (c_fi : Int64) (c_st : Int64) (c_vz : Int64) (c_kb : (Nat → Int32)) (c_kn : Int32) (c_kt : Int32) (k0 : Nat) (rc : Nat) (hf : f_Store_found c_c c_cl c_rt c_kb c_kn = some (.inl k0, rc)) :
    MetX l y_Store_found (Cond.code y_Store_found prog_1_method_1_code 3 (some .int) :: lw_ok) { frames := 6, cells := rc, slots := 1024 * rc, locals := 116 } (zPcX G sz [.ref a_s, .ref a_ko] (wB G a_s a_t a_ao a_bo a_uo a_go c_sort c_set ++ wT G a_t a_c a_mv a_fr a_br a_e0 a_e1 a_e2 a_e3 a_lo a_ho c_c c_cl c_mv c_ml c_en c_rt c_fr c_br c_fi c_st c_vz ++ wK G a_ko a_kq c_kb c_kn c_kt)) (zQx (zcls k0)) rc (1024 * rc) (fun q => sz ≤ q) := by
  refine zMetX hfl (by decide) (Nat.le_of_ble_eq_true rfl) (fun xp xe xs xm xb xme xc A ls Q H locs C htr hnh hTs hnA hN hK hP hD hS hL hA hl hQ => ?_)
  obtain ⟨hx, hb, hr, hts, hown, hlocks, hml, hin⟩ := C
  have hl : lv_has ls 3 [(0, .ref a_s), (1, .ref a_ko)] := hl
  have h := hf
  unfold f_Store_found at h
  have hRa : (Sum.inl k0 : Nat ⊕ Int32) = ((Sum.inl k0, rc) : (Nat ⊕ Int32) × Nat).1 := rfl
  have hRc : rc = 0 + ((Sum.inl k0, rc) : (Nat ⊕ Int32) × Nat).2 := (Nat.zero_add _).symm
  refine W.widen (k := 0) (n := 1024 * 0) (Nat.le_refl _) (Nat.le_refl _) ?_
  refine lv_aload_n hx hb d_Store_found_0 rfl (lv_at hl 0 rfl) ?_
  refine va_get (D := G.1) (ci := 5) (v := .ref a_t) (C := "BranchStore") (T := F_Store) (N := 7) hx hb hts i_Store hown hK hP 0 rfl rfl 1 (by decide) (hts _ k_173) (fun _ h9 => h9) rfl d_Store_found_1 ?_
  refine lv_aload_n hx hb d_Store_found_4 rfl (lv_at hl 1 rfl) ?_
  obtain ⟨r1, hr1, h⟩ := ob h
  refine zpcalli (wr := [(a_s, .inr (5, [.int c_sort, .ref a_t, .ref a_ao, .ref a_bo, .ref a_uo, .int c_set, .ref a_go]))]) (w2 := fun _ => (wB G a_s a_t a_ao a_bo a_uo a_go c_sort c_set ++ wT G a_t a_c a_mv a_fr a_br a_e0 a_e1 a_e2 a_e3 a_lo a_ho c_c c_cl c_mv c_ml c_en c_rt c_fr c_br c_fi c_st c_vz ++ wK G a_ko a_kq c_kb c_kn c_kt)) (zrunV (As := [.ref a_ko]) (rest := []) ⟨hx, hb, hml, hown, hts⟩ hN hK (c_Tree_find l G H.size a_t a_c a_mv a_fr a_br a_e0 a_e1 a_e2 a_e3 a_lo a_ho a_ko a_kq c_c c_cl c_mv c_ml c_en c_rt c_fr c_br c_fi c_st c_vz c_kb c_kn c_kt r1 hr1) ⟨rfl, rfl⟩ kv_Store_7 ⟨Nat.le_of_ble_eq_true rfl, Nat.le_of_ble_eq_true rfl⟩ 0 rfl rfl rfl hl.1 (Nat.le_of_ble_eq_true rfl) d_Store_found_5 ⟨by show _ ≤ rc; omega, by show _ ≤ 1024 * rc; omega⟩) hP hD hS hA [1, 2, 3, 4, 5, 6, 7, 8, 9, 10, 11] [0] [0, 1, 2, 3, 4, 5, 6, 7, 8, 9, 10, 11] rfl rfl rfl rfl (by decide) rfl (fun _ => rfl) (fun rr _ H hw hP hD hS => ?_)
  have hw := hw.symm
  subst hw
  refine lv_istore_n (lv' := [(2, .int r1), (0, .ref a_s), (1, .ref a_ko)]) hx hb d_Store_found_8 rfl hl (by decide) rfl (fun ls hl => ?_)
  refine lv_iload_n hx hb d_Store_found_9 rfl (lv_at hl 0 rfl) ?_
  refine lv_if_ne (tgt := 21) hx hb d_Store_found_10 (by decide) (fun q2 => ?_) (fun q2 => ?_)
  · have h := ie h q2
    exact absurd h (fun h => nx_x h hRa)
  · have h := it h q2
    have ey := Option.some.inj h
    rw [← ey] at hRa hRc
    have hRc : rc = 0 + 1 := hRc
    obtain rfl := Sum.inl.inj hRa
    exact zthrow (ia := 13) (ic := 15) hQ hx hb hlocks htr hnh hts hN hTs hown (hml.trans hl.1.symm) hS hL k_558 k_559 k_15 kt_3 (by decide) (by show _ ≤ rc; omega) (by show _ ≤ 1024 * rc; omega) (by omega) (by omega) (Nat.le_of_ble_eq_true rfl) (Nat.le_of_ble_eq_true rfl) d_Store_found_13 d_Store_found_16 d_Store_found_17 d_Store_found_20

noncomputable def f_Store_known (c_set : Int32)  : Option ((Nat ⊕ Unit) × Nat) :=
if c_set = 0 then
(some (.inl 3, 1))
else
(nx <|
some ((), 0))
set_option maxHeartbeats 8000000 in
set_option maxRecDepth 100000 in
theorem c_Store_known (l : Launch) (G : zG) (sz : Nat) (a_s a_t a_ao a_bo a_uo a_go : Nat) (c_sort : Int32) (c_set : Int32) (r0 : Unit) (rc : Nat) (hf : f_Store_known c_set = some (.inr r0, rc)) :
    Met l y_Store_known (Cond.code y_Store_known prog_1_method_2_code 1 (some (FieldType.object "BranchStore$Key")) :: lw_ok) { frames := 6, cells := rc, slots := 1024 * rc, locals := 90 } (zPc G sz [.ref a_s] (wB G a_s a_t a_ao a_bo a_uo a_go c_sort c_set))
      ((fun (A : Nat → Prop) => va_Qr (fun _ : Unit => True) (fun _ a t => a = a_uo ∧ zB G A (wB G a_s a_t a_ao a_bo a_uo a_go c_sort c_set) t) A) (va_A (wB G a_s a_t a_ao a_bo a_uo a_go c_sort c_set) sz)) rc (1024 * rc) (fun q => sz ≤ q) := by
  refine zMetR (Qc := fun (A : Nat → Prop) => va_Qr (fun _ : Unit => True) (fun _ a t => a = a_uo ∧ zB G A (wB G a_s a_t a_ao a_bo a_uo a_go c_sort c_set) t) A) (by decide) (Nat.le_of_ble_eq_true rfl) (fun xp xe xs xm xb xme xc A ls Q H locs C hN hK hP hD hS hL hA hl hQ => ?_)
  obtain ⟨hx, hb, hr, hts, hown, hlocks, hml, hin⟩ := C
  have hl : lv_has ls 1 [(0, .ref a_s)] := hl
  have h := hf
  unfold f_Store_known at h
  have hRa : (Sum.inr r0 : Nat ⊕ Unit) = ((Sum.inr r0, rc) : (Nat ⊕ Unit) × Nat).1 := rfl
  have hRc : rc = 0 + ((Sum.inr r0, rc) : (Nat ⊕ Unit) × Nat).2 := (Nat.zero_add _).symm
  refine W.widen (k := 0) (n := 1024 * 0) (Nat.le_refl _) (Nat.le_refl _) ?_
  refine lv_aload_n hx hb d_Store_known_0 rfl (lv_at hl 0 rfl) ?_
  refine va_get (D := G.1) (ci := 5) (v := .int c_set) (C := "BranchStore") (T := F_Store) (N := 7) hx hb hts i_Store hown hK hP 0 rfl rfl 5 (by decide) (hts _ k_177) (fun _ h9 => h9) rfl d_Store_known_1 ?_
  refine lv_if_ne (tgt := 15) hx hb d_Store_known_4 (by decide) (fun q1 => ?_) (fun q1 => ?_)
  · have h := ie h q1
    obtain ⟨y2, h, hRa, hRc⟩ := nx_n h hRa hRc
    refine lv_aload_n hx hb d_Store_known_15 rfl (lv_at hl 0 rfl) ?_
    refine va_get (D := G.1) (ci := 5) (v := .ref a_uo) (C := "BranchStore") (T := F_Store) (N := 7) hx hb hts i_Store hown hK hP 0 rfl rfl 4 (by decide) (hts _ k_176) (fun _ h9 => h9) rfl d_Store_known_16 ?_
    have ey := Option.some.inj h
    rw [← ey] at hRa hRc
    have hRa : r0 = () := hRa
    have hRc : rc = 0 + 0 := hRc
    subst hRa
    exact zretr () hQ hL hx hb hr (Or.inl ⟨_, rfl⟩) hlocks hP hD hS rfl (by omega) (by omega) d_Store_known_19
  · have h := it h q1
    have ey := Option.some.inj h
    rw [← ey] at hRa
    cases hRa

set_option maxHeartbeats 8000000 in
set_option maxRecDepth 100000 in
theorem c_Store_known_x (l : Launch) (G : zG) (hfl : l.flags = flags0) (sz : Nat) (a_s a_t a_ao a_bo a_uo a_go : Nat) (c_sort : Int32) (c_set : Int32) (k0 : Nat) (rc : Nat) (hf : f_Store_known c_set = some (.inl k0, rc)) :
    MetX l y_Store_known (Cond.code y_Store_known prog_1_method_2_code 1 (some (FieldType.object "BranchStore$Key")) :: lw_ok) { frames := 6, cells := rc, slots := 1024 * rc, locals := 90 } (zPcX G sz [.ref a_s] (wB G a_s a_t a_ao a_bo a_uo a_go c_sort c_set)) (zQx (zcls k0)) rc (1024 * rc) (fun q => sz ≤ q) := by
  refine zMetX hfl (by decide) (Nat.le_of_ble_eq_true rfl) (fun xp xe xs xm xb xme xc A ls Q H locs C htr hnh hTs hnA hN hK hP hD hS hL hA hl hQ => ?_)
  obtain ⟨hx, hb, hr, hts, hown, hlocks, hml, hin⟩ := C
  have hl : lv_has ls 1 [(0, .ref a_s)] := hl
  have h := hf
  unfold f_Store_known at h
  have hRa : (Sum.inl k0 : Nat ⊕ Unit) = ((Sum.inl k0, rc) : (Nat ⊕ Unit) × Nat).1 := rfl
  have hRc : rc = 0 + ((Sum.inl k0, rc) : (Nat ⊕ Unit) × Nat).2 := (Nat.zero_add _).symm
  refine W.widen (k := 0) (n := 1024 * 0) (Nat.le_refl _) (Nat.le_refl _) ?_
  refine lv_aload_n hx hb d_Store_known_0 rfl (lv_at hl 0 rfl) ?_
  refine va_get (D := G.1) (ci := 5) (v := .int c_set) (C := "BranchStore") (T := F_Store) (N := 7) hx hb hts i_Store hown hK hP 0 rfl rfl 5 (by decide) (hts _ k_177) (fun _ h9 => h9) rfl d_Store_known_1 ?_
  refine lv_if_ne (tgt := 15) hx hb d_Store_known_4 (by decide) (fun q1 => ?_) (fun q1 => ?_)
  · have h := ie h q1
    exact absurd h (fun h => nx_x h hRa)
  · have h := it h q1
    have ey := Option.some.inj h
    rw [← ey] at hRa hRc
    have hRc : rc = 0 + 1 := hRc
    obtain rfl := Sum.inl.inj hRa
    exact zthrow (ia := 13) (ic := 15) hQ hx hb hlocks htr hnh hts hN hTs hown (hml.trans hl.1.symm) hS hL k_558 k_559 k_15 kt_3 (by decide) (by show _ ≤ rc; omega) (by show _ ≤ 1024 * rc; omega) (by omega) (by omega) (Nat.le_of_ble_eq_true rfl) (Nat.le_of_ble_eq_true rfl) d_Store_known_7 d_Store_known_10 d_Store_known_11 d_Store_known_14

theorem kv_Store_27 : zKV "BranchStore" 27 y_Tree_keys prog_7_method_14_code 1 (some .int) 0 := ⟨k_414, k_415, k_416, k_2, k_417, by decide +kernel⟩
theorem kv_Store_31 : zKV "BranchStore" 31 y_Tree_select prog_7_method_23_code 7 (some .int) 1 := ⟨k_314, k_315, k_316, k_2, k_317, by decide +kernel⟩
theorem kv_Store_35 : zKV "BranchStore" 35 y_Tree_tell prog_7_method_13_code 4 none 2 := ⟨k_318, k_319, k_320, k_2, k_321, by decide +kernel⟩
noncomputable def f_Store_comes (c_set : Int32) (c_c : (Nat → Int32)) (c_cl : Nat) (c_rt : Int32) (c_ub : (Nat → Int32)) (c_un : Int32) (c_ut : Int32) (p_1 : Int32) : Option (Int32 × Int32 × (Nat → Int32) × Int32 × Int32) :=
if p_1 < 0 then
(some (0, c_set, c_ub, c_un, c_ut))
else
((f_Tree_keys c_c c_cl c_rt).bind fun r2 =>
if p_1 < r2 then
((f_Tree_select c_c c_cl c_rt p_1).bind fun r4 =>
(f_Tree_tell c_c c_cl c_ub c_un c_ut r4).bind fun r5 =>
some (1, 1, r5.1, r5.2.1, r5.2.2))
else
(some (0, c_set, c_ub, c_un, c_ut)))
set_option maxHeartbeats 8000000 in
set_option maxRecDepth 100000 in
theorem c_Store_comes (l : Launch) (G : zG) (sz : Nat) (a_s a_t a_ao a_bo a_uo a_go a_c a_mv a_fr a_br a_e0 a_e1 a_e2 a_e3 a_lo a_ho a_uq : Nat) (c_sort : Int32) (c_set : Int32) (c_c : (Nat → Int32)) (c_cl : Nat) (c_mv : (Nat → Int32)) (c_ml : Nat) (c_en : Int32) (c_rt : Int32) (c_fr : (Nat → Int32)) (c_br : (Nat → Int32)) (c_fi : Int64) (c_st : Int64) (c_vz : Int64) (c_ub : (Nat → Int32)) (c_un : Int32) (c_ut : Int32) (p_1 : Int32) (r0 : (Int32 × Int32 × (Nat → Int32) × Int32 × Int32)) (hf : f_Store_comes c_set c_c c_cl c_rt c_ub c_un c_ut p_1 = some r0) :
    Met l y_Store_comes (Cond.code y_Store_comes prog_1_method_3_code 2 (some .boolean) :: lw_ok) { frames := 5, cells := 0, slots := 0, locals := 120 } (zPc G sz [.ref a_s, .int p_1] (wB G a_s a_t a_ao a_bo a_uo a_go c_sort c_set ++ wT G a_t a_c a_mv a_fr a_br a_e0 a_e1 a_e2 a_e3 a_lo a_ho c_c c_cl c_mv c_ml c_en c_rt c_fr c_br c_fi c_st c_vz ++ wK G a_uo a_uq c_ub c_un c_ut))
      ((fun (A : Nat → Prop) => va_Qi (fun (r : Int32) (_ : Unit) => r = r0.1 ∧ narrow .boolean (.int r) = .int r) (fun _ t => zB G A (wB G a_s a_t a_ao a_bo a_uo a_go c_sort r0.2.1 ++ wT G a_t a_c a_mv a_fr a_br a_e0 a_e1 a_e2 a_e3 a_lo a_ho c_c c_cl c_mv c_ml c_en c_rt c_fr c_br c_fi c_st c_vz ++ wK G a_uo a_uq r0.2.2.1 r0.2.2.2.1 r0.2.2.2.2) t) A) (va_A (wB G a_s a_t a_ao a_bo a_uo a_go c_sort c_set ++ wT G a_t a_c a_mv a_fr a_br a_e0 a_e1 a_e2 a_e3 a_lo a_ho c_c c_cl c_mv c_ml c_en c_rt c_fr c_br c_fi c_st c_vz ++ wK G a_uo a_uq c_ub c_un c_ut) sz)) 0 0 (va_A (wB G a_s a_t a_ao a_bo a_uo a_go c_sort c_set ++ wT G a_t a_c a_mv a_fr a_br a_e0 a_e1 a_e2 a_e3 a_lo a_ho c_c c_cl c_mv c_ml c_en c_rt c_fr c_br c_fi c_st c_vz ++ wK G a_uo a_uq c_ub c_un c_ut) sz) := by
  refine zMet (Qc := fun (A : Nat → Prop) => va_Qi (fun (r : Int32) (_ : Unit) => r = r0.1 ∧ narrow .boolean (.int r) = .int r) (fun _ t => zB G A (wB G a_s a_t a_ao a_bo a_uo a_go c_sort r0.2.1 ++ wT G a_t a_c a_mv a_fr a_br a_e0 a_e1 a_e2 a_e3 a_lo a_ho c_c c_cl c_mv c_ml c_en c_rt c_fr c_br c_fi c_st c_vz ++ wK G a_uo a_uq r0.2.2.1 r0.2.2.2.1 r0.2.2.2.2) t) A) (by decide) (Nat.le_of_ble_eq_true rfl) (fun xp xe xs xm xb xme xc A ls Q H locs C hN hK hP hD hS hA hl hQ => ?_)
  obtain ⟨hx, hb, hr, hts, hown, hlocks, hml, hin⟩ := C
  have hl : lv_has ls 2 [(0, .ref a_s), (1, .int p_1)] := hl
  have h := hf
  unfold f_Store_comes at h
  refine lv_iload_n hx hb d_Store_comes_0 rfl (lv_at hl 1 rfl) ?_
  refine lv_if_lt (tgt := 15) hx hb d_Store_comes_1 (by decide) (fun q1 => ?_) (fun q1 => ?_)
  · have h := it h q1
    refine lv_iconst (v := 0) hx hb d_Store_comes_15 (by decide) ?_
    obtain rfl := Option.some.inj h
    exact zretz () hQ hS.2.2 hx hb hr hlocks hP hD hS ⟨rfl, rfl⟩ (Nat.le_refl _) (Nat.le_refl _) d_Store_comes_16 rfl
  · have h := ie h q1
    refine lv_iload_n hx hb d_Store_comes_4 rfl (lv_at hl 1 rfl) ?_
    refine lv_aload_n hx hb d_Store_comes_5 rfl (lv_at hl 0 rfl) ?_
    refine va_get (D := G.1) (ci := 5) (v := .ref a_t) (C := "BranchStore") (T := F_Store) (N := 7) hx hb hts i_Store hown hK hP 0 rfl rfl 1 (by decide) (hts _ k_173) (fun _ h9 => h9) rfl d_Store_comes_6 ?_
    obtain ⟨r2, hr2, h⟩ := ob h
    refine zpcalli (wr := [(a_s, .inr (5, [.int c_sort, .ref a_t, .ref a_ao, .ref a_bo, .ref a_uo, .int c_set, .ref a_go])), (a_uo, .inr (0, [.ref a_uq, .int c_un, .int c_ut])), (a_uq, .inl (G.2.2.1, 50, .inl c_ub))]) (w2 := fun _ => (wB G a_s a_t a_ao a_bo a_uo a_go c_sort c_set ++ wT G a_t a_c a_mv a_fr a_br a_e0 a_e1 a_e2 a_e3 a_lo a_ho c_c c_cl c_mv c_ml c_en c_rt c_fr c_br c_fi c_st c_vz ++ wK G a_uo a_uq c_ub c_un c_ut)) (zrunV (As := []) (rest := [.int p_1]) ⟨hx, hb, hml, hown, hts⟩ hN hK (c_Tree_keys l G H.size a_t a_c a_mv a_fr a_br a_e0 a_e1 a_e2 a_e3 a_lo a_ho c_c c_cl c_mv c_ml c_en c_rt c_fr c_br c_fi c_st c_vz r2 hr2) ⟨rfl, rfl⟩ kv_Store_27 ⟨Nat.le_of_ble_eq_true rfl, Nat.le_of_ble_eq_true rfl⟩ 0 rfl rfl rfl hl.1 (Nat.le_of_ble_eq_true rfl) d_Store_comes_9 ⟨Nat.le_of_ble_eq_true rfl, Nat.le_of_ble_eq_true rfl⟩) hP hD hS hA [1, 2, 3, 4, 5, 6, 7, 8, 9] [0, 10, 11] [0, 3, 4, 5, 6, 7, 8, 9, 10, 11, 1, 2] rfl rfl rfl rfl (by decide) rfl (fun _ => rfl) (fun rr _ H hw hP hD hS => ?_)
    have hw := hw.symm
    subst hw
    refine lv_icmp_lt (tgt := 17) hx hb d_Store_comes_12 (by decide) (fun q3 => ?_) (fun q3 => ?_)
    · have h := it h q3
      refine lv_aload_n hx hb d_Store_comes_17 rfl (lv_at hl 0 rfl) ?_
      refine va_get (D := G.1) (ci := 5) (v := .ref a_t) (C := "BranchStore") (T := F_Store) (N := 7) hx hb hts i_Store hown hK hP 0 rfl rfl 1 (by decide) (hts _ k_173) (fun _ h9 => h9) rfl d_Store_comes_18 ?_
      refine lv_aload_n hx hb d_Store_comes_21 rfl (lv_at hl 0 rfl) ?_
      refine va_get (D := G.1) (ci := 5) (v := .ref a_t) (C := "BranchStore") (T := F_Store) (N := 7) hx hb hts i_Store hown hK hP 0 rfl rfl 1 (by decide) (hts _ k_173) (fun _ h9 => h9) rfl d_Store_comes_22 ?_
      refine lv_iload_n hx hb d_Store_comes_25 rfl (lv_at hl 1 rfl) ?_
      obtain ⟨r4, hr4, h⟩ := ob h
      refine zpcalli (wr := [(a_s, .inr (5, [.int c_sort, .ref a_t, .ref a_ao, .ref a_bo, .ref a_uo, .int c_set, .ref a_go])), (a_uo, .inr (0, [.ref a_uq, .int c_un, .int c_ut])), (a_uq, .inl (G.2.2.1, 50, .inl c_ub))]) (w2 := fun _ => (wB G a_s a_t a_ao a_bo a_uo a_go c_sort c_set ++ wT G a_t a_c a_mv a_fr a_br a_e0 a_e1 a_e2 a_e3 a_lo a_ho c_c c_cl c_mv c_ml c_en c_rt c_fr c_br c_fi c_st c_vz ++ wK G a_uo a_uq c_ub c_un c_ut)) (zrunV (As := [.int p_1]) (rest := [.ref a_t]) ⟨hx, hb, hml, hown, hts⟩ hN hK (c_Tree_select l G H.size a_t a_c a_mv a_fr a_br a_e0 a_e1 a_e2 a_e3 a_lo a_ho c_c c_cl c_mv c_ml c_en c_rt c_fr c_br c_fi c_st c_vz p_1 r4 hr4) ⟨rfl, rfl⟩ kv_Store_31 ⟨Nat.le_of_ble_eq_true rfl, Nat.le_of_ble_eq_true rfl⟩ 0 rfl rfl rfl hl.1 (Nat.le_of_ble_eq_true rfl) d_Store_comes_26 ⟨Nat.le_of_ble_eq_true rfl, Nat.le_of_ble_eq_true rfl⟩) hP hD hS hA [1, 2, 3, 4, 5, 6, 7, 8, 9] [0, 10, 11] [0, 3, 4, 5, 6, 7, 8, 9, 10, 11, 1, 2] rfl rfl rfl rfl (by decide) rfl (fun _ => rfl) (fun rr _ H hw hP hD hS => ?_)
      have hw := hw.symm
      subst hw
      refine lv_aload_n hx hb d_Store_comes_29 rfl (lv_at hl 0 rfl) ?_
      refine va_get (D := G.1) (ci := 5) (v := .ref a_uo) (C := "BranchStore") (T := F_Store) (N := 7) hx hb hts i_Store hown hK hP 0 rfl rfl 4 (by decide) (hts _ k_176) (fun _ h9 => h9) rfl d_Store_comes_30 ?_
      obtain ⟨r5, hr5, h⟩ := ob h
      refine zcallv (wr := [(a_s, .inr (5, [.int c_sort, .ref a_t, .ref a_ao, .ref a_bo, .ref a_uo, .int c_set, .ref a_go]))]) (w2 := fun _ => (wB G a_s a_t a_ao a_bo a_uo a_go c_sort c_set ++ wT G a_t a_c a_mv a_fr a_br a_e0 a_e1 a_e2 a_e3 a_lo a_ho c_c c_cl c_mv c_ml c_en c_rt c_fr c_br c_fi c_st c_vz ++ wK G a_uo a_uq r5.1 r5.2.1 r5.2.2)) (zrunV (As := [.int r4, .ref a_uo]) (rest := []) ⟨hx, hb, hml, hown, hts⟩ hN hK (c_Tree_tell l G H.size a_t a_c a_mv a_fr a_br a_e0 a_e1 a_e2 a_e3 a_lo a_ho a_uo a_uq c_c c_cl c_mv c_ml c_en c_rt c_fr c_br c_fi c_st c_vz c_ub c_un c_ut r4 r5 hr5) ⟨rfl, rfl⟩ kv_Store_35 ⟨Nat.le_of_ble_eq_true rfl, Nat.le_of_ble_eq_true rfl⟩ 0 rfl rfl rfl hl.1 (Nat.le_of_ble_eq_true rfl) d_Store_comes_33 ⟨Nat.le_of_ble_eq_true rfl, Nat.le_of_ble_eq_true rfl⟩) hP hD hS hA [1, 2, 3, 4, 5, 6, 7, 8, 9, 10, 11] [0] [0, 1, 2, 3, 4, 5, 6, 7, 8, 9, 10, 11] rfl rfl rfl rfl (by decide) rfl (fun _ => rfl) (fun _ H locs _ hP hD hS => ?_)
      refine lv_aload_n hx hb d_Store_comes_36 rfl (lv_at hl 0 rfl) ?_
      refine lv_iconst (v := 1) hx hb d_Store_comes_37 (by decide) ?_
      refine va_put (D := G.1) (ci := 5) (v := .int 1) (ty := .boolean) (C := "BranchStore") (T := F_Store) (N := 7) hx hb hts i_Store t_Store t_Store_ok n_Store hown hK hP hD hS 0 rfl rfl 5 (by decide) (hts _ k_177) (fun _ h9 => h9) rfl (by decide +kernel) rfl rfl (Nat.le_of_ble_eq_true rfl) d_Store_comes_38 (fun H locs hP hD hS => ?_)
      have hP : va_P G.1 classes (wB G a_s a_t a_ao a_bo a_uo a_go c_sort 1 ++ wT G a_t a_c a_mv a_fr a_br a_e0 a_e1 a_e2 a_e3 a_lo a_ho c_c c_cl c_mv c_ml c_en c_rt c_fr c_br c_fi c_st c_vz ++ wK G a_uo a_uq r5.1 r5.2.1 r5.2.2) H := hP
      have hD : va_D A (wB G a_s a_t a_ao a_bo a_uo a_go c_sort 1 ++ wT G a_t a_c a_mv a_fr a_br a_e0 a_e1 a_e2 a_e3 a_lo a_ho c_c c_cl c_mv c_ml c_en c_rt c_fr c_br c_fi c_st c_vz ++ wK G a_uo a_uq r5.1 r5.2.1 r5.2.2) := hD
      refine lv_iconst (v := 1) hx hb d_Store_comes_41 (by decide) ?_
      obtain rfl := Option.some.inj h
      exact zretz () hQ hS.2.2 hx hb hr hlocks hP hD hS ⟨rfl, rfl⟩ (Nat.le_refl _) (Nat.le_refl _) d_Store_comes_42 rfl
    · have h := ie h q3
      refine lv_iconst (v := 0) hx hb d_Store_comes_15 (by decide) ?_
      obtain rfl := Option.some.inj h
      exact zretz () hQ hS.2.2 hx hb hr hlocks hP hD hS ⟨rfl, rfl⟩ (Nat.le_refl _) (Nat.le_refl _) d_Store_comes_16 rfl

theorem kv_Store_42 : zKV "BranchStore" 42 y_Tree_rank prog_7_method_22_code 7 (some .int) 1 := ⟨k_267, k_268, k_269, k_2, k_270, by decide +kernel⟩
noncomputable def f_Store_behind (c_c : (Nat → Int32)) (c_cl : Nat) (c_rt : Int32) (c_ab : (Nat → Int32)) (c_an : Int32)  : Option Int32 :=
(f_Tree_rank c_c c_cl c_rt c_ab c_an).bind fun r1 =>
(f_Tree_find c_c c_cl c_rt c_ab c_an).bind fun r2 =>
(if r2 = 0 then
(some 0)
else
(some 1)).bind fun y6 =>
some (r1 + y6)
set_option maxHeartbeats 8000000 in
set_option maxRecDepth 100000 in
theorem c_Store_behind (l : Launch) (G : zG) (sz : Nat) (a_s a_t a_ao a_bo a_uo a_go a_c a_mv a_fr a_br a_e0 a_e1 a_e2 a_e3 a_lo a_ho a_aq : Nat) (c_sort : Int32) (c_set : Int32) (c_c : (Nat → Int32)) (c_cl : Nat) (c_mv : (Nat → Int32)) (c_ml : Nat) (c_en : Int32) (c_rt : Int32) (c_fr : (Nat → Int32)) (c_br : (Nat → Int32)) (c_fi : Int64) (c_st : Int64) (c_vz : Int64) (c_ab : (Nat → Int32)) (c_an : Int32) (c_at : Int32) (r0 : Int32) (hf : f_Store_behind c_c c_cl c_rt c_ab c_an = some r0) :
    Met l y_Store_behind (Cond.code y_Store_behind prog_1_method_4_code 1 (some .int) :: lw_ok) { frames := 7, cells := 0, slots := 0, locals := 165 } (zPc G sz [.ref a_s] (wB G a_s a_t a_ao a_bo a_uo a_go c_sort c_set ++ wT G a_t a_c a_mv a_fr a_br a_e0 a_e1 a_e2 a_e3 a_lo a_ho c_c c_cl c_mv c_ml c_en c_rt c_fr c_br c_fi c_st c_vz ++ wK G a_ao a_aq c_ab c_an c_at))
      ((fun (A : Nat → Prop) => va_Qi (fun (r : Int32) (_ : Unit) => r = r0) (fun _ t => zB G A (wB G a_s a_t a_ao a_bo a_uo a_go c_sort c_set ++ wT G a_t a_c a_mv a_fr a_br a_e0 a_e1 a_e2 a_e3 a_lo a_ho c_c c_cl c_mv c_ml c_en c_rt c_fr c_br c_fi c_st c_vz ++ wK G a_ao a_aq c_ab c_an c_at) t) A) (va_A (wB G a_s a_t a_ao a_bo a_uo a_go c_sort c_set ++ wT G a_t a_c a_mv a_fr a_br a_e0 a_e1 a_e2 a_e3 a_lo a_ho c_c c_cl c_mv c_ml c_en c_rt c_fr c_br c_fi c_st c_vz ++ wK G a_ao a_aq c_ab c_an c_at) sz)) 0 0 (fun q => sz ≤ q) := by
  refine zMetR (Qc := fun (A : Nat → Prop) => va_Qi (fun (r : Int32) (_ : Unit) => r = r0) (fun _ t => zB G A (wB G a_s a_t a_ao a_bo a_uo a_go c_sort c_set ++ wT G a_t a_c a_mv a_fr a_br a_e0 a_e1 a_e2 a_e3 a_lo a_ho c_c c_cl c_mv c_ml c_en c_rt c_fr c_br c_fi c_st c_vz ++ wK G a_ao a_aq c_ab c_an c_at) t) A) (by decide) (Nat.le_of_ble_eq_true rfl) (fun xp xe xs xm xb xme xc A ls Q H locs C hN hK hP hD hS hL hA hl hQ => ?_)
  obtain ⟨hx, hb, hr, hts, hown, hlocks, hml, hin⟩ := C
  have hl : lv_has ls 1 [(0, .ref a_s)] := hl
  have h := hf
  unfold f_Store_behind at h
  refine lv_aload_n hx hb d_Store_behind_0 rfl (lv_at hl 0 rfl) ?_
  refine va_get (D := G.1) (ci := 5) (v := .ref a_t) (C := "BranchStore") (T := F_Store) (N := 7) hx hb hts i_Store hown hK hP 0 rfl rfl 1 (by decide) (hts _ k_173) (fun _ h9 => h9) rfl d_Store_behind_1 ?_
  refine lv_aload_n hx hb d_Store_behind_4 rfl (lv_at hl 0 rfl) ?_
  refine va_get (D := G.1) (ci := 5) (v := .ref a_ao) (C := "BranchStore") (T := F_Store) (N := 7) hx hb hts i_Store hown hK hP 0 rfl rfl 2 (by decide) (hts _ k_174) (fun _ h9 => h9) rfl d_Store_behind_5 ?_
  obtain ⟨r1, hr1, h⟩ := ob h
  refine zpcalli (wr := [(a_s, .inr (5, [.int c_sort, .ref a_t, .ref a_ao, .ref a_bo, .ref a_uo, .int c_set, .ref a_go]))]) (w2 := fun _ => (wB G a_s a_t a_ao a_bo a_uo a_go c_sort c_set ++ wT G a_t a_c a_mv a_fr a_br a_e0 a_e1 a_e2 a_e3 a_lo a_ho c_c c_cl c_mv c_ml c_en c_rt c_fr c_br c_fi c_st c_vz ++ wK G a_ao a_aq c_ab c_an c_at)) (zrunV (As := [.ref a_ao]) (rest := []) ⟨hx, hb, hml, hown, hts⟩ hN hK (c_Tree_rank l G H.size a_t a_c a_mv a_fr a_br a_e0 a_e1 a_e2 a_e3 a_lo a_ho a_ao a_aq c_c c_cl c_mv c_ml c_en c_rt c_fr c_br c_fi c_st c_vz c_ab c_an c_at r1 hr1) ⟨rfl, rfl⟩ kv_Store_42 ⟨Nat.le_of_ble_eq_true rfl, Nat.le_of_ble_eq_true rfl⟩ 0 rfl rfl rfl hl.1 (Nat.le_of_ble_eq_true rfl) d_Store_behind_8 ⟨Nat.le_of_ble_eq_true rfl, Nat.le_of_ble_eq_true rfl⟩) hP hD hS hA [1, 2, 3, 4, 5, 6, 7, 8, 9, 10, 11] [0] [0, 1, 2, 3, 4, 5, 6, 7, 8, 9, 10, 11] rfl rfl rfl rfl (by decide) rfl (fun _ => rfl) (fun rr _ H hw hP hD hS => ?_)
  have hw := hw.symm
  subst hw
  refine lv_aload_n hx hb d_Store_behind_11 rfl (lv_at hl 0 rfl) ?_
  refine va_get (D := G.1) (ci := 5) (v := .ref a_t) (C := "BranchStore") (T := F_Store) (N := 7) hx hb hts i_Store hown hK hP 0 rfl rfl 1 (by decide) (hts _ k_173) (fun _ h9 => h9) rfl d_Store_behind_12 ?_
  refine lv_aload_n hx hb d_Store_behind_15 rfl (lv_at hl 0 rfl) ?_
  refine va_get (D := G.1) (ci := 5) (v := .ref a_ao) (C := "BranchStore") (T := F_Store) (N := 7) hx hb hts i_Store hown hK hP 0 rfl rfl 2 (by decide) (hts _ k_174) (fun _ h9 => h9) rfl d_Store_behind_16 ?_
  obtain ⟨r2, hr2, h⟩ := ob h
  refine zpcalli (wr := [(a_s, .inr (5, [.int c_sort, .ref a_t, .ref a_ao, .ref a_bo, .ref a_uo, .int c_set, .ref a_go]))]) (w2 := fun _ => (wB G a_s a_t a_ao a_bo a_uo a_go c_sort c_set ++ wT G a_t a_c a_mv a_fr a_br a_e0 a_e1 a_e2 a_e3 a_lo a_ho c_c c_cl c_mv c_ml c_en c_rt c_fr c_br c_fi c_st c_vz ++ wK G a_ao a_aq c_ab c_an c_at)) (zrunV (As := [.ref a_ao]) (rest := [.int r1]) ⟨hx, hb, hml, hown, hts⟩ hN hK (c_Tree_find l G H.size a_t a_c a_mv a_fr a_br a_e0 a_e1 a_e2 a_e3 a_lo a_ho a_ao a_aq c_c c_cl c_mv c_ml c_en c_rt c_fr c_br c_fi c_st c_vz c_ab c_an c_at r2 hr2) ⟨rfl, rfl⟩ kv_Store_7 ⟨Nat.le_of_ble_eq_true rfl, Nat.le_of_ble_eq_true rfl⟩ 0 rfl rfl rfl hl.1 (Nat.le_of_ble_eq_true rfl) d_Store_behind_19 ⟨Nat.le_of_ble_eq_true rfl, Nat.le_of_ble_eq_true rfl⟩) hP hD hS hA [1, 2, 3, 4, 5, 6, 7, 8, 9, 10, 11] [0] [0, 1, 2, 3, 4, 5, 6, 7, 8, 9, 10, 11] rfl rfl rfl rfl (by decide) rfl (fun _ => rfl) (fun rr _ H hw hP hD hS => ?_)
  have hw := hw.symm
  subst hw
  obtain ⟨y5, hy5, h⟩ := ob h
  have J30 : ∀ (z7 : Int32), narrow .boolean (.int z7) = .int z7 → z7 = y5 → ∀ (H : Heap) (locs : List Loc) (ls : Array Slot), va_P G.1 classes (wB G a_s a_t a_ao a_bo a_uo a_go c_sort c_set ++ wT G a_t a_c a_mv a_fr a_br a_e0 a_e1 a_e2 a_e3 a_lo a_ho c_c c_cl c_mv c_ml c_en c_rt c_fr c_br c_fi c_st c_vz ++ wK G a_ao a_aq c_ab c_an c_at) H → va_D A (wB G a_s a_t a_ao a_bo a_uo a_go c_sort c_set ++ wT G a_t a_c a_mv a_fr a_br a_e0 a_e1 a_e2 a_e3 a_lo a_ho c_c c_cl c_mv c_ml c_en c_rt c_fr c_br c_fi c_st c_vz ++ wK G a_ao a_aq c_ab c_an c_at) → va_S A xs.heap H locs → (∀ q ∈ locs, xs.heap.size ≤ q.base) → lv_has ls 1 [] → W xp l xe { frames := 7, cells := 0, slots := 0, locals := 165 } xs xm ([.ref a_s] : List Value).toArray xb xme xc H locs 0 0 Q (F0 xm 30 ls [.int z7, .int r1]) := by
    intro z7 hzz7 ey H locs ls hP hD hS hL hl
    subst ey
    try dsimp only at h
    refine lv_iadd hx hb d_Store_behind_30 ?_
    obtain rfl := Option.some.inj h
    exact zreti () hQ hL hx hb hr hlocks hP hD hS rfl (Nat.le_refl _) (Nat.le_refl _) d_Store_behind_31
  have h := hy5
  refine lv_if_eq (tgt := 29) hx hb d_Store_behind_22 (by decide) (fun q4 => ?_) (fun q4 => ?_)
  · have h := it h q4
    refine lv_iconst (v := 0) hx hb d_Store_behind_29 (by decide) ?_
    exact J30 0 rfl (Option.some.inj h) H locs ls hP hD hS hL (lv_sub hl [] rfl)
  · have h := ie h q4
    refine lv_iconst (v := 1) hx hb d_Store_behind_25 (by decide) ?_
    refine lv_goto (tgt := 30) hx hb d_Store_behind_26 (by decide) ?_
    exact J30 1 rfl (Option.some.inj h) H locs ls hP hD hS hL (lv_sub hl [] rfl)

theorem kv_Store_67 : zKV "BranchStore" 67 y_Key_begin prog_4_method_2_code 1 none 0 := ⟨k_498, k_91, k_92, k_7, k_93, by decide +kernel⟩
theorem kv_Store_70 : zKV "BranchStore" 70 y_Key_number prog_4_method_5_code 6 none 1 := ⟨k_499, k_103, k_104, k_7, k_105, by decide +kernel⟩
noncomputable def f_Store_number (c_sort : Int32) (c_ab : (Nat → Int32)) (c_an : Int32) (c_at : Int32) (p_1 : Int64) : Option ((Nat ⊕ ((Nat → Int32) × Int32 × Int32)) × Nat) :=
if c_sort = 0 then
(nx <|
(f_Key_begin c_an c_at).bind fun r3 =>
(f_Key_number c_ab r3.1 p_1).bind fun r4 =>
some ((r4.1, r4.2, r3.2), 0))
else
(some (.inl 0, 1))
set_option maxHeartbeats 8000000 in
set_option maxRecDepth 100000 in
theorem c_Store_number (l : Launch) (G : zG) (sz : Nat) (a_s a_t a_ao a_bo a_uo a_go a_aq : Nat) (c_sort : Int32) (c_set : Int32) (c_ab : (Nat → Int32)) (c_an : Int32) (c_at : Int32) (p_1 : Int64) (r0 : ((Nat → Int32) × Int32 × Int32)) (rc : Nat) (hf : f_Store_number c_sort c_ab c_an c_at p_1 = some (.inr r0, rc)) :
    Met l y_Store_number (Cond.code y_Store_number prog_1_method_6_code 3 none :: lw_ok) { frames := 6, cells := rc, slots := 1024 * rc, locals := 90 } (zPc G sz [.ref a_s, .long p_1] (wB G a_s a_t a_ao a_bo a_uo a_go c_sort c_set ++ wK G a_ao a_aq c_ab c_an c_at))
      ((fun (A : Nat → Prop) => va_Qv (fun (_ : Unit) => True) (fun _ t => zB G A (wB G a_s a_t a_ao a_bo a_uo a_go c_sort c_set ++ wK G a_ao a_aq r0.1 r0.2.1 r0.2.2) t) A) (va_A (wB G a_s a_t a_ao a_bo a_uo a_go c_sort c_set ++ wK G a_ao a_aq c_ab c_an c_at) sz)) rc (1024 * rc) (va_A (wB G a_s a_t a_ao a_bo a_uo a_go c_sort c_set ++ wK G a_ao a_aq c_ab c_an c_at) sz) := by
  refine zMet (Qc := fun (A : Nat → Prop) => va_Qv (fun (_ : Unit) => True) (fun _ t => zB G A (wB G a_s a_t a_ao a_bo a_uo a_go c_sort c_set ++ wK G a_ao a_aq r0.1 r0.2.1 r0.2.2) t) A) (by decide) (Nat.le_of_ble_eq_true rfl) (fun xp xe xs xm xb xme xc A ls Q H locs C hN hK hP hD hS hA hl hQ => ?_)
  obtain ⟨hx, hb, hr, hts, hown, hlocks, hml, hin⟩ := C
  have hl : lv_has ls 3 [(0, .ref a_s), (1, .long p_1)] := hl
  have h := hf
  unfold f_Store_number at h
  have hRa : (Sum.inr r0 : Nat ⊕ ((Nat → Int32) × Int32 × Int32)) = ((Sum.inr r0, rc) : (Nat ⊕ ((Nat → Int32) × Int32 × Int32)) × Nat).1 := rfl
  have hRc : rc = 0 + ((Sum.inr r0, rc) : (Nat ⊕ ((Nat → Int32) × Int32 × Int32)) × Nat).2 := (Nat.zero_add _).symm
  refine W.widen (k := 0) (n := 1024 * 0) (Nat.le_refl _) (Nat.le_refl _) ?_
  refine lv_aload_n hx hb d_Store_number_0 rfl (lv_at hl 0 rfl) ?_
  refine va_get (D := G.1) (ci := 5) (v := .int c_sort) (C := "BranchStore") (T := F_Store) (N := 7) hx hb hts i_Store hown hK hP 0 rfl rfl 0 (by decide) (hts _ k_172) (fun _ h9 => h9) rfl d_Store_number_1 ?_
  refine lv_if_eq (tgt := 15) hx hb d_Store_number_4 (by decide) (fun q1 => ?_) (fun q1 => ?_)
  · have h := it h q1
    obtain ⟨y2, h, hRa, hRc⟩ := nx_n h hRa hRc
    refine lv_aload_n hx hb d_Store_number_15 rfl (lv_at hl 0 rfl) ?_
    refine va_get (D := G.1) (ci := 5) (v := .ref a_ao) (C := "BranchStore") (T := F_Store) (N := 7) hx hb hts i_Store hown hK hP 0 rfl rfl 2 (by decide) (hts _ k_174) (fun _ h9 => h9) rfl d_Store_number_16 ?_
    obtain ⟨r3, hr3, h⟩ := ob h
    refine zcallv (wr := [(a_s, .inr (5, [.int c_sort, .ref a_t, .ref a_ao, .ref a_bo, .ref a_uo, .int c_set, .ref a_go]))]) (w2 := fun _ => (wB G a_s a_t a_ao a_bo a_uo a_go c_sort c_set ++ wK G a_ao a_aq c_ab r3.1 r3.2)) (zrunV (As := []) (rest := []) ⟨hx, hb, hml, hown, hts⟩ hN hK (c_Key_begin l G H.size a_ao a_aq c_ab c_an c_at r3 hr3) ⟨rfl, rfl⟩ kv_Store_67 ⟨Nat.le_of_ble_eq_true rfl, Nat.le_of_ble_eq_true rfl⟩ 0 rfl rfl rfl hl.1 (Nat.le_of_ble_eq_true rfl) d_Store_number_19 ⟨by show _ ≤ rc; omega, by show _ ≤ 1024 * rc; omega⟩) hP hD hS hA [1, 2] [0] [0, 1, 2] rfl rfl rfl rfl (by decide) rfl (fun _ => rfl) (fun _ H locs _ hP hD hS => ?_)
    refine lv_aload_n hx hb d_Store_number_22 rfl (lv_at hl 0 rfl) ?_
    refine va_get (D := G.1) (ci := 5) (v := .ref a_ao) (C := "BranchStore") (T := F_Store) (N := 7) hx hb hts i_Store hown hK hP 0 rfl rfl 2 (by decide) (hts _ k_174) (fun _ h9 => h9) rfl d_Store_number_23 ?_
    refine lv_lload_n hx hb d_Store_number_26 rfl (lv_at hl 1 rfl) ?_
    obtain ⟨r4, hr4, h⟩ := ob h
    refine zcallv (wr := [(a_s, .inr (5, [.int c_sort, .ref a_t, .ref a_ao, .ref a_bo, .ref a_uo, .int c_set, .ref a_go]))]) (w2 := fun _ => (wB G a_s a_t a_ao a_bo a_uo a_go c_sort c_set ++ wK G a_ao a_aq r4.1 r4.2 r3.2)) (zrunV (As := [.long p_1]) (rest := []) ⟨hx, hb, hml, hown, hts⟩ hN hK (c_Key_number l G H.size a_ao a_aq c_ab r3.1 r3.2 p_1 r4 hr4) ⟨rfl, rfl⟩ kv_Store_70 ⟨Nat.le_of_ble_eq_true rfl, Nat.le_of_ble_eq_true rfl⟩ 0 rfl rfl rfl hl.1 (Nat.le_of_ble_eq_true rfl) d_Store_number_27 ⟨by show _ ≤ rc; omega, by show _ ≤ 1024 * rc; omega⟩) hP hD hS hA [1, 2] [0] [0, 1, 2] rfl rfl rfl rfl (by decide) rfl (fun _ => rfl) (fun _ H locs _ hP hD hS => ?_)
    have ey := Option.some.inj h
    rw [← ey] at hRa hRc
    have hRa : r0 = (r4.1, r4.2, r3.2) := hRa
    have hRc : rc = 0 + 0 := hRc
    subst hRa
    exact zretv () hQ hS.2.2 hx hb hr hlocks hP hD hS trivial (by omega) (by omega) d_Store_number_30
  · have h := ie h q1
    have ey := Option.some.inj h
    rw [← ey] at hRa
    cases hRa

set_option maxHeartbeats 8000000 in
set_option maxRecDepth 100000 in
theorem c_Store_number_x (l : Launch) (G : zG) (hfl : l.flags = flags0) (sz : Nat) (a_s a_t a_ao a_bo a_uo a_go a_aq : Nat) (c_sort : Int32) (c_set : Int32) (c_ab : (Nat → Int32)) (c_an : Int32) (c_at : Int32) (p_1 : Int64) (k0 : Nat) (rc : Nat) (hf : f_Store_number c_sort c_ab c_an c_at p_1 = some (.inl k0, rc)) :
    MetX l y_Store_number (Cond.code y_Store_number prog_1_method_6_code 3 none :: lw_ok) { frames := 6, cells := rc, slots := 1024 * rc, locals := 90 } (zPcX G sz [.ref a_s, .long p_1] (wB G a_s a_t a_ao a_bo a_uo a_go c_sort c_set ++ wK G a_ao a_aq c_ab c_an c_at)) (zQx (zcls k0)) rc (1024 * rc) (fun q => sz ≤ q) := by
  refine zMetX hfl (by decide) (Nat.le_of_ble_eq_true rfl) (fun xp xe xs xm xb xme xc A ls Q H locs C htr hnh hTs hnA hN hK hP hD hS hL hA hl hQ => ?_)
  obtain ⟨hx, hb, hr, hts, hown, hlocks, hml, hin⟩ := C
  have hl : lv_has ls 3 [(0, .ref a_s), (1, .long p_1)] := hl
  have h := hf
  unfold f_Store_number at h
  have hRa : (Sum.inl k0 : Nat ⊕ ((Nat → Int32) × Int32 × Int32)) = ((Sum.inl k0, rc) : (Nat ⊕ ((Nat → Int32) × Int32 × Int32)) × Nat).1 := rfl
  have hRc : rc = 0 + ((Sum.inl k0, rc) : (Nat ⊕ ((Nat → Int32) × Int32 × Int32)) × Nat).2 := (Nat.zero_add _).symm
  refine W.widen (k := 0) (n := 1024 * 0) (Nat.le_refl _) (Nat.le_refl _) ?_
  refine lv_aload_n hx hb d_Store_number_0 rfl (lv_at hl 0 rfl) ?_
  refine va_get (D := G.1) (ci := 5) (v := .int c_sort) (C := "BranchStore") (T := F_Store) (N := 7) hx hb hts i_Store hown hK hP 0 rfl rfl 0 (by decide) (hts _ k_172) (fun _ h9 => h9) rfl d_Store_number_1 ?_
  refine lv_if_eq (tgt := 15) hx hb d_Store_number_4 (by decide) (fun q1 => ?_) (fun q1 => ?_)
  · have h := it h q1
    exact absurd h (fun h => nx_x h hRa)
  · have h := ie h q1
    have ey := Option.some.inj h
    rw [← ey] at hRa hRc
    have hRc : rc = 0 + 1 := hRc
    obtain rfl := Sum.inl.inj hRa
    exact zthrow (ia := 64) (ic := 66) hQ hx hb hlocks htr hnh hts hN hTs hown (hml.trans hl.1.symm) hS hL k_433 k_434 k_12 kt_0 (by decide) (by show _ ≤ rc; omega) (by show _ ≤ 1024 * rc; omega) (by omega) (by omega) (Nat.le_of_ble_eq_true rfl) (Nat.le_of_ble_eq_true rfl) d_Store_number_7 d_Store_number_10 d_Store_number_11 d_Store_number_14

noncomputable def f_Store_pair (c_sort : Int32) (c_ab : (Nat → Int32)) (c_an : Int32) (c_at : Int32) (p_1 : Int64) (p_3 : Int64) : Option ((Nat ⊕ ((Nat → Int32) × Int32 × Int32)) × Nat) :=
if c_sort = 1 then
(nx <|
(f_Key_begin c_an c_at).bind fun r3 =>
(f_Key_number c_ab r3.1 p_1).bind fun r4 =>
(f_Key_number r4.1 r4.2 p_3).bind fun r5 =>
some ((r5.1, r5.2, r3.2), 0))
else
(some (.inl 0, 1))
set_option maxHeartbeats 8000000 in
set_option maxRecDepth 100000 in
theorem c_Store_pair (l : Launch) (G : zG) (sz : Nat) (a_s a_t a_ao a_bo a_uo a_go a_aq : Nat) (c_sort : Int32) (c_set : Int32) (c_ab : (Nat → Int32)) (c_an : Int32) (c_at : Int32) (p_1 : Int64) (p_3 : Int64) (r0 : ((Nat → Int32) × Int32 × Int32)) (rc : Nat) (hf : f_Store_pair c_sort c_ab c_an c_at p_1 p_3 = some (.inr r0, rc)) :
    Met l y_Store_pair (Cond.code y_Store_pair prog_1_method_7_code 5 none :: lw_ok) { frames := 6, cells := rc, slots := 1024 * rc, locals := 90 } (zPc G sz [.ref a_s, .long p_1, .long p_3] (wB G a_s a_t a_ao a_bo a_uo a_go c_sort c_set ++ wK G a_ao a_aq c_ab c_an c_at))
      ((fun (A : Nat → Prop) => va_Qv (fun (_ : Unit) => True) (fun _ t => zB G A (wB G a_s a_t a_ao a_bo a_uo a_go c_sort c_set ++ wK G a_ao a_aq r0.1 r0.2.1 r0.2.2) t) A) (va_A (wB G a_s a_t a_ao a_bo a_uo a_go c_sort c_set ++ wK G a_ao a_aq c_ab c_an c_at) sz)) rc (1024 * rc) (va_A (wB G a_s a_t a_ao a_bo a_uo a_go c_sort c_set ++ wK G a_ao a_aq c_ab c_an c_at) sz) := by
  refine zMet (Qc := fun (A : Nat → Prop) => va_Qv (fun (_ : Unit) => True) (fun _ t => zB G A (wB G a_s a_t a_ao a_bo a_uo a_go c_sort c_set ++ wK G a_ao a_aq r0.1 r0.2.1 r0.2.2) t) A) (by decide) (Nat.le_of_ble_eq_true rfl) (fun xp xe xs xm xb xme xc A ls Q H locs C hN hK hP hD hS hA hl hQ => ?_)
  obtain ⟨hx, hb, hr, hts, hown, hlocks, hml, hin⟩ := C
  have hl : lv_has ls 5 [(0, .ref a_s), (1, .long p_1), (3, .long p_3)] := hl
  have h := hf
  unfold f_Store_pair at h
  have hRa : (Sum.inr r0 : Nat ⊕ ((Nat → Int32) × Int32 × Int32)) = ((Sum.inr r0, rc) : (Nat ⊕ ((Nat → Int32) × Int32 × Int32)) × Nat).1 := rfl
  have hRc : rc = 0 + ((Sum.inr r0, rc) : (Nat ⊕ ((Nat → Int32) × Int32 × Int32)) × Nat).2 := (Nat.zero_add _).symm
  refine W.widen (k := 0) (n := 1024 * 0) (Nat.le_refl _) (Nat.le_refl _) ?_
  refine lv_aload_n hx hb d_Store_pair_0 rfl (lv_at hl 0 rfl) ?_
  refine va_get (D := G.1) (ci := 5) (v := .int c_sort) (C := "BranchStore") (T := F_Store) (N := 7) hx hb hts i_Store hown hK hP 0 rfl rfl 0 (by decide) (hts _ k_172) (fun _ h9 => h9) rfl d_Store_pair_1 ?_
  refine lv_iconst (v := 1) hx hb d_Store_pair_4 (by decide) ?_
  refine lv_icmp_eq (tgt := 16) hx hb d_Store_pair_5 (by decide) (fun q1 => ?_) (fun q1 => ?_)
  · have h := it h q1
    obtain ⟨y2, h, hRa, hRc⟩ := nx_n h hRa hRc
    refine lv_aload_n hx hb d_Store_pair_16 rfl (lv_at hl 0 rfl) ?_
    refine va_get (D := G.1) (ci := 5) (v := .ref a_ao) (C := "BranchStore") (T := F_Store) (N := 7) hx hb hts i_Store hown hK hP 0 rfl rfl 2 (by decide) (hts _ k_174) (fun _ h9 => h9) rfl d_Store_pair_17 ?_
    obtain ⟨r3, hr3, h⟩ := ob h
    refine zcallv (wr := [(a_s, .inr (5, [.int c_sort, .ref a_t, .ref a_ao, .ref a_bo, .ref a_uo, .int c_set, .ref a_go]))]) (w2 := fun _ => (wB G a_s a_t a_ao a_bo a_uo a_go c_sort c_set ++ wK G a_ao a_aq c_ab r3.1 r3.2)) (zrunV (As := []) (rest := []) ⟨hx, hb, hml, hown, hts⟩ hN hK (c_Key_begin l G H.size a_ao a_aq c_ab c_an c_at r3 hr3) ⟨rfl, rfl⟩ kv_Store_67 ⟨Nat.le_of_ble_eq_true rfl, Nat.le_of_ble_eq_true rfl⟩ 0 rfl rfl rfl hl.1 (Nat.le_of_ble_eq_true rfl) d_Store_pair_20 ⟨by show _ ≤ rc; omega, by show _ ≤ 1024 * rc; omega⟩) hP hD hS hA [1, 2] [0] [0, 1, 2] rfl rfl rfl rfl (by decide) rfl (fun _ => rfl) (fun _ H locs _ hP hD hS => ?_)
    refine lv_aload_n hx hb d_Store_pair_23 rfl (lv_at hl 0 rfl) ?_
    refine va_get (D := G.1) (ci := 5) (v := .ref a_ao) (C := "BranchStore") (T := F_Store) (N := 7) hx hb hts i_Store hown hK hP 0 rfl rfl 2 (by decide) (hts _ k_174) (fun _ h9 => h9) rfl d_Store_pair_24 ?_
    refine lv_lload_n hx hb d_Store_pair_27 rfl (lv_at hl 1 rfl) ?_
    obtain ⟨r4, hr4, h⟩ := ob h
    refine zcallv (wr := [(a_s, .inr (5, [.int c_sort, .ref a_t, .ref a_ao, .ref a_bo, .ref a_uo, .int c_set, .ref a_go]))]) (w2 := fun _ => (wB G a_s a_t a_ao a_bo a_uo a_go c_sort c_set ++ wK G a_ao a_aq r4.1 r4.2 r3.2)) (zrunV (As := [.long p_1]) (rest := []) ⟨hx, hb, hml, hown, hts⟩ hN hK (c_Key_number l G H.size a_ao a_aq c_ab r3.1 r3.2 p_1 r4 hr4) ⟨rfl, rfl⟩ kv_Store_70 ⟨Nat.le_of_ble_eq_true rfl, Nat.le_of_ble_eq_true rfl⟩ 0 rfl rfl rfl hl.1 (Nat.le_of_ble_eq_true rfl) d_Store_pair_28 ⟨by show _ ≤ rc; omega, by show _ ≤ 1024 * rc; omega⟩) hP hD hS hA [1, 2] [0] [0, 1, 2] rfl rfl rfl rfl (by decide) rfl (fun _ => rfl) (fun _ H locs _ hP hD hS => ?_)
    refine lv_aload_n hx hb d_Store_pair_31 rfl (lv_at hl 0 rfl) ?_
    refine va_get (D := G.1) (ci := 5) (v := .ref a_ao) (C := "BranchStore") (T := F_Store) (N := 7) hx hb hts i_Store hown hK hP 0 rfl rfl 2 (by decide) (hts _ k_174) (fun _ h9 => h9) rfl d_Store_pair_32 ?_
    refine lv_lload_n hx hb d_Store_pair_35 rfl (lv_at hl 2 rfl) ?_
    obtain ⟨r5, hr5, h⟩ := ob h
    refine zcallv (wr := [(a_s, .inr (5, [.int c_sort, .ref a_t, .ref a_ao, .ref a_bo, .ref a_uo, .int c_set, .ref a_go]))]) (w2 := fun _ => (wB G a_s a_t a_ao a_bo a_uo a_go c_sort c_set ++ wK G a_ao a_aq r5.1 r5.2 r3.2)) (zrunV (As := [.long p_3]) (rest := []) ⟨hx, hb, hml, hown, hts⟩ hN hK (c_Key_number l G H.size a_ao a_aq r4.1 r4.2 r3.2 p_3 r5 hr5) ⟨rfl, rfl⟩ kv_Store_70 ⟨Nat.le_of_ble_eq_true rfl, Nat.le_of_ble_eq_true rfl⟩ 0 rfl rfl rfl hl.1 (Nat.le_of_ble_eq_true rfl) d_Store_pair_36 ⟨by show _ ≤ rc; omega, by show _ ≤ 1024 * rc; omega⟩) hP hD hS hA [1, 2] [0] [0, 1, 2] rfl rfl rfl rfl (by decide) rfl (fun _ => rfl) (fun _ H locs _ hP hD hS => ?_)
    have ey := Option.some.inj h
    rw [← ey] at hRa hRc
    have hRa : r0 = (r5.1, r5.2, r3.2) := hRa
    have hRc : rc = 0 + 0 := hRc
    subst hRa
    exact zretv () hQ hS.2.2 hx hb hr hlocks hP hD hS trivial (by omega) (by omega) d_Store_pair_39
  · have h := ie h q1
    have ey := Option.some.inj h
    rw [← ey] at hRa
    cases hRa

set_option maxHeartbeats 8000000 in
set_option maxRecDepth 100000 in
theorem c_Store_pair_x (l : Launch) (G : zG) (hfl : l.flags = flags0) (sz : Nat) (a_s a_t a_ao a_bo a_uo a_go a_aq : Nat) (c_sort : Int32) (c_set : Int32) (c_ab : (Nat → Int32)) (c_an : Int32) (c_at : Int32) (p_1 : Int64) (p_3 : Int64) (k0 : Nat) (rc : Nat) (hf : f_Store_pair c_sort c_ab c_an c_at p_1 p_3 = some (.inl k0, rc)) :
    MetX l y_Store_pair (Cond.code y_Store_pair prog_1_method_7_code 5 none :: lw_ok) { frames := 6, cells := rc, slots := 1024 * rc, locals := 90 } (zPcX G sz [.ref a_s, .long p_1, .long p_3] (wB G a_s a_t a_ao a_bo a_uo a_go c_sort c_set ++ wK G a_ao a_aq c_ab c_an c_at)) (zQx (zcls k0)) rc (1024 * rc) (fun q => sz ≤ q) := by
  refine zMetX hfl (by decide) (Nat.le_of_ble_eq_true rfl) (fun xp xe xs xm xb xme xc A ls Q H locs C htr hnh hTs hnA hN hK hP hD hS hL hA hl hQ => ?_)
  obtain ⟨hx, hb, hr, hts, hown, hlocks, hml, hin⟩ := C
  have hl : lv_has ls 5 [(0, .ref a_s), (1, .long p_1), (3, .long p_3)] := hl
  have h := hf
  unfold f_Store_pair at h
  have hRa : (Sum.inl k0 : Nat ⊕ ((Nat → Int32) × Int32 × Int32)) = ((Sum.inl k0, rc) : (Nat ⊕ ((Nat → Int32) × Int32 × Int32)) × Nat).1 := rfl
  have hRc : rc = 0 + ((Sum.inl k0, rc) : (Nat ⊕ ((Nat → Int32) × Int32 × Int32)) × Nat).2 := (Nat.zero_add _).symm
  refine W.widen (k := 0) (n := 1024 * 0) (Nat.le_refl _) (Nat.le_refl _) ?_
  refine lv_aload_n hx hb d_Store_pair_0 rfl (lv_at hl 0 rfl) ?_
  refine va_get (D := G.1) (ci := 5) (v := .int c_sort) (C := "BranchStore") (T := F_Store) (N := 7) hx hb hts i_Store hown hK hP 0 rfl rfl 0 (by decide) (hts _ k_172) (fun _ h9 => h9) rfl d_Store_pair_1 ?_
  refine lv_iconst (v := 1) hx hb d_Store_pair_4 (by decide) ?_
  refine lv_icmp_eq (tgt := 16) hx hb d_Store_pair_5 (by decide) (fun q1 => ?_) (fun q1 => ?_)
  · have h := it h q1
    exact absurd h (fun h => nx_x h hRa)
  · have h := ie h q1
    have ey := Option.some.inj h
    rw [← ey] at hRa hRc
    have hRc : rc = 0 + 1 := hRc
    obtain rfl := Sum.inl.inj hRa
    exact zthrow (ia := 64) (ic := 66) hQ hx hb hlocks htr hnh hts hN hTs hown (hml.trans hl.1.symm) hS hL k_433 k_434 k_12 kt_0 (by decide) (by show _ ≤ rc; omega) (by show _ ≤ 1024 * rc; omega) (by omega) (by omega) (Nat.le_of_ble_eq_true rfl) (Nat.le_of_ble_eq_true rfl) d_Store_pair_8 d_Store_pair_11 d_Store_pair_12 d_Store_pair_15

theorem kv_Store_83 : zKV "BranchStore" 83 y_Key_letter prog_4_method_7_code 2 none 1 := ⟨k_546, k_547, k_548, k_7, k_549, by decide +kernel⟩
noncomputable def f_Store_letter (c_sort : Int32) (c_ab : (Nat → Int32)) (c_an : Int32) (c_at : Int32) (p_1 : Int32) : Option ((Nat ⊕ (Int32 × (Nat → Int32) × Int32 × Int32)) × Nat) :=
if c_sort = 2 then
(if p_1 < 0 then
(some (.inl 1, 1))
else
(if p_1 ≤ 255 then
(if c_at = 24 then
(some (.inl 2, 1))
else
(nx <|
(f_Key_letter c_ab c_an c_at p_1).bind fun r6 =>
some ((r6.2.2, r6.1, r6.2.1, r6.2.2), 0)))
else
(some (.inl 1, 1))))
else
(some (.inl 0, 1))
set_option maxHeartbeats 8000000 in
set_option maxRecDepth 100000 in
theorem c_Store_letter (l : Launch) (G : zG) (sz : Nat) (a_s a_t a_ao a_bo a_uo a_go a_aq : Nat) (c_sort : Int32) (c_set : Int32) (c_ab : (Nat → Int32)) (c_an : Int32) (c_at : Int32) (p_1 : Int32) (r0 : (Int32 × (Nat → Int32) × Int32 × Int32)) (rc : Nat) (hf : f_Store_letter c_sort c_ab c_an c_at p_1 = some (.inr r0, rc)) :
    Met l y_Store_letter (Cond.code y_Store_letter prog_1_method_8_code 2 (some .int) :: lw_ok) { frames := 6, cells := rc, slots := 1024 * rc, locals := 90 } (zPc G sz [.ref a_s, .int p_1] (wB G a_s a_t a_ao a_bo a_uo a_go c_sort c_set ++ wK G a_ao a_aq c_ab c_an c_at))
      ((fun (A : Nat → Prop) => va_Qi (fun (r : Int32) (_ : Unit) => r = r0.1) (fun _ t => zB G A (wB G a_s a_t a_ao a_bo a_uo a_go c_sort c_set ++ wK G a_ao a_aq r0.2.1 r0.2.2.1 r0.2.2.2) t) A) (va_A (wB G a_s a_t a_ao a_bo a_uo a_go c_sort c_set ++ wK G a_ao a_aq c_ab c_an c_at) sz)) rc (1024 * rc) (va_A (wB G a_s a_t a_ao a_bo a_uo a_go c_sort c_set ++ wK G a_ao a_aq c_ab c_an c_at) sz) := by
  refine zMet (Qc := fun (A : Nat → Prop) => va_Qi (fun (r : Int32) (_ : Unit) => r = r0.1) (fun _ t => zB G A (wB G a_s a_t a_ao a_bo a_uo a_go c_sort c_set ++ wK G a_ao a_aq r0.2.1 r0.2.2.1 r0.2.2.2) t) A) (by decide) (Nat.le_of_ble_eq_true rfl) (fun xp xe xs xm xb xme xc A ls Q H locs C hN hK hP hD hS hA hl hQ => ?_)
  obtain ⟨hx, hb, hr, hts, hown, hlocks, hml, hin⟩ := C
  have hl : lv_has ls 2 [(0, .ref a_s), (1, .int p_1)] := hl
  have h := hf
  unfold f_Store_letter at h
  have hRa : (Sum.inr r0 : Nat ⊕ (Int32 × (Nat → Int32) × Int32 × Int32)) = ((Sum.inr r0, rc) : (Nat ⊕ (Int32 × (Nat → Int32) × Int32 × Int32)) × Nat).1 := rfl
  have hRc : rc = 0 + ((Sum.inr r0, rc) : (Nat ⊕ (Int32 × (Nat → Int32) × Int32 × Int32)) × Nat).2 := (Nat.zero_add _).symm
  refine W.widen (k := 0) (n := 1024 * 0) (Nat.le_refl _) (Nat.le_refl _) ?_
  refine lv_aload_n hx hb d_Store_letter_0 rfl (lv_at hl 0 rfl) ?_
  refine va_get (D := G.1) (ci := 5) (v := .int c_sort) (C := "BranchStore") (T := F_Store) (N := 7) hx hb hts i_Store hown hK hP 0 rfl rfl 0 (by decide) (hts _ k_172) (fun _ h9 => h9) rfl d_Store_letter_1 ?_
  refine lv_iconst (v := 2) hx hb d_Store_letter_4 (by decide) ?_
  refine lv_icmp_eq (tgt := 16) hx hb d_Store_letter_5 (by decide) (fun q1 => ?_) (fun q1 => ?_)
  · have h := it h q1
    refine lv_iload_n hx hb d_Store_letter_16 rfl (lv_at hl 1 rfl) ?_
    refine lv_if_lt (tgt := 27) hx hb d_Store_letter_17 (by decide) (fun q2 => ?_) (fun q2 => ?_)
    · have h := it h q2
      have ey := Option.some.inj h
      rw [← ey] at hRa
      cases hRa
    · have h := ie h q2
      refine lv_iload_n hx hb d_Store_letter_20 rfl (lv_at hl 1 rfl) ?_
      refine lv_sipush (v := 255) hx hb d_Store_letter_21 (by decide) ?_
      refine lv_icmp_le (tgt := 35) hx hb d_Store_letter_24 (by decide) (fun q3 => ?_) (fun q3 => ?_)
      · have h := it h q3
        refine lv_aload_n hx hb d_Store_letter_35 rfl (lv_at hl 0 rfl) ?_
        refine va_get (D := G.1) (ci := 5) (v := .ref a_ao) (C := "BranchStore") (T := F_Store) (N := 7) hx hb hts i_Store hown hK hP 0 rfl rfl 2 (by decide) (hts _ k_174) (fun _ h9 => h9) rfl d_Store_letter_36 ?_
        refine va_get (D := G.1) (ci := 0) (v := .int c_at) (C := "BranchStore$Key") (T := F_Key) (N := 3) hx hb hts i_Key hown hK hP 1 rfl rfl 2 (by decide) (hts _ k_113) (fun _ h9 => h9) rfl d_Store_letter_39 ?_
        refine lv_bipush (v := 24) hx hb d_Store_letter_42 (by decide) ?_
        refine lv_icmp_ne (tgt := 55) hx hb d_Store_letter_44 (by decide) (fun q4 => ?_) (fun q4 => ?_)
        · have h := ie h q4
          obtain ⟨y5, h, hRa, hRc⟩ := nx_n h hRa hRc
          refine lv_aload_n hx hb d_Store_letter_55 rfl (lv_at hl 0 rfl) ?_
          refine va_get (D := G.1) (ci := 5) (v := .ref a_ao) (C := "BranchStore") (T := F_Store) (N := 7) hx hb hts i_Store hown hK hP 0 rfl rfl 2 (by decide) (hts _ k_174) (fun _ h9 => h9) rfl d_Store_letter_56 ?_
          refine lv_iload_n hx hb d_Store_letter_59 rfl (lv_at hl 1 rfl) ?_
          obtain ⟨r6, hr6, h⟩ := ob h
          refine zcallv (wr := [(a_s, .inr (5, [.int c_sort, .ref a_t, .ref a_ao, .ref a_bo, .ref a_uo, .int c_set, .ref a_go]))]) (w2 := fun _ => (wB G a_s a_t a_ao a_bo a_uo a_go c_sort c_set ++ wK G a_ao a_aq r6.1 r6.2.1 r6.2.2)) (zrunV (As := [.int p_1]) (rest := []) ⟨hx, hb, hml, hown, hts⟩ hN hK (c_Key_letter l G H.size a_ao a_aq c_ab c_an c_at p_1 r6 hr6) ⟨rfl, rfl⟩ kv_Store_83 ⟨Nat.le_of_ble_eq_true rfl, Nat.le_of_ble_eq_true rfl⟩ 0 rfl rfl rfl hl.1 (Nat.le_of_ble_eq_true rfl) d_Store_letter_60 ⟨by show _ ≤ rc; omega, by show _ ≤ 1024 * rc; omega⟩) hP hD hS hA [1, 2] [0] [0, 1, 2] rfl rfl rfl rfl (by decide) rfl (fun _ => rfl) (fun _ H locs _ hP hD hS => ?_)
          refine lv_aload_n hx hb d_Store_letter_63 rfl (lv_at hl 0 rfl) ?_
          refine va_get (D := G.1) (ci := 5) (v := .ref a_ao) (C := "BranchStore") (T := F_Store) (N := 7) hx hb hts i_Store hown hK hP 0 rfl rfl 2 (by decide) (hts _ k_174) (fun _ h9 => h9) rfl d_Store_letter_64 ?_
          refine va_get (D := G.1) (ci := 0) (v := .int r6.2.2) (C := "BranchStore$Key") (T := F_Key) (N := 3) hx hb hts i_Key hown hK hP 1 rfl rfl 2 (by decide) (hts _ k_113) (fun _ h9 => h9) rfl d_Store_letter_67 ?_
          have ey := Option.some.inj h
          rw [← ey] at hRa hRc
          have hRa : r0 = (r6.2.2, r6.1, r6.2.1, r6.2.2) := hRa
          have hRc : rc = 0 + 0 := hRc
          subst hRa
          exact zreti () hQ hS.2.2 hx hb hr hlocks hP hD hS rfl (by omega) (by omega) d_Store_letter_70
        · have h := it h q4
          have ey := Option.some.inj h
          rw [← ey] at hRa
          cases hRa
      · have h := ie h q3
        have ey := Option.some.inj h
        rw [← ey] at hRa
        cases hRa
  · have h := ie h q1
    have ey := Option.some.inj h
    rw [← ey] at hRa
    cases hRa

set_option maxHeartbeats 8000000 in
set_option maxRecDepth 100000 in
theorem c_Store_letter_x (l : Launch) (G : zG) (hfl : l.flags = flags0) (sz : Nat) (a_s a_t a_ao a_bo a_uo a_go a_aq : Nat) (c_sort : Int32) (c_set : Int32) (c_ab : (Nat → Int32)) (c_an : Int32) (c_at : Int32) (p_1 : Int32) (k0 : Nat) (rc : Nat) (hf : f_Store_letter c_sort c_ab c_an c_at p_1 = some (.inl k0, rc)) :
    MetX l y_Store_letter (Cond.code y_Store_letter prog_1_method_8_code 2 (some .int) :: lw_ok) { frames := 6, cells := rc, slots := 1024 * rc, locals := 90 } (zPcX G sz [.ref a_s, .int p_1] (wB G a_s a_t a_ao a_bo a_uo a_go c_sort c_set ++ wK G a_ao a_aq c_ab c_an c_at)) (zQx (zcls k0)) rc (1024 * rc) (fun q => sz ≤ q) := by
  refine zMetX hfl (by decide) (Nat.le_of_ble_eq_true rfl) (fun xp xe xs xm xb xme xc A ls Q H locs C htr hnh hTs hnA hN hK hP hD hS hL hA hl hQ => ?_)
  obtain ⟨hx, hb, hr, hts, hown, hlocks, hml, hin⟩ := C
  have hl : lv_has ls 2 [(0, .ref a_s), (1, .int p_1)] := hl
  have h := hf
  unfold f_Store_letter at h
  have hRa : (Sum.inl k0 : Nat ⊕ (Int32 × (Nat → Int32) × Int32 × Int32)) = ((Sum.inl k0, rc) : (Nat ⊕ (Int32 × (Nat → Int32) × Int32 × Int32)) × Nat).1 := rfl
  have hRc : rc = 0 + ((Sum.inl k0, rc) : (Nat ⊕ (Int32 × (Nat → Int32) × Int32 × Int32)) × Nat).2 := (Nat.zero_add _).symm
  refine W.widen (k := 0) (n := 1024 * 0) (Nat.le_refl _) (Nat.le_refl _) ?_
  refine lv_aload_n hx hb d_Store_letter_0 rfl (lv_at hl 0 rfl) ?_
  refine va_get (D := G.1) (ci := 5) (v := .int c_sort) (C := "BranchStore") (T := F_Store) (N := 7) hx hb hts i_Store hown hK hP 0 rfl rfl 0 (by decide) (hts _ k_172) (fun _ h9 => h9) rfl d_Store_letter_1 ?_
  refine lv_iconst (v := 2) hx hb d_Store_letter_4 (by decide) ?_
  refine lv_icmp_eq (tgt := 16) hx hb d_Store_letter_5 (by decide) (fun q1 => ?_) (fun q1 => ?_)
  · have h := it h q1
    refine lv_iload_n hx hb d_Store_letter_16 rfl (lv_at hl 1 rfl) ?_
    refine lv_if_lt (tgt := 27) hx hb d_Store_letter_17 (by decide) (fun q2 => ?_) (fun q2 => ?_)
    · have h := it h q2
      have ey := Option.some.inj h
      rw [← ey] at hRa hRc
      have hRc : rc = 0 + 1 := hRc
      obtain rfl := Sum.inl.inj hRa
      exact zthrow (ia := 74) (ic := 76) hQ hx hb hlocks htr hnh hts hN hTs hown (hml.trans hl.1.symm) hS hL k_516 k_517 k_13 kt_1 (by decide) (by show _ ≤ rc; omega) (by show _ ≤ 1024 * rc; omega) (by omega) (by omega) (Nat.le_of_ble_eq_true rfl) (Nat.le_of_ble_eq_true rfl) d_Store_letter_27 d_Store_letter_30 d_Store_letter_31 d_Store_letter_34
    · have h := ie h q2
      refine lv_iload_n hx hb d_Store_letter_20 rfl (lv_at hl 1 rfl) ?_
      refine lv_sipush (v := 255) hx hb d_Store_letter_21 (by decide) ?_
      refine lv_icmp_le (tgt := 35) hx hb d_Store_letter_24 (by decide) (fun q3 => ?_) (fun q3 => ?_)
      · have h := it h q3
        refine lv_aload_n hx hb d_Store_letter_35 rfl (lv_at hl 0 rfl) ?_
        refine va_get (D := G.1) (ci := 5) (v := .ref a_ao) (C := "BranchStore") (T := F_Store) (N := 7) hx hb hts i_Store hown hK hP 0 rfl rfl 2 (by decide) (hts _ k_174) (fun _ h9 => h9) rfl d_Store_letter_36 ?_
        refine va_get (D := G.1) (ci := 0) (v := .int c_at) (C := "BranchStore$Key") (T := F_Key) (N := 3) hx hb hts i_Key hown hK hP 1 rfl rfl 2 (by decide) (hts _ k_113) (fun _ h9 => h9) rfl d_Store_letter_39 ?_
        refine lv_bipush (v := 24) hx hb d_Store_letter_42 (by decide) ?_
        refine lv_icmp_ne (tgt := 55) hx hb d_Store_letter_44 (by decide) (fun q4 => ?_) (fun q4 => ?_)
        · have h := ie h q4
          exact absurd h (fun h => nx_x h hRa)
        · have h := it h q4
          have ey := Option.some.inj h
          rw [← ey] at hRa hRc
          have hRc : rc = 0 + 1 := hRc
          obtain rfl := Sum.inl.inj hRa
          exact zthrow (ia := 80) (ic := 82) hQ hx hb hlocks htr hnh hts hN hTs hown (hml.trans hl.1.symm) hS hL k_531 k_532 k_14 kt_2 (by decide) (by show _ ≤ rc; omega) (by show _ ≤ 1024 * rc; omega) (by omega) (by omega) (Nat.le_of_ble_eq_true rfl) (Nat.le_of_ble_eq_true rfl) d_Store_letter_47 d_Store_letter_50 d_Store_letter_51 d_Store_letter_54
      · have h := ie h q3
        have ey := Option.some.inj h
        rw [← ey] at hRa hRc
        have hRc : rc = 0 + 1 := hRc
        obtain rfl := Sum.inl.inj hRa
        exact zthrow (ia := 74) (ic := 76) hQ hx hb hlocks htr hnh hts hN hTs hown (hml.trans hl.1.symm) hS hL k_516 k_517 k_13 kt_1 (by decide) (by show _ ≤ rc; omega) (by show _ ≤ 1024 * rc; omega) (by omega) (by omega) (Nat.le_of_ble_eq_true rfl) (Nat.le_of_ble_eq_true rfl) d_Store_letter_27 d_Store_letter_30 d_Store_letter_31 d_Store_letter_34
  · have h := ie h q1
    have ey := Option.some.inj h
    rw [← ey] at hRa hRc
    have hRc : rc = 0 + 1 := hRc
    obtain rfl := Sum.inl.inj hRa
    exact zthrow (ia := 64) (ic := 66) hQ hx hb hlocks htr hnh hts hN hTs hown (hml.trans hl.1.symm) hS hL k_433 k_434 k_12 kt_0 (by decide) (by show _ ≤ rc; omega) (by show _ ≤ 1024 * rc; omega) (by omega) (by omega) (Nat.le_of_ble_eq_true rfl) (Nat.le_of_ble_eq_true rfl) d_Store_letter_8 d_Store_letter_11 d_Store_letter_12 d_Store_letter_15

theorem kv_Store_86 : zKV "BranchStore" 86 y_Key_first prog_4_method_3_code 3 none 1 := ⟨k_198, k_87, k_88, k_7, k_89, by decide +kernel⟩
noncomputable def f_Store_erase (c_sort : Int32) (c_ab : (Nat → Int32)) (c_an : Int32) (c_at : Int32)  : Option ((Nat → Int32) × Int32 × Int32) :=
(f_Key_first c_ab c_an c_at c_sort).bind fun r1 =>
some (r1.1, r1.2.1, r1.2.2)
set_option maxHeartbeats 8000000 in
set_option maxRecDepth 100000 in
theorem c_Store_erase (l : Launch) (G : zG) (sz : Nat) (a_s a_t a_ao a_bo a_uo a_go a_aq : Nat) (c_sort : Int32) (c_set : Int32) (c_ab : (Nat → Int32)) (c_an : Int32) (c_at : Int32) (r0 : ((Nat → Int32) × Int32 × Int32)) (hf : f_Store_erase c_sort c_ab c_an c_at = some r0) :
    Met l y_Store_erase (Cond.code y_Store_erase prog_1_method_9_code 1 none :: lw_ok) { frames := 3, cells := 0, slots := 0, locals := 68 } (zPc G sz [.ref a_s] (wB G a_s a_t a_ao a_bo a_uo a_go c_sort c_set ++ wK G a_ao a_aq c_ab c_an c_at))
      ((fun (A : Nat → Prop) => va_Qv (fun (_ : Unit) => True) (fun _ t => zB G A (wB G a_s a_t a_ao a_bo a_uo a_go c_sort c_set ++ wK G a_ao a_aq r0.1 r0.2.1 r0.2.2) t) A) (va_A (wB G a_s a_t a_ao a_bo a_uo a_go c_sort c_set ++ wK G a_ao a_aq c_ab c_an c_at) sz)) 0 0 (va_A (wB G a_s a_t a_ao a_bo a_uo a_go c_sort c_set ++ wK G a_ao a_aq c_ab c_an c_at) sz) := by
  refine zMet (Qc := fun (A : Nat → Prop) => va_Qv (fun (_ : Unit) => True) (fun _ t => zB G A (wB G a_s a_t a_ao a_bo a_uo a_go c_sort c_set ++ wK G a_ao a_aq r0.1 r0.2.1 r0.2.2) t) A) (by decide) (Nat.le_of_ble_eq_true rfl) (fun xp xe xs xm xb xme xc A ls Q H locs C hN hK hP hD hS hA hl hQ => ?_)
  obtain ⟨hx, hb, hr, hts, hown, hlocks, hml, hin⟩ := C
  have hl : lv_has ls 1 [(0, .ref a_s)] := hl
  have h := hf
  unfold f_Store_erase at h
  refine lv_aload_n hx hb d_Store_erase_0 rfl (lv_at hl 0 rfl) ?_
  refine va_get (D := G.1) (ci := 5) (v := .ref a_ao) (C := "BranchStore") (T := F_Store) (N := 7) hx hb hts i_Store hown hK hP 0 rfl rfl 2 (by decide) (hts _ k_174) (fun _ h9 => h9) rfl d_Store_erase_1 ?_
  refine lv_aload_n hx hb d_Store_erase_4 rfl (lv_at hl 0 rfl) ?_
  refine va_get (D := G.1) (ci := 5) (v := .int c_sort) (C := "BranchStore") (T := F_Store) (N := 7) hx hb hts i_Store hown hK hP 0 rfl rfl 0 (by decide) (hts _ k_172) (fun _ h9 => h9) rfl d_Store_erase_5 ?_
  obtain ⟨r1, hr1, h⟩ := ob h
  refine zcallv (wr := [(a_s, .inr (5, [.int c_sort, .ref a_t, .ref a_ao, .ref a_bo, .ref a_uo, .int c_set, .ref a_go]))]) (w2 := fun _ => (wB G a_s a_t a_ao a_bo a_uo a_go c_sort c_set ++ wK G a_ao a_aq r1.1 r1.2.1 r1.2.2)) (zrunV (As := [.int c_sort]) (rest := []) ⟨hx, hb, hml, hown, hts⟩ hN hK (c_Key_first l G H.size a_ao a_aq c_ab c_an c_at c_sort r1 hr1) ⟨rfl, rfl⟩ kv_Store_86 ⟨Nat.le_of_ble_eq_true rfl, Nat.le_of_ble_eq_true rfl⟩ 0 rfl rfl rfl hl.1 (Nat.le_of_ble_eq_true rfl) d_Store_erase_8 ⟨Nat.le_of_ble_eq_true rfl, Nat.le_of_ble_eq_true rfl⟩) hP hD hS hA [1, 2] [0] [0, 1, 2] rfl rfl rfl rfl (by decide) rfl (fun _ => rfl) (fun _ H locs _ hP hD hS => ?_)
  obtain rfl := Option.some.inj h
  exact zretv () hQ hS.2.2 hx hb hr hlocks hP hD hS trivial (Nat.le_refl _) (Nat.le_refl _) d_Store_erase_11

theorem kv_Store_89 : zKV "BranchStore" 89 y_Key_become prog_4_method_8_code 3 none 1 := ⟨k_203, k_204, k_205, k_7, k_206, by decide +kernel⟩
noncomputable def f_Store_keep (c_ab : (Nat → Int32)) (c_an : Int32) (c_at : Int32) (c_bb : (Nat → Int32)) (c_bn : Int32) (c_bt : Int32)  : Option ((Nat → Int32) × Int32 × Int32) :=
(f_Key_become c_bb c_bn c_bt c_ab c_an c_at).bind fun r1 =>
some (r1.1, r1.2.1, r1.2.2)
set_option maxHeartbeats 8000000 in
set_option maxRecDepth 100000 in
theorem c_Store_keep (l : Launch) (G : zG) (sz : Nat) (a_s a_t a_ao a_bo a_uo a_go a_aq a_bq : Nat) (c_sort : Int32) (c_set : Int32) (c_ab : (Nat → Int32)) (c_an : Int32) (c_at : Int32) (c_bb : (Nat → Int32)) (c_bn : Int32) (c_bt : Int32) (r0 : ((Nat → Int32) × Int32 × Int32)) (hf : f_Store_keep c_ab c_an c_at c_bb c_bn c_bt = some r0) :
    Met l y_Store_keep (Cond.code y_Store_keep prog_1_method_10_code 1 none :: lw_ok) { frames := 1, cells := 0, slots := 0, locals := 22 } (zPc G sz [.ref a_s] (wB G a_s a_t a_ao a_bo a_uo a_go c_sort c_set ++ wK G a_ao a_aq c_ab c_an c_at ++ wK G a_bo a_bq c_bb c_bn c_bt))
      ((fun (A : Nat → Prop) => va_Qv (fun (_ : Unit) => True) (fun _ t => zB G A (wB G a_s a_t a_ao a_bo a_uo a_go c_sort c_set ++ wK G a_ao a_aq c_ab c_an c_at ++ wK G a_bo a_bq r0.1 r0.2.1 r0.2.2) t) A) (va_A (wB G a_s a_t a_ao a_bo a_uo a_go c_sort c_set ++ wK G a_ao a_aq c_ab c_an c_at ++ wK G a_bo a_bq c_bb c_bn c_bt) sz)) 0 0 (va_A (wB G a_s a_t a_ao a_bo a_uo a_go c_sort c_set ++ wK G a_ao a_aq c_ab c_an c_at ++ wK G a_bo a_bq c_bb c_bn c_bt) sz) := by
  refine zMet (Qc := fun (A : Nat → Prop) => va_Qv (fun (_ : Unit) => True) (fun _ t => zB G A (wB G a_s a_t a_ao a_bo a_uo a_go c_sort c_set ++ wK G a_ao a_aq c_ab c_an c_at ++ wK G a_bo a_bq r0.1 r0.2.1 r0.2.2) t) A) (by decide) (Nat.le_of_ble_eq_true rfl) (fun xp xe xs xm xb xme xc A ls Q H locs C hN hK hP hD hS hA hl hQ => ?_)
  obtain ⟨hx, hb, hr, hts, hown, hlocks, hml, hin⟩ := C
  have hl : lv_has ls 1 [(0, .ref a_s)] := hl
  have h := hf
  unfold f_Store_keep at h
  refine lv_aload_n hx hb d_Store_keep_0 rfl (lv_at hl 0 rfl) ?_
  refine va_get (D := G.1) (ci := 5) (v := .ref a_bo) (C := "BranchStore") (T := F_Store) (N := 7) hx hb hts i_Store hown hK hP 0 rfl rfl 3 (by decide) (hts _ k_175) (fun _ h9 => h9) rfl d_Store_keep_1 ?_
  refine lv_aload_n hx hb d_Store_keep_4 rfl (lv_at hl 0 rfl) ?_
  refine va_get (D := G.1) (ci := 5) (v := .ref a_ao) (C := "BranchStore") (T := F_Store) (N := 7) hx hb hts i_Store hown hK hP 0 rfl rfl 2 (by decide) (hts _ k_174) (fun _ h9 => h9) rfl d_Store_keep_5 ?_
  obtain ⟨r1, hr1, h⟩ := ob h
  refine zcallv (wr := [(a_s, .inr (5, [.int c_sort, .ref a_t, .ref a_ao, .ref a_bo, .ref a_uo, .int c_set, .ref a_go]))]) (w2 := fun _ => (wB G a_s a_t a_ao a_bo a_uo a_go c_sort c_set ++ wK G a_ao a_aq c_ab c_an c_at ++ wK G a_bo a_bq r1.1 r1.2.1 r1.2.2)) (zrunV (As := [.ref a_ao]) (rest := []) ⟨hx, hb, hml, hown, hts⟩ hN hK (c_Key_become l G H.size a_bo a_bq a_ao a_aq c_bb c_bn c_bt c_ab c_an c_at r1 hr1) ⟨rfl, rfl⟩ kv_Store_89 ⟨Nat.le_of_ble_eq_true rfl, Nat.le_of_ble_eq_true rfl⟩ 0 rfl rfl rfl hl.1 (Nat.le_of_ble_eq_true rfl) d_Store_keep_8 ⟨Nat.le_of_ble_eq_true rfl, Nat.le_of_ble_eq_true rfl⟩) hP hD hS hA [3, 4, 1, 2] [0] [0, 3, 4, 1, 2] rfl rfl rfl rfl (by decide) rfl (fun _ => rfl) (fun _ H locs _ hP hD hS => ?_)
  obtain rfl := Option.some.inj h
  exact zretv () hQ hS.2.2 hx hb hr hlocks hP hD hS trivial (Nat.le_refl _) (Nat.le_refl _) d_Store_keep_11

noncomputable def f_Store_take (c_set : Int32) (c_ab : (Nat → Int32)) (c_an : Int32) (c_at : Int32) (c_ub : (Nat → Int32)) (c_un : Int32) (c_ut : Int32)  : Option ((Nat ⊕ ((Nat → Int32) × Int32 × Int32)) × Nat) :=
if c_set = 0 then
(some (.inl 3, 1))
else
(nx <|
(f_Key_become c_ab c_an c_at c_ub c_un c_ut).bind fun r3 =>
some ((r3.1, r3.2.1, r3.2.2), 0))
set_option maxHeartbeats 8000000 in
set_option maxRecDepth 100000 in
theorem c_Store_take (l : Launch) (G : zG) (sz : Nat) (a_s a_t a_ao a_bo a_uo a_go a_aq a_uq : Nat) (c_sort : Int32) (c_set : Int32) (c_ab : (Nat → Int32)) (c_an : Int32) (c_at : Int32) (c_ub : (Nat → Int32)) (c_un : Int32) (c_ut : Int32) (r0 : ((Nat → Int32) × Int32 × Int32)) (rc : Nat) (hf : f_Store_take c_set c_ab c_an c_at c_ub c_un c_ut = some (.inr r0, rc)) :
    Met l y_Store_take (Cond.code y_Store_take prog_1_method_11_code 1 none :: lw_ok) { frames := 6, cells := rc, slots := 1024 * rc, locals := 90 } (zPc G sz [.ref a_s] (wB G a_s a_t a_ao a_bo a_uo a_go c_sort c_set ++ wK G a_ao a_aq c_ab c_an c_at ++ wK G a_uo a_uq c_ub c_un c_ut))
      ((fun (A : Nat → Prop) => va_Qv (fun (_ : Unit) => True) (fun _ t => zB G A (wB G a_s a_t a_ao a_bo a_uo a_go c_sort c_set ++ wK G a_ao a_aq r0.1 r0.2.1 r0.2.2 ++ wK G a_uo a_uq c_ub c_un c_ut) t) A) (va_A (wB G a_s a_t a_ao a_bo a_uo a_go c_sort c_set ++ wK G a_ao a_aq c_ab c_an c_at ++ wK G a_uo a_uq c_ub c_un c_ut) sz)) rc (1024 * rc) (va_A (wB G a_s a_t a_ao a_bo a_uo a_go c_sort c_set ++ wK G a_ao a_aq c_ab c_an c_at ++ wK G a_uo a_uq c_ub c_un c_ut) sz) := by
  refine zMet (Qc := fun (A : Nat → Prop) => va_Qv (fun (_ : Unit) => True) (fun _ t => zB G A (wB G a_s a_t a_ao a_bo a_uo a_go c_sort c_set ++ wK G a_ao a_aq r0.1 r0.2.1 r0.2.2 ++ wK G a_uo a_uq c_ub c_un c_ut) t) A) (by decide) (Nat.le_of_ble_eq_true rfl) (fun xp xe xs xm xb xme xc A ls Q H locs C hN hK hP hD hS hA hl hQ => ?_)
  obtain ⟨hx, hb, hr, hts, hown, hlocks, hml, hin⟩ := C
  have hl : lv_has ls 1 [(0, .ref a_s)] := hl
  have h := hf
  unfold f_Store_take at h
  have hRa : (Sum.inr r0 : Nat ⊕ ((Nat → Int32) × Int32 × Int32)) = ((Sum.inr r0, rc) : (Nat ⊕ ((Nat → Int32) × Int32 × Int32)) × Nat).1 := rfl
  have hRc : rc = 0 + ((Sum.inr r0, rc) : (Nat ⊕ ((Nat → Int32) × Int32 × Int32)) × Nat).2 := (Nat.zero_add _).symm
  refine W.widen (k := 0) (n := 1024 * 0) (Nat.le_refl _) (Nat.le_refl _) ?_
  refine lv_aload_n hx hb d_Store_take_0 rfl (lv_at hl 0 rfl) ?_
  refine va_get (D := G.1) (ci := 5) (v := .int c_set) (C := "BranchStore") (T := F_Store) (N := 7) hx hb hts i_Store hown hK hP 0 rfl rfl 5 (by decide) (hts _ k_177) (fun _ h9 => h9) rfl d_Store_take_1 ?_
  refine lv_if_ne (tgt := 15) hx hb d_Store_take_4 (by decide) (fun q1 => ?_) (fun q1 => ?_)
  · have h := ie h q1
    obtain ⟨y2, h, hRa, hRc⟩ := nx_n h hRa hRc
    refine lv_aload_n hx hb d_Store_take_15 rfl (lv_at hl 0 rfl) ?_
    refine va_get (D := G.1) (ci := 5) (v := .ref a_ao) (C := "BranchStore") (T := F_Store) (N := 7) hx hb hts i_Store hown hK hP 0 rfl rfl 2 (by decide) (hts _ k_174) (fun _ h9 => h9) rfl d_Store_take_16 ?_
    refine lv_aload_n hx hb d_Store_take_19 rfl (lv_at hl 0 rfl) ?_
    refine va_get (D := G.1) (ci := 5) (v := .ref a_uo) (C := "BranchStore") (T := F_Store) (N := 7) hx hb hts i_Store hown hK hP 0 rfl rfl 4 (by decide) (hts _ k_176) (fun _ h9 => h9) rfl d_Store_take_20 ?_
    obtain ⟨r3, hr3, h⟩ := ob h
    refine zcallv (wr := [(a_s, .inr (5, [.int c_sort, .ref a_t, .ref a_ao, .ref a_bo, .ref a_uo, .int c_set, .ref a_go]))]) (w2 := fun _ => (wB G a_s a_t a_ao a_bo a_uo a_go c_sort c_set ++ wK G a_ao a_aq r3.1 r3.2.1 r3.2.2 ++ wK G a_uo a_uq c_ub c_un c_ut)) (zrunV (As := [.ref a_uo]) (rest := []) ⟨hx, hb, hml, hown, hts⟩ hN hK (c_Key_become l G H.size a_ao a_aq a_uo a_uq c_ab c_an c_at c_ub c_un c_ut r3 hr3) ⟨rfl, rfl⟩ kv_Store_89 ⟨Nat.le_of_ble_eq_true rfl, Nat.le_of_ble_eq_true rfl⟩ 0 rfl rfl rfl hl.1 (Nat.le_of_ble_eq_true rfl) d_Store_take_23 ⟨by show _ ≤ rc; omega, by show _ ≤ 1024 * rc; omega⟩) hP hD hS hA [1, 2, 3, 4] [0] [0, 1, 2, 3, 4] rfl rfl rfl rfl (by decide) rfl (fun _ => rfl) (fun _ H locs _ hP hD hS => ?_)
    have ey := Option.some.inj h
    rw [← ey] at hRa hRc
    have hRa : r0 = (r3.1, r3.2.1, r3.2.2) := hRa
    have hRc : rc = 0 + 0 := hRc
    subst hRa
    exact zretv () hQ hS.2.2 hx hb hr hlocks hP hD hS trivial (by omega) (by omega) d_Store_take_26
  · have h := it h q1
    have ey := Option.some.inj h
    rw [← ey] at hRa
    cases hRa

set_option maxHeartbeats 8000000 in
set_option maxRecDepth 100000 in
theorem c_Store_take_x (l : Launch) (G : zG) (hfl : l.flags = flags0) (sz : Nat) (a_s a_t a_ao a_bo a_uo a_go a_aq a_uq : Nat) (c_sort : Int32) (c_set : Int32) (c_ab : (Nat → Int32)) (c_an : Int32) (c_at : Int32) (c_ub : (Nat → Int32)) (c_un : Int32) (c_ut : Int32) (k0 : Nat) (rc : Nat) (hf : f_Store_take c_set c_ab c_an c_at c_ub c_un c_ut = some (.inl k0, rc)) :
    MetX l y_Store_take (Cond.code y_Store_take prog_1_method_11_code 1 none :: lw_ok) { frames := 6, cells := rc, slots := 1024 * rc, locals := 90 } (zPcX G sz [.ref a_s] (wB G a_s a_t a_ao a_bo a_uo a_go c_sort c_set ++ wK G a_ao a_aq c_ab c_an c_at ++ wK G a_uo a_uq c_ub c_un c_ut)) (zQx (zcls k0)) rc (1024 * rc) (fun q => sz ≤ q) := by
  refine zMetX hfl (by decide) (Nat.le_of_ble_eq_true rfl) (fun xp xe xs xm xb xme xc A ls Q H locs C htr hnh hTs hnA hN hK hP hD hS hL hA hl hQ => ?_)
  obtain ⟨hx, hb, hr, hts, hown, hlocks, hml, hin⟩ := C
  have hl : lv_has ls 1 [(0, .ref a_s)] := hl
  have h := hf
  unfold f_Store_take at h
  have hRa : (Sum.inl k0 : Nat ⊕ ((Nat → Int32) × Int32 × Int32)) = ((Sum.inl k0, rc) : (Nat ⊕ ((Nat → Int32) × Int32 × Int32)) × Nat).1 := rfl
  have hRc : rc = 0 + ((Sum.inl k0, rc) : (Nat ⊕ ((Nat → Int32) × Int32 × Int32)) × Nat).2 := (Nat.zero_add _).symm
  refine W.widen (k := 0) (n := 1024 * 0) (Nat.le_refl _) (Nat.le_refl _) ?_
  refine lv_aload_n hx hb d_Store_take_0 rfl (lv_at hl 0 rfl) ?_
  refine va_get (D := G.1) (ci := 5) (v := .int c_set) (C := "BranchStore") (T := F_Store) (N := 7) hx hb hts i_Store hown hK hP 0 rfl rfl 5 (by decide) (hts _ k_177) (fun _ h9 => h9) rfl d_Store_take_1 ?_
  refine lv_if_ne (tgt := 15) hx hb d_Store_take_4 (by decide) (fun q1 => ?_) (fun q1 => ?_)
  · have h := ie h q1
    exact absurd h (fun h => nx_x h hRa)
  · have h := it h q1
    have ey := Option.some.inj h
    rw [← ey] at hRa hRc
    have hRc : rc = 0 + 1 := hRc
    obtain rfl := Sum.inl.inj hRa
    exact zthrow (ia := 13) (ic := 15) hQ hx hb hlocks htr hnh hts hN hTs hown (hml.trans hl.1.symm) hS hL k_558 k_559 k_15 kt_3 (by decide) (by show _ ≤ rc; omega) (by show _ ≤ 1024 * rc; omega) (by omega) (by omega) (Nat.le_of_ble_eq_true rfl) (Nat.le_of_ble_eq_true rfl) d_Store_take_7 d_Store_take_10 d_Store_take_11 d_Store_take_14

theorem kv_Store_93 : zKV "BranchStore" 93 y_Tree_setValue prog_7_method_10_code 4 none 2 := ⟨k_580, k_581, k_582, k_2, k_583, by decide +kernel⟩
theorem kv_Store_97 : zKV "BranchStore" 97 y_Tree_add prog_7_method_26_code 15 none 2 := ⟨k_584, k_585, k_586, k_2, k_587, by decide +kernel⟩
noncomputable def f_Store_put (c_c : (Nat → Int32)) (c_cl : Nat) (c_en : Int32) (c_rt : Int32) (c_fr : (Nat → Int32)) (c_br : (Nat → Int32)) (c_ab : (Nat → Int32)) (c_an : Int32) (c_at : Int32) (p_1 : Int64) : Option ((Nat ⊕ (Int32 × (Nat → Int32) × Nat × Int32 × Int32 × (Nat → Int32) × (Nat → Int32))) × Nat) :=
(f_Tree_find c_c c_cl c_rt c_ab c_an).bind fun r1 =>
if r1 = 0 then
((f_Tree_keys c_c c_cl c_rt).bind fun r7 =>
if r7 = 1500 then
(some (.inl 2, 1))
else
(nx <|
bd (f_Tree_add c_c c_cl c_en c_rt c_fr c_br c_ab c_an c_at p_1) fun r11 =>
some ((1, r11.1, r11.2.1, r11.2.2.1, r11.2.2.2.1, r11.2.2.2.2.1, r11.2.2.2.2.2), 0)))
else
(nx <|
(f_Tree_setValue c_c c_cl r1 p_1).bind fun r5 =>
some ((0, r5, c_cl, c_en, c_rt, c_fr, c_br), 0))
set_option maxHeartbeats 8000000 in
set_option maxRecDepth 100000 in
theorem c_Store_put (l : Launch) (G : zG) (sz : Nat) (a_s a_t a_ao a_bo a_uo a_go a_c a_mv a_fr a_br a_e0 a_e1 a_e2 a_e3 a_lo a_ho a_aq : Nat) (c_sort : Int32) (c_set : Int32) (c_c : (Nat → Int32)) (c_cl : Nat) (c_mv : (Nat → Int32)) (c_ml : Nat) (c_en : Int32) (c_rt : Int32) (c_fr : (Nat → Int32)) (c_br : (Nat → Int32)) (c_fi : Int64) (c_st : Int64) (c_vz : Int64) (c_ab : (Nat → Int32)) (c_an : Int32) (c_at : Int32) (p_1 : Int64) (r0 : (Int32 × (Nat → Int32) × Nat × Int32 × Int32 × (Nat → Int32) × (Nat → Int32))) (rc : Nat) (hf : f_Store_put c_c c_cl c_en c_rt c_fr c_br c_ab c_an c_at p_1 = some (.inr r0, rc)) :
    Met l y_Store_put (Cond.code y_Store_put prog_1_method_12_code 4 (some .boolean) :: lw_ok) { frames := 7, cells := rc, slots := 1024 * rc, locals := 188 } (zPc G sz [.ref a_s, .long p_1] (wB G a_s a_t a_ao a_bo a_uo a_go c_sort c_set ++ wT G a_t a_c a_mv a_fr a_br a_e0 a_e1 a_e2 a_e3 a_lo a_ho c_c c_cl c_mv c_ml c_en c_rt c_fr c_br c_fi c_st c_vz ++ wK G a_ao a_aq c_ab c_an c_at))
      ((fun (A : Nat → Prop) => va_Qi (fun (r : Int32) (u : Nat × Nat) => r = r0.1 ∧ narrow .boolean (.int r) = .int r) (fun u t => zB G A (wB G a_s a_t a_ao a_bo a_uo a_go c_sort c_set ++ wT G a_t u.1 u.2 a_fr a_br a_e0 a_e1 a_e2 a_e3 a_lo a_ho r0.2.1 r0.2.2.1 c_mv c_ml r0.2.2.2.1 r0.2.2.2.2.1 r0.2.2.2.2.2.1 r0.2.2.2.2.2.2 c_fi c_st c_vz ++ wK G a_ao a_aq c_ab c_an c_at) t) A) (va_A (wB G a_s a_t a_ao a_bo a_uo a_go c_sort c_set ++ wT G a_t a_c a_mv a_fr a_br a_e0 a_e1 a_e2 a_e3 a_lo a_ho c_c c_cl c_mv c_ml c_en c_rt c_fr c_br c_fi c_st c_vz ++ wK G a_ao a_aq c_ab c_an c_at) sz)) rc (1024 * rc) (va_A (wB G a_s a_t a_ao a_bo a_uo a_go c_sort c_set ++ wT G a_t a_c a_mv a_fr a_br a_e0 a_e1 a_e2 a_e3 a_lo a_ho c_c c_cl c_mv c_ml c_en c_rt c_fr c_br c_fi c_st c_vz ++ wK G a_ao a_aq c_ab c_an c_at) sz) := by
  refine zMet (Qc := fun (A : Nat → Prop) => va_Qi (fun (r : Int32) (u : Nat × Nat) => r = r0.1 ∧ narrow .boolean (.int r) = .int r) (fun u t => zB G A (wB G a_s a_t a_ao a_bo a_uo a_go c_sort c_set ++ wT G a_t u.1 u.2 a_fr a_br a_e0 a_e1 a_e2 a_e3 a_lo a_ho r0.2.1 r0.2.2.1 c_mv c_ml r0.2.2.2.1 r0.2.2.2.2.1 r0.2.2.2.2.2.1 r0.2.2.2.2.2.2 c_fi c_st c_vz ++ wK G a_ao a_aq c_ab c_an c_at) t) A) (by decide) (Nat.le_of_ble_eq_true rfl) (fun xp xe xs xm xb xme xc A ls Q H locs C hN hK hP hD hS hA hl hQ => ?_)
  obtain ⟨hx, hb, hr, hts, hown, hlocks, hml, hin⟩ := C
  have hl : lv_has ls 4 [(0, .ref a_s), (1, .long p_1)] := hl
  have h := hf
  unfold f_Store_put at h
  have hRa : (Sum.inr r0 : Nat ⊕ (Int32 × (Nat → Int32) × Nat × Int32 × Int32 × (Nat → Int32) × (Nat → Int32))) = ((Sum.inr r0, rc) : (Nat ⊕ (Int32 × (Nat → Int32) × Nat × Int32 × Int32 × (Nat → Int32) × (Nat → Int32))) × Nat).1 := rfl
  have hRc : rc = 0 + ((Sum.inr r0, rc) : (Nat ⊕ (Int32 × (Nat → Int32) × Nat × Int32 × Int32 × (Nat → Int32) × (Nat → Int32))) × Nat).2 := (Nat.zero_add _).symm
  refine W.widen (k := 0) (n := 1024 * 0) (Nat.le_refl _) (Nat.le_refl _) ?_
  refine lv_aload_n hx hb d_Store_put_0 rfl (lv_at hl 0 rfl) ?_
  refine va_get (D := G.1) (ci := 5) (v := .ref a_t) (C := "BranchStore") (T := F_Store) (N := 7) hx hb hts i_Store hown hK hP 0 rfl rfl 1 (by decide) (hts _ k_173) (fun _ h9 => h9) rfl d_Store_put_1 ?_
  refine lv_aload_n hx hb d_Store_put_4 rfl (lv_at hl 0 rfl) ?_
  refine va_get (D := G.1) (ci := 5) (v := .ref a_ao) (C := "BranchStore") (T := F_Store) (N := 7) hx hb hts i_Store hown hK hP 0 rfl rfl 2 (by decide) (hts _ k_174) (fun _ h9 => h9) rfl d_Store_put_5 ?_
  obtain ⟨r1, hr1, h⟩ := ob h
  refine zpcalli (wr := [(a_s, .inr (5, [.int c_sort, .ref a_t, .ref a_ao, .ref a_bo, .ref a_uo, .int c_set, .ref a_go]))]) (w2 := fun _ => (wB G a_s a_t a_ao a_bo a_uo a_go c_sort c_set ++ wT G a_t a_c a_mv a_fr a_br a_e0 a_e1 a_e2 a_e3 a_lo a_ho c_c c_cl c_mv c_ml c_en c_rt c_fr c_br c_fi c_st c_vz ++ wK G a_ao a_aq c_ab c_an c_at)) (zrunV (As := [.ref a_ao]) (rest := []) ⟨hx, hb, hml, hown, hts⟩ hN hK (c_Tree_find l G H.size a_t a_c a_mv a_fr a_br a_e0 a_e1 a_e2 a_e3 a_lo a_ho a_ao a_aq c_c c_cl c_mv c_ml c_en c_rt c_fr c_br c_fi c_st c_vz c_ab c_an c_at r1 hr1) ⟨rfl, rfl⟩ kv_Store_7 ⟨Nat.le_of_ble_eq_true rfl, Nat.le_of_ble_eq_true rfl⟩ 0 rfl rfl rfl hl.1 (Nat.le_of_ble_eq_true rfl) d_Store_put_8 ⟨by show _ ≤ rc; omega, by show _ ≤ 1024 * rc; omega⟩) hP hD hS hA [1, 2, 3, 4, 5, 6, 7, 8, 9, 10, 11] [0] [0, 1, 2, 3, 4, 5, 6, 7, 8, 9, 10, 11] rfl rfl rfl rfl (by decide) rfl (fun _ => rfl) (fun rr _ H hw hP hD hS => ?_)
  have hw := hw.symm
  subst hw
  refine lv_istore_n (lv' := [(3, .int r1), (0, .ref a_s), (1, .long p_1)]) hx hb d_Store_put_11 rfl hl (by decide) rfl (fun ls hl => ?_)
  refine lv_iload_n hx hb d_Store_put_12 rfl (lv_at hl 0 rfl) ?_
  refine lv_if_ne (tgt := 37) hx hb d_Store_put_13 (by decide) (fun q2 => ?_) (fun q2 => ?_)
  · have h := ie h q2
    obtain ⟨y3, h, hRa, hRc⟩ := nx_n h hRa hRc
    refine lv_iload_n hx hb d_Store_put_37 rfl (lv_at hl 0 rfl) ?_
    refine lv_if_eq (tgt := 53) hx hb d_Store_put_38 (by decide) (fun q4 => absurd q4 q2) (fun _ => ?_)
    refine lv_aload_n hx hb d_Store_put_41 rfl (lv_at hl 1 rfl) ?_
    refine va_get (D := G.1) (ci := 5) (v := .ref a_t) (C := "BranchStore") (T := F_Store) (N := 7) hx hb hts i_Store hown hK hP 0 rfl rfl 1 (by decide) (hts _ k_173) (fun _ h9 => h9) rfl d_Store_put_42 ?_
    refine lv_iload_n hx hb d_Store_put_45 rfl (lv_at hl 0 rfl) ?_
    refine lv_lload_n hx hb d_Store_put_46 rfl (lv_at hl 2 rfl) ?_
    obtain ⟨r5, hr5, h⟩ := ob h
    refine zcallv (wr := [(a_s, .inr (5, [.int c_sort, .ref a_t, .ref a_ao, .ref a_bo, .ref a_uo, .int c_set, .ref a_go])), (a_ao, .inr (0, [.ref a_aq, .int c_an, .int c_at])), (a_aq, .inl (G.2.2.1, 50, .inl c_ab))]) (w2 := fun _ => (wB G a_s a_t a_ao a_bo a_uo a_go c_sort c_set ++ wT G a_t a_c a_mv a_fr a_br a_e0 a_e1 a_e2 a_e3 a_lo a_ho r5 c_cl c_mv c_ml c_en c_rt c_fr c_br c_fi c_st c_vz ++ wK G a_ao a_aq c_ab c_an c_at)) (zrunV (As := [.int r1, .long p_1]) (rest := []) ⟨hx, hb, hml, hown, hts⟩ hN hK (c_Tree_setValue l G H.size a_t a_c a_mv a_fr a_br a_e0 a_e1 a_e2 a_e3 a_lo a_ho c_c c_cl c_mv c_ml c_en c_rt c_fr c_br c_fi c_st c_vz r1 p_1 r5 hr5) ⟨rfl, rfl⟩ kv_Store_93 ⟨Nat.le_of_ble_eq_true rfl, Nat.le_of_ble_eq_true rfl⟩ 0 rfl rfl rfl hl.1 (Nat.le_of_ble_eq_true rfl) d_Store_put_47 ⟨by show _ ≤ rc; omega, by show _ ≤ 1024 * rc; omega⟩) hP hD hS hA [1, 2, 3, 4, 5, 6, 7, 8, 9] [0, 10, 11] [0, 3, 4, 5, 6, 7, 8, 9, 10, 11, 1, 2] rfl rfl rfl rfl (by decide) rfl (fun _ => rfl) (fun _ H locs _ hP hD hS => ?_)
    refine lv_goto (tgt := 65) hx hb d_Store_put_50 (by decide) ?_
    refine lv_iload_n hx hb d_Store_put_65 rfl (lv_at hl 0 rfl) ?_
    refine lv_if_ne (tgt := 73) hx hb d_Store_put_66 (by decide) (fun _ => ?_) (fun q6 => absurd q6 q2)
    refine lv_iconst (v := 0) hx hb d_Store_put_73 (by decide) ?_
    have ey := Option.some.inj h
    rw [← ey] at hRa hRc
    have hRa : r0 = (0, r5, c_cl, c_en, c_rt, c_fr, c_br) := hRa
    have hRc : rc = 0 + 0 := hRc
    subst hRa
    exact zretz (a_c, a_mv) hQ hS.2.2 hx hb hr hlocks hP hD hS ⟨rfl, rfl⟩ (by omega) (by omega) d_Store_put_74 rfl
  · have h := it h q2
    refine lv_aload_n hx hb d_Store_put_16 rfl (lv_at hl 1 rfl) ?_
    refine va_get (D := G.1) (ci := 5) (v := .ref a_t) (C := "BranchStore") (T := F_Store) (N := 7) hx hb hts i_Store hown hK hP 0 rfl rfl 1 (by decide) (hts _ k_173) (fun _ h9 => h9) rfl d_Store_put_17 ?_
    obtain ⟨r7, hr7, h⟩ := ob h
    refine zpcalli (wr := [(a_s, .inr (5, [.int c_sort, .ref a_t, .ref a_ao, .ref a_bo, .ref a_uo, .int c_set, .ref a_go])), (a_ao, .inr (0, [.ref a_aq, .int c_an, .int c_at])), (a_aq, .inl (G.2.2.1, 50, .inl c_ab))]) (w2 := fun _ => (wB G a_s a_t a_ao a_bo a_uo a_go c_sort c_set ++ wT G a_t a_c a_mv a_fr a_br a_e0 a_e1 a_e2 a_e3 a_lo a_ho c_c c_cl c_mv c_ml c_en c_rt c_fr c_br c_fi c_st c_vz ++ wK G a_ao a_aq c_ab c_an c_at)) (zrunV (As := []) (rest := []) ⟨hx, hb, hml, hown, hts⟩ hN hK (c_Tree_keys l G H.size a_t a_c a_mv a_fr a_br a_e0 a_e1 a_e2 a_e3 a_lo a_ho c_c c_cl c_mv c_ml c_en c_rt c_fr c_br c_fi c_st c_vz r7 hr7) ⟨rfl, rfl⟩ kv_Store_27 ⟨Nat.le_of_ble_eq_true rfl, Nat.le_of_ble_eq_true rfl⟩ 0 rfl rfl rfl hl.1 (Nat.le_of_ble_eq_true rfl) d_Store_put_20 ⟨by show _ ≤ rc; omega, by show _ ≤ 1024 * rc; omega⟩) hP hD hS hA [1, 2, 3, 4, 5, 6, 7, 8, 9] [0, 10, 11] [0, 3, 4, 5, 6, 7, 8, 9, 10, 11, 1, 2] rfl rfl rfl rfl (by decide) rfl (fun _ => rfl) (fun rr _ H hw hP hD hS => ?_)
    have hw := hw.symm
    subst hw
    refine lv_sipush (v := 1500) hx hb d_Store_put_23 (by decide) ?_
    refine lv_icmp_ne (tgt := 37) hx hb d_Store_put_26 (by decide) (fun q8 => ?_) (fun q8 => ?_)
    · have h := ie h q8
      obtain ⟨y9, h, hRa, hRc⟩ := nx_n h hRa hRc
      refine lv_iload_n hx hb d_Store_put_37 rfl (lv_at hl 0 rfl) ?_
      refine lv_if_eq (tgt := 53) hx hb d_Store_put_38 (by decide) (fun _ => ?_) (fun q10 => absurd q2 q10)
      refine lv_aload_n hx hb d_Store_put_53 rfl (lv_at hl 1 rfl) ?_
      refine va_get (D := G.1) (ci := 5) (v := .ref a_t) (C := "BranchStore") (T := F_Store) (N := 7) hx hb hts i_Store hown hK hP 0 rfl rfl 1 (by decide) (hts _ k_173) (fun _ h9 => h9) rfl d_Store_put_54 ?_
      refine lv_aload_n hx hb d_Store_put_57 rfl (lv_at hl 1 rfl) ?_
      refine va_get (D := G.1) (ci := 5) (v := .ref a_ao) (C := "BranchStore") (T := F_Store) (N := 7) hx hb hts i_Store hown hK hP 0 rfl rfl 2 (by decide) (hts _ k_174) (fun _ h9 => h9) rfl d_Store_put_58 ?_
      refine lv_lload_n hx hb d_Store_put_61 rfl (lv_at hl 2 rfl) ?_
      obtain ⟨r11, dr11, y12, hr11, h, hRa, hRc⟩ := bd_k h hRa hRc
      refine zcallv (wr := [(a_s, .inr (5, [.int c_sort, .ref a_t, .ref a_ao, .ref a_bo, .ref a_uo, .int c_set, .ref a_go]))]) (w2 := fun (u13 : Nat × Nat) => (wB G a_s a_t a_ao a_bo a_uo a_go c_sort c_set ++ wT G a_t u13.1 u13.2 a_fr a_br a_e0 a_e1 a_e2 a_e3 a_lo a_ho r11.1 r11.2.1 c_mv c_ml r11.2.2.1 r11.2.2.2.1 r11.2.2.2.2.1 r11.2.2.2.2.2 c_fi c_st c_vz ++ wK G a_ao a_aq c_ab c_an c_at)) (zrunV (As := [.ref a_ao, .long p_1]) (rest := []) ⟨hx, hb, hml, hown, hts⟩ hN hK (c_Tree_add l G H.size a_t a_c a_mv a_fr a_br a_e0 a_e1 a_e2 a_e3 a_lo a_ho a_ao a_aq c_c c_cl c_mv c_ml c_en c_rt c_fr c_br c_fi c_st c_vz c_ab c_an c_at p_1 r11 dr11 hr11) ⟨rfl, rfl⟩ kv_Store_97 ⟨Nat.le_of_ble_eq_true rfl, Nat.le_of_ble_eq_true rfl⟩ 0 rfl rfl rfl hl.1 (Nat.le_of_ble_eq_true rfl) d_Store_put_62 ⟨by show _ ≤ rc; omega, by show _ ≤ 1024 * rc; omega⟩) hP hD hS hA [1, 2, 3, 4, 5, 6, 7, 8, 9, 10, 11] [0] [0, 1, 2, 3, 4, 5, 6, 7, 8, 9, 10, 11] rfl rfl rfl rfl (by decide) rfl (fun _ => rfl) (fun u13 H locs _ hP hD hS => ?_)
      refine W.widen (k := 0 + dr11) (n := 1024 * (0 + dr11)) (by omega) (by omega) ?_
      refine lv_iload_n hx hb d_Store_put_65 rfl (lv_at hl 0 rfl) ?_
      refine lv_if_ne (tgt := 73) hx hb d_Store_put_66 (by decide) (fun q14 => absurd q2 q14) (fun _ => ?_)
      refine lv_iconst (v := 1) hx hb d_Store_put_69 (by decide) ?_
      refine lv_goto (tgt := 74) hx hb d_Store_put_70 (by decide) ?_
      have ey := Option.some.inj h
      rw [← ey] at hRa hRc
      have hRa : r0 = (1, r11.1, r11.2.1, r11.2.2.1, r11.2.2.2.1, r11.2.2.2.2.1, r11.2.2.2.2.2) := hRa
      have hRc : rc = 0 + dr11 + 0 := hRc
      subst hRa
      exact zretz (u13.1, u13.2) hQ hS.2.2 hx hb hr hlocks hP hD hS ⟨rfl, rfl⟩ (by omega) (by omega) d_Store_put_74 rfl
    · have h := it h q8
      have ey := Option.some.inj h
      rw [← ey] at hRa
      cases hRa

set_option maxHeartbeats 8000000 in
set_option maxRecDepth 100000 in
theorem c_Store_put_x (l : Launch) (G : zG) (hfl : l.flags = flags0) (sz : Nat) (a_s a_t a_ao a_bo a_uo a_go a_c a_mv a_fr a_br a_e0 a_e1 a_e2 a_e3 a_lo a_ho a_aq : Nat) (c_sort : Int32) (c_set : Int32) (c_c : (Nat → Int32)) (c_cl : Nat) (c_mv : (Nat → Int32)) (c_ml : Nat) (c_en : Int32) (c_rt : Int32) (c_fr : (Nat → Int32)) (c_br : (Nat → Int32)) (c_fi : Int64) (c_st : Int64) (c_vz : Int64) (c_ab : (Nat → Int32)) (c_an : Int32) (c_at : Int32) (p_1 : Int64) (k0 : Nat) (rc : Nat) (hf : f_Store_put c_c c_cl c_en c_rt c_fr c_br c_ab c_an c_at p_1 = some (.inl k0, rc)) :
    MetX l y_Store_put (Cond.code y_Store_put prog_1_method_12_code 4 (some .boolean) :: lw_ok) { frames := 7, cells := rc, slots := 1024 * rc, locals := 188 } (zPcX G sz [.ref a_s, .long p_1] (wB G a_s a_t a_ao a_bo a_uo a_go c_sort c_set ++ wT G a_t a_c a_mv a_fr a_br a_e0 a_e1 a_e2 a_e3 a_lo a_ho c_c c_cl c_mv c_ml c_en c_rt c_fr c_br c_fi c_st c_vz ++ wK G a_ao a_aq c_ab c_an c_at)) (zQx (zcls k0)) rc (1024 * rc) (fun q => sz ≤ q) := by
  refine zMetX hfl (by decide) (Nat.le_of_ble_eq_true rfl) (fun xp xe xs xm xb xme xc A ls Q H locs C htr hnh hTs hnA hN hK hP hD hS hL hA hl hQ => ?_)
  obtain ⟨hx, hb, hr, hts, hown, hlocks, hml, hin⟩ := C
  have hl : lv_has ls 4 [(0, .ref a_s), (1, .long p_1)] := hl
  have h := hf
  unfold f_Store_put at h
  have hRa : (Sum.inl k0 : Nat ⊕ (Int32 × (Nat → Int32) × Nat × Int32 × Int32 × (Nat → Int32) × (Nat → Int32))) = ((Sum.inl k0, rc) : (Nat ⊕ (Int32 × (Nat → Int32) × Nat × Int32 × Int32 × (Nat → Int32) × (Nat → Int32))) × Nat).1 := rfl
  have hRc : rc = 0 + ((Sum.inl k0, rc) : (Nat ⊕ (Int32 × (Nat → Int32) × Nat × Int32 × Int32 × (Nat → Int32) × (Nat → Int32))) × Nat).2 := (Nat.zero_add _).symm
  refine W.widen (k := 0) (n := 1024 * 0) (Nat.le_refl _) (Nat.le_refl _) ?_
  refine lv_aload_n hx hb d_Store_put_0 rfl (lv_at hl 0 rfl) ?_
  refine va_get (D := G.1) (ci := 5) (v := .ref a_t) (C := "BranchStore") (T := F_Store) (N := 7) hx hb hts i_Store hown hK hP 0 rfl rfl 1 (by decide) (hts _ k_173) (fun _ h9 => h9) rfl d_Store_put_1 ?_
  refine lv_aload_n hx hb d_Store_put_4 rfl (lv_at hl 0 rfl) ?_
  refine va_get (D := G.1) (ci := 5) (v := .ref a_ao) (C := "BranchStore") (T := F_Store) (N := 7) hx hb hts i_Store hown hK hP 0 rfl rfl 2 (by decide) (hts _ k_174) (fun _ h9 => h9) rfl d_Store_put_5 ?_
  obtain ⟨r1, hr1, h⟩ := ob h
  refine zpcalli (wr := [(a_s, .inr (5, [.int c_sort, .ref a_t, .ref a_ao, .ref a_bo, .ref a_uo, .int c_set, .ref a_go]))]) (w2 := fun _ => (wB G a_s a_t a_ao a_bo a_uo a_go c_sort c_set ++ wT G a_t a_c a_mv a_fr a_br a_e0 a_e1 a_e2 a_e3 a_lo a_ho c_c c_cl c_mv c_ml c_en c_rt c_fr c_br c_fi c_st c_vz ++ wK G a_ao a_aq c_ab c_an c_at)) (zrunV (As := [.ref a_ao]) (rest := []) ⟨hx, hb, hml, hown, hts⟩ hN hK (c_Tree_find l G H.size a_t a_c a_mv a_fr a_br a_e0 a_e1 a_e2 a_e3 a_lo a_ho a_ao a_aq c_c c_cl c_mv c_ml c_en c_rt c_fr c_br c_fi c_st c_vz c_ab c_an c_at r1 hr1) ⟨rfl, rfl⟩ kv_Store_7 ⟨Nat.le_of_ble_eq_true rfl, Nat.le_of_ble_eq_true rfl⟩ 0 rfl rfl rfl hl.1 (Nat.le_of_ble_eq_true rfl) d_Store_put_8 ⟨by show _ ≤ rc; omega, by show _ ≤ 1024 * rc; omega⟩) hP hD hS hA [1, 2, 3, 4, 5, 6, 7, 8, 9, 10, 11] [0] [0, 1, 2, 3, 4, 5, 6, 7, 8, 9, 10, 11] rfl rfl rfl rfl (by decide) rfl (fun _ => rfl) (fun rr _ H hw hP hD hS => ?_)
  have hw := hw.symm
  subst hw
  refine lv_istore_n (lv' := [(3, .int r1), (0, .ref a_s), (1, .long p_1)]) hx hb d_Store_put_11 rfl hl (by decide) rfl (fun ls hl => ?_)
  refine lv_iload_n hx hb d_Store_put_12 rfl (lv_at hl 0 rfl) ?_
  refine lv_if_ne (tgt := 37) hx hb d_Store_put_13 (by decide) (fun q2 => ?_) (fun q2 => ?_)
  · have h := ie h q2
    exact absurd h (fun h => nx_x h hRa)
  · have h := it h q2
    refine lv_aload_n hx hb d_Store_put_16 rfl (lv_at hl 1 rfl) ?_
    refine va_get (D := G.1) (ci := 5) (v := .ref a_t) (C := "BranchStore") (T := F_Store) (N := 7) hx hb hts i_Store hown hK hP 0 rfl rfl 1 (by decide) (hts _ k_173) (fun _ h9 => h9) rfl d_Store_put_17 ?_
    obtain ⟨r3, hr3, h⟩ := ob h
    refine zpcalli (wr := [(a_s, .inr (5, [.int c_sort, .ref a_t, .ref a_ao, .ref a_bo, .ref a_uo, .int c_set, .ref a_go])), (a_ao, .inr (0, [.ref a_aq, .int c_an, .int c_at])), (a_aq, .inl (G.2.2.1, 50, .inl c_ab))]) (w2 := fun _ => (wB G a_s a_t a_ao a_bo a_uo a_go c_sort c_set ++ wT G a_t a_c a_mv a_fr a_br a_e0 a_e1 a_e2 a_e3 a_lo a_ho c_c c_cl c_mv c_ml c_en c_rt c_fr c_br c_fi c_st c_vz ++ wK G a_ao a_aq c_ab c_an c_at)) (zrunV (As := []) (rest := []) ⟨hx, hb, hml, hown, hts⟩ hN hK (c_Tree_keys l G H.size a_t a_c a_mv a_fr a_br a_e0 a_e1 a_e2 a_e3 a_lo a_ho c_c c_cl c_mv c_ml c_en c_rt c_fr c_br c_fi c_st c_vz r3 hr3) ⟨rfl, rfl⟩ kv_Store_27 ⟨Nat.le_of_ble_eq_true rfl, Nat.le_of_ble_eq_true rfl⟩ 0 rfl rfl rfl hl.1 (Nat.le_of_ble_eq_true rfl) d_Store_put_20 ⟨by show _ ≤ rc; omega, by show _ ≤ 1024 * rc; omega⟩) hP hD hS hA [1, 2, 3, 4, 5, 6, 7, 8, 9] [0, 10, 11] [0, 3, 4, 5, 6, 7, 8, 9, 10, 11, 1, 2] rfl rfl rfl rfl (by decide) rfl (fun _ => rfl) (fun rr _ H hw hP hD hS => ?_)
    have hw := hw.symm
    subst hw
    refine lv_sipush (v := 1500) hx hb d_Store_put_23 (by decide) ?_
    refine lv_icmp_ne (tgt := 37) hx hb d_Store_put_26 (by decide) (fun q4 => ?_) (fun q4 => ?_)
    · have h := ie h q4
      exact absurd h (fun h => nx_x h hRa)
    · have h := it h q4
      have ey := Option.some.inj h
      rw [← ey] at hRa hRc
      have hRc : rc = 0 + 1 := hRc
      obtain rfl := Sum.inl.inj hRa
      exact zthrow (ia := 80) (ic := 82) hQ hx hb hlocks htr hnh hts hN hTs hown (hml.trans hl.1.symm) hS hL k_531 k_532 k_14 kt_2 (by decide) (by show _ ≤ rc; omega) (by show _ ≤ 1024 * rc; omega) (by omega) (by omega) (Nat.le_of_ble_eq_true rfl) (Nat.le_of_ble_eq_true rfl) d_Store_put_29 d_Store_put_32 d_Store_put_33 d_Store_put_36

theorem kv_Store_101 : zKV "BranchStore" 101 y_Store_found prog_1_method_1_code 3 (some .int) 1 := ⟨k_600, k_602, kp_20, k_1, k_603, by decide +kernel⟩
theorem kv_Store_104 : zKV "BranchStore" 104 y_Tree_value prog_7_method_11_code 2 (some .long) 1 := ⟨k_604, k_605, k_606, k_2, k_607, by decide +kernel⟩
noncomputable def f_Store_get (c_c : (Nat → Int32)) (c_cl : Nat) (c_rt : Int32) (c_ab : (Nat → Int32)) (c_an : Int32)  : Option ((Nat ⊕ Int64) × Nat) :=
bx (f_Store_found c_c c_cl c_rt c_ab c_an) fun r1 =>
nx <|
(f_Tree_value c_c c_cl r1).bind fun r4 =>
some (r4, 0)
set_option maxHeartbeats 8000000 in
set_option maxRecDepth 100000 in
theorem c_Store_get (l : Launch) (G : zG) (sz : Nat) (a_s a_t a_ao a_bo a_uo a_go a_c a_mv a_fr a_br a_e0 a_e1 a_e2 a_e3 a_lo a_ho a_aq : Nat) (c_sort : Int32) (c_set : Int32) (c_c : (Nat → Int32)) (c_cl : Nat) (c_mv : (Nat → Int32)) (c_ml : Nat) (c_en : Int32) (c_rt : Int32) (c_fr : (Nat → Int32)) (c_br : (Nat → Int32)) (c_fi : Int64) (c_st : Int64) (c_vz : Int64) (c_ab : (Nat → Int32)) (c_an : Int32) (c_at : Int32) (r0 : Int64) (rc : Nat) (hf : f_Store_get c_c c_cl c_rt c_ab c_an = some (.inr r0, rc)) :
    Met l y_Store_get (Cond.code y_Store_get prog_1_method_13_code 1 (some .long) :: lw_ok) { frames := 7, cells := rc, slots := 1024 * rc, locals := 138 } (zPc G sz [.ref a_s] (wB G a_s a_t a_ao a_bo a_uo a_go c_sort c_set ++ wT G a_t a_c a_mv a_fr a_br a_e0 a_e1 a_e2 a_e3 a_lo a_ho c_c c_cl c_mv c_ml c_en c_rt c_fr c_br c_fi c_st c_vz ++ wK G a_ao a_aq c_ab c_an c_at))
      ((fun (A : Nat → Prop) => va_Ql (fun (r : Int64) (u : Nat × Nat) => r = r0) (fun u t => zB G A (wB G a_s a_t a_ao a_bo a_uo a_go c_sort c_set ++ wT G a_t u.1 u.2 a_fr a_br a_e0 a_e1 a_e2 a_e3 a_lo a_ho c_c c_cl c_mv c_ml c_en c_rt c_fr c_br c_fi c_st c_vz ++ wK G a_ao a_aq c_ab c_an c_at) t) A) (va_A (wB G a_s a_t a_ao a_bo a_uo a_go c_sort c_set ++ wT G a_t a_c a_mv a_fr a_br a_e0 a_e1 a_e2 a_e3 a_lo a_ho c_c c_cl c_mv c_ml c_en c_rt c_fr c_br c_fi c_st c_vz ++ wK G a_ao a_aq c_ab c_an c_at) sz)) rc (1024 * rc) (va_A (wB G a_s a_t a_ao a_bo a_uo a_go c_sort c_set ++ wT G a_t a_c a_mv a_fr a_br a_e0 a_e1 a_e2 a_e3 a_lo a_ho c_c c_cl c_mv c_ml c_en c_rt c_fr c_br c_fi c_st c_vz ++ wK G a_ao a_aq c_ab c_an c_at) sz) := by
  refine zMet (Qc := fun (A : Nat → Prop) => va_Ql (fun (r : Int64) (u : Nat × Nat) => r = r0) (fun u t => zB G A (wB G a_s a_t a_ao a_bo a_uo a_go c_sort c_set ++ wT G a_t u.1 u.2 a_fr a_br a_e0 a_e1 a_e2 a_e3 a_lo a_ho c_c c_cl c_mv c_ml c_en c_rt c_fr c_br c_fi c_st c_vz ++ wK G a_ao a_aq c_ab c_an c_at) t) A) (by decide) (Nat.le_of_ble_eq_true rfl) (fun xp xe xs xm xb xme xc A ls Q H locs C hN hK hP hD hS hA hl hQ => ?_)
  obtain ⟨hx, hb, hr, hts, hown, hlocks, hml, hin⟩ := C
  have hl : lv_has ls 1 [(0, .ref a_s)] := hl
  have h := hf
  unfold f_Store_get at h
  have hRa : (Sum.inr r0 : Nat ⊕ Int64) = ((Sum.inr r0, rc) : (Nat ⊕ Int64) × Nat).1 := rfl
  have hRc : rc = 0 + ((Sum.inr r0, rc) : (Nat ⊕ Int64) × Nat).2 := (Nat.zero_add _).symm
  refine W.widen (k := 0) (n := 1024 * 0) (Nat.le_refl _) (Nat.le_refl _) ?_
  refine lv_aload_n hx hb d_Store_get_0 rfl (lv_at hl 0 rfl) ?_
  refine va_get (D := G.1) (ci := 5) (v := .ref a_t) (C := "BranchStore") (T := F_Store) (N := 7) hx hb hts i_Store hown hK hP 0 rfl rfl 1 (by decide) (hts _ k_173) (fun _ h9 => h9) rfl d_Store_get_1 ?_
  refine lv_aload_n hx hb d_Store_get_4 rfl (lv_at hl 0 rfl) ?_
  refine lv_aload_n hx hb d_Store_get_5 rfl (lv_at hl 0 rfl) ?_
  refine va_get (D := G.1) (ci := 5) (v := .ref a_ao) (C := "BranchStore") (T := F_Store) (N := 7) hx hb hts i_Store hown hK hP 0 rfl rfl 2 (by decide) (hts _ k_174) (fun _ h9 => h9) rfl d_Store_get_6 ?_
  obtain ⟨r1, dr1, y2, hr1, h, hRa, hRc⟩ := bx_n h hRa hRc
  refine zpcalli (wr := []) (w2 := fun _ => (wB G a_s a_t a_ao a_bo a_uo a_go c_sort c_set ++ wT G a_t a_c a_mv a_fr a_br a_e0 a_e1 a_e2 a_e3 a_lo a_ho c_c c_cl c_mv c_ml c_en c_rt c_fr c_br c_fi c_st c_vz ++ wK G a_ao a_aq c_ab c_an c_at)) (zrunV (As := [.ref a_ao]) (rest := [.ref a_t]) ⟨hx, hb, hml, hown, hts⟩ hN hK (c_Store_found l G H.size a_s a_t a_ao a_bo a_uo a_go a_c a_mv a_fr a_br a_e0 a_e1 a_e2 a_e3 a_lo a_ho a_ao a_aq c_sort c_set c_c c_cl c_mv c_ml c_en c_rt c_fr c_br c_fi c_st c_vz c_ab c_an c_at r1 dr1 hr1) ⟨rfl, rfl⟩ kv_Store_101 ⟨Nat.le_of_ble_eq_true rfl, Nat.le_of_ble_eq_true rfl⟩ 0 rfl rfl rfl hl.1 (Nat.le_of_ble_eq_true rfl) d_Store_get_9 ⟨by show _ ≤ rc; omega, by show _ ≤ 1024 * rc; omega⟩) hP hD hS hA [0, 1, 2, 3, 4, 5, 6, 7, 8, 9, 10, 11] [] [0, 1, 2, 3, 4, 5, 6, 7, 8, 9, 10, 11] rfl rfl rfl rfl (by decide) rfl (fun _ => rfl) (fun rr _ H hw hP hD hS => ?_)
  refine W.widen (k := 0 + dr1) (n := 1024 * (0 + dr1)) (by omega) (by omega) ?_
  have hw := hw.symm
  subst hw
  obtain ⟨y3, h, hRa, hRc⟩ := nx_n h hRa hRc
  obtain ⟨r4, hr4, h⟩ := ob h
  refine zpcalll (wr := [(a_s, .inr (5, [.int c_sort, .ref a_t, .ref a_ao, .ref a_bo, .ref a_uo, .int c_set, .ref a_go])), (a_ao, .inr (0, [.ref a_aq, .int c_an, .int c_at])), (a_aq, .inl (G.2.2.1, 50, .inl c_ab))]) (w2 := fun _ => (wB G a_s a_t a_ao a_bo a_uo a_go c_sort c_set ++ wT G a_t a_c a_mv a_fr a_br a_e0 a_e1 a_e2 a_e3 a_lo a_ho c_c c_cl c_mv c_ml c_en c_rt c_fr c_br c_fi c_st c_vz ++ wK G a_ao a_aq c_ab c_an c_at)) (zrunV (As := [.int r1]) (rest := []) ⟨hx, hb, hml, hown, hts⟩ hN hK (c_Tree_value l G H.size a_t a_c a_mv a_fr a_br a_e0 a_e1 a_e2 a_e3 a_lo a_ho c_c c_cl c_mv c_ml c_en c_rt c_fr c_br c_fi c_st c_vz r1 r4 hr4) ⟨rfl, rfl⟩ kv_Store_104 ⟨Nat.le_of_ble_eq_true rfl, Nat.le_of_ble_eq_true rfl⟩ 0 rfl rfl rfl hl.1 (Nat.le_of_ble_eq_true rfl) d_Store_get_12 ⟨by show _ ≤ rc; omega, by show _ ≤ 1024 * rc; omega⟩) hP hD hS hA [1, 2, 3, 4, 5, 6, 7, 8, 9] [0, 10, 11] [0, 3, 4, 5, 6, 7, 8, 9, 10, 11, 1, 2] rfl rfl rfl rfl (by decide) rfl (fun _ => rfl) (fun rr _ H hw hP hD hS => ?_)
  have hw := hw.symm
  subst hw
  have ey := Option.some.inj h
  rw [← ey] at hRa hRc
  have hRa : r0 = r4 := hRa
  have hRc : rc = 0 + dr1 + 0 := hRc
  subst hRa
  exact zretl (a_c, a_mv) hQ hS.2.2 hx hb hr hlocks hP hD hS rfl (by omega) (by omega) d_Store_get_15

set_option maxHeartbeats 8000000 in
set_option maxRecDepth 100000 in
theorem c_Store_get_x (l : Launch) (G : zG) (hfl : l.flags = flags0) (sz : Nat) (a_s a_t a_ao a_bo a_uo a_go a_c a_mv a_fr a_br a_e0 a_e1 a_e2 a_e3 a_lo a_ho a_aq : Nat) (c_sort : Int32) (c_set : Int32) (c_c : (Nat → Int32)) (c_cl : Nat) (c_mv : (Nat → Int32)) (c_ml : Nat) (c_en : Int32) (c_rt : Int32) (c_fr : (Nat → Int32)) (c_br : (Nat → Int32)) (c_fi : Int64) (c_st : Int64) (c_vz : Int64) (c_ab : (Nat → Int32)) (c_an : Int32) (c_at : Int32) (k0 : Nat) (rc : Nat) (hf : f_Store_get c_c c_cl c_rt c_ab c_an = some (.inl k0, rc)) :
    MetX l y_Store_get (Cond.code y_Store_get prog_1_method_13_code 1 (some .long) :: lw_ok) { frames := 7, cells := rc, slots := 1024 * rc, locals := 138 } (zPcX G sz [.ref a_s] (wB G a_s a_t a_ao a_bo a_uo a_go c_sort c_set ++ wT G a_t a_c a_mv a_fr a_br a_e0 a_e1 a_e2 a_e3 a_lo a_ho c_c c_cl c_mv c_ml c_en c_rt c_fr c_br c_fi c_st c_vz ++ wK G a_ao a_aq c_ab c_an c_at)) (zQx (zcls k0)) rc (1024 * rc) (fun q => sz ≤ q) := by
  refine zMetX hfl (by decide) (Nat.le_of_ble_eq_true rfl) (fun xp xe xs xm xb xme xc A ls Q H locs C htr hnh hTs hnA hN hK hP hD hS hL hA hl hQ => ?_)
  obtain ⟨hx, hb, hr, hts, hown, hlocks, hml, hin⟩ := C
  have hl : lv_has ls 1 [(0, .ref a_s)] := hl
  have h := hf
  unfold f_Store_get at h
  have hRa : (Sum.inl k0 : Nat ⊕ Int64) = ((Sum.inl k0, rc) : (Nat ⊕ Int64) × Nat).1 := rfl
  have hRc : rc = 0 + ((Sum.inl k0, rc) : (Nat ⊕ Int64) × Nat).2 := (Nat.zero_add _).symm
  refine W.widen (k := 0) (n := 1024 * 0) (Nat.le_refl _) (Nat.le_refl _) ?_
  refine lv_aload_n hx hb d_Store_get_0 rfl (lv_at hl 0 rfl) ?_
  refine va_get (D := G.1) (ci := 5) (v := .ref a_t) (C := "BranchStore") (T := F_Store) (N := 7) hx hb hts i_Store hown hK hP 0 rfl rfl 1 (by decide) (hts _ k_173) (fun _ h9 => h9) rfl d_Store_get_1 ?_
  refine lv_aload_n hx hb d_Store_get_4 rfl (lv_at hl 0 rfl) ?_
  refine lv_aload_n hx hb d_Store_get_5 rfl (lv_at hl 0 rfl) ?_
  refine va_get (D := G.1) (ci := 5) (v := .ref a_ao) (C := "BranchStore") (T := F_Store) (N := 7) hx hb hts i_Store hown hK hP 0 rfl rfl 2 (by decide) (hts _ k_174) (fun _ h9 => h9) rfl d_Store_get_6 ?_
  rcases bx_x h hRa hRc with ⟨dr1, hr1, hRc⟩ | ⟨r1, dr1, y2, hr1, h, hRa, hRc⟩
  · exact zprop (As := [.ref a_ao]) hQ (by omega) (by omega) hlocks hnh hS hL (zrunX (As := [.ref a_ao]) (rest := [.ref a_t]) ⟨hx, hb, hml, hown, hts⟩ hN hTs hnA hS hK (c_Store_found_x l G hfl H.size a_s a_t a_ao a_bo a_uo a_go a_c a_mv a_fr a_br a_e0 a_e1 a_e2 a_e3 a_lo a_ho a_ao a_aq c_sort c_set c_c c_cl c_mv c_ml c_en c_rt c_fr c_br c_fi c_st c_vz c_ab c_an c_at k0 dr1 hr1) ⟨rfl, rfl⟩ kv_Store_101 ⟨Nat.le_of_ble_eq_true rfl, Nat.le_of_ble_eq_true rfl⟩ 0 rfl rfl rfl hl.1 (Nat.le_of_ble_eq_true rfl) d_Store_get_9 ⟨by show _ ≤ rc; omega, by show _ ≤ 1024 * rc; omega⟩ (hP.sub [0, 1, 2, 3, 4, 5, 6, 7, 8, 9, 10, 11] rfl) (hD.sub [0, 1, 2, 3, 4, 5, 6, 7, 8, 9, 10, 11] (by decide) rfl))
  refine zpcalli (wr := []) (w2 := fun _ => (wB G a_s a_t a_ao a_bo a_uo a_go c_sort c_set ++ wT G a_t a_c a_mv a_fr a_br a_e0 a_e1 a_e2 a_e3 a_lo a_ho c_c c_cl c_mv c_ml c_en c_rt c_fr c_br c_fi c_st c_vz ++ wK G a_ao a_aq c_ab c_an c_at)) (zrunV (As := [.ref a_ao]) (rest := [.ref a_t]) ⟨hx, hb, hml, hown, hts⟩ hN hK (c_Store_found l G H.size a_s a_t a_ao a_bo a_uo a_go a_c a_mv a_fr a_br a_e0 a_e1 a_e2 a_e3 a_lo a_ho a_ao a_aq c_sort c_set c_c c_cl c_mv c_ml c_en c_rt c_fr c_br c_fi c_st c_vz c_ab c_an c_at r1 dr1 hr1) ⟨rfl, rfl⟩ kv_Store_101 ⟨Nat.le_of_ble_eq_true rfl, Nat.le_of_ble_eq_true rfl⟩ 0 rfl rfl rfl hl.1 (Nat.le_of_ble_eq_true rfl) d_Store_get_9 ⟨by show _ ≤ rc; omega, by show _ ≤ 1024 * rc; omega⟩) hP hD hS hA [0, 1, 2, 3, 4, 5, 6, 7, 8, 9, 10, 11] [] [0, 1, 2, 3, 4, 5, 6, 7, 8, 9, 10, 11] rfl rfl rfl rfl (by decide) rfl (fun _ => rfl) (fun rr _ H hw hP hD hS => ?_)
  refine W.widen (k := 0 + dr1) (n := 1024 * (0 + dr1)) (by omega) (by omega) ?_
  have hw := hw.symm
  subst hw
  exact absurd h (fun h => nx_x h hRa)

theorem kv_Store_108 : zKV "BranchStore" 108 y_Tree_remove prog_7_method_28_code 9 none 1 := ⟨k_327, k_328, k_329, k_2, k_330, by decide +kernel⟩
noncomputable def f_Store_remove (c_c : (Nat → Int32)) (c_cl : Nat) (c_en : Int32) (c_rt : Int32) (c_fr : (Nat → Int32)) (c_br : (Nat → Int32)) (c_ab : (Nat → Int32)) (c_an : Int32)  : Option ((Nat ⊕ (Int64 × (Nat → Int32) × Nat × Int32 × Int32 × (Nat → Int32) × (Nat → Int32))) × Nat) :=
bx (f_Store_found c_c c_cl c_rt c_ab c_an) fun r1 =>
nx <|
(f_Tree_value c_c c_cl r1).bind fun r4 =>
bd (f_Tree_remove c_c c_cl c_en c_rt c_fr c_br c_ab) fun r5 =>
some ((r4, r5.1, r5.2.1, r5.2.2.1, r5.2.2.2.1, r5.2.2.2.2.1, r5.2.2.2.2.2), 0)
set_option maxHeartbeats 8000000 in
set_option maxRecDepth 100000 in
theorem c_Store_remove (l : Launch) (G : zG) (sz : Nat) (a_s a_t a_ao a_bo a_uo a_go a_c a_mv a_fr a_br a_e0 a_e1 a_e2 a_e3 a_lo a_ho a_aq : Nat) (c_sort : Int32) (c_set : Int32) (c_c : (Nat → Int32)) (c_cl : Nat) (c_mv : (Nat → Int32)) (c_ml : Nat) (c_en : Int32) (c_rt : Int32) (c_fr : (Nat → Int32)) (c_br : (Nat → Int32)) (c_fi : Int64) (c_st : Int64) (c_vz : Int64) (c_ab : (Nat → Int32)) (c_an : Int32) (c_at : Int32) (r0 : (Int64 × (Nat → Int32) × Nat × Int32 × Int32 × (Nat → Int32) × (Nat → Int32))) (rc : Nat) (hf : f_Store_remove c_c c_cl c_en c_rt c_fr c_br c_ab c_an = some (.inr r0, rc)) :
    Met l y_Store_remove (Cond.code y_Store_remove prog_1_method_14_code 3 (some .long) :: lw_ok) { frames := 7, cells := rc, slots := 1024 * rc, locals := 182 } (zPc G sz [.ref a_s] (wB G a_s a_t a_ao a_bo a_uo a_go c_sort c_set ++ wT G a_t a_c a_mv a_fr a_br a_e0 a_e1 a_e2 a_e3 a_lo a_ho c_c c_cl c_mv c_ml c_en c_rt c_fr c_br c_fi c_st c_vz ++ wK G a_ao a_aq c_ab c_an c_at))
      ((fun (A : Nat → Prop) => va_Ql (fun (r : Int64) (u : Nat × Nat) => r = r0.1) (fun u t => zB G A (wB G a_s a_t a_ao a_bo a_uo a_go c_sort c_set ++ wT G a_t u.1 u.2 a_fr a_br a_e0 a_e1 a_e2 a_e3 a_lo a_ho r0.2.1 r0.2.2.1 c_mv c_ml r0.2.2.2.1 r0.2.2.2.2.1 r0.2.2.2.2.2.1 r0.2.2.2.2.2.2 c_fi c_st c_vz ++ wK G a_ao a_aq c_ab c_an c_at) t) A) (va_A (wB G a_s a_t a_ao a_bo a_uo a_go c_sort c_set ++ wT G a_t a_c a_mv a_fr a_br a_e0 a_e1 a_e2 a_e3 a_lo a_ho c_c c_cl c_mv c_ml c_en c_rt c_fr c_br c_fi c_st c_vz ++ wK G a_ao a_aq c_ab c_an c_at) sz)) rc (1024 * rc) (va_A (wB G a_s a_t a_ao a_bo a_uo a_go c_sort c_set ++ wT G a_t a_c a_mv a_fr a_br a_e0 a_e1 a_e2 a_e3 a_lo a_ho c_c c_cl c_mv c_ml c_en c_rt c_fr c_br c_fi c_st c_vz ++ wK G a_ao a_aq c_ab c_an c_at) sz) := by
  refine zMet (Qc := fun (A : Nat → Prop) => va_Ql (fun (r : Int64) (u : Nat × Nat) => r = r0.1) (fun u t => zB G A (wB G a_s a_t a_ao a_bo a_uo a_go c_sort c_set ++ wT G a_t u.1 u.2 a_fr a_br a_e0 a_e1 a_e2 a_e3 a_lo a_ho r0.2.1 r0.2.2.1 c_mv c_ml r0.2.2.2.1 r0.2.2.2.2.1 r0.2.2.2.2.2.1 r0.2.2.2.2.2.2 c_fi c_st c_vz ++ wK G a_ao a_aq c_ab c_an c_at) t) A) (by decide) (Nat.le_of_ble_eq_true rfl) (fun xp xe xs xm xb xme xc A ls Q H locs C hN hK hP hD hS hA hl hQ => ?_)
  obtain ⟨hx, hb, hr, hts, hown, hlocks, hml, hin⟩ := C
  have hl : lv_has ls 3 [(0, .ref a_s)] := hl
  have h := hf
  unfold f_Store_remove at h
  have hRa : (Sum.inr r0 : Nat ⊕ (Int64 × (Nat → Int32) × Nat × Int32 × Int32 × (Nat → Int32) × (Nat → Int32))) = ((Sum.inr r0, rc) : (Nat ⊕ (Int64 × (Nat → Int32) × Nat × Int32 × Int32 × (Nat → Int32) × (Nat → Int32))) × Nat).1 := rfl
  have hRc : rc = 0 + ((Sum.inr r0, rc) : (Nat ⊕ (Int64 × (Nat → Int32) × Nat × Int32 × Int32 × (Nat → Int32) × (Nat → Int32))) × Nat).2 := (Nat.zero_add _).symm
  refine W.widen (k := 0) (n := 1024 * 0) (Nat.le_refl _) (Nat.le_refl _) ?_
  refine lv_aload_n hx hb d_Store_remove_0 rfl (lv_at hl 0 rfl) ?_
  refine va_get (D := G.1) (ci := 5) (v := .ref a_t) (C := "BranchStore") (T := F_Store) (N := 7) hx hb hts i_Store hown hK hP 0 rfl rfl 1 (by decide) (hts _ k_173) (fun _ h9 => h9) rfl d_Store_remove_1 ?_
  refine lv_aload_n hx hb d_Store_remove_4 rfl (lv_at hl 0 rfl) ?_
  refine lv_aload_n hx hb d_Store_remove_5 rfl (lv_at hl 0 rfl) ?_
  refine va_get (D := G.1) (ci := 5) (v := .ref a_ao) (C := "BranchStore") (T := F_Store) (N := 7) hx hb hts i_Store hown hK hP 0 rfl rfl 2 (by decide) (hts _ k_174) (fun _ h9 => h9) rfl d_Store_remove_6 ?_
  obtain ⟨r1, dr1, y2, hr1, h, hRa, hRc⟩ := bx_n h hRa hRc
  refine zpcalli (wr := []) (w2 := fun _ => (wB G a_s a_t a_ao a_bo a_uo a_go c_sort c_set ++ wT G a_t a_c a_mv a_fr a_br a_e0 a_e1 a_e2 a_e3 a_lo a_ho c_c c_cl c_mv c_ml c_en c_rt c_fr c_br c_fi c_st c_vz ++ wK G a_ao a_aq c_ab c_an c_at)) (zrunV (As := [.ref a_ao]) (rest := [.ref a_t]) ⟨hx, hb, hml, hown, hts⟩ hN hK (c_Store_found l G H.size a_s a_t a_ao a_bo a_uo a_go a_c a_mv a_fr a_br a_e0 a_e1 a_e2 a_e3 a_lo a_ho a_ao a_aq c_sort c_set c_c c_cl c_mv c_ml c_en c_rt c_fr c_br c_fi c_st c_vz c_ab c_an c_at r1 dr1 hr1) ⟨rfl, rfl⟩ kv_Store_101 ⟨Nat.le_of_ble_eq_true rfl, Nat.le_of_ble_eq_true rfl⟩ 0 rfl rfl rfl hl.1 (Nat.le_of_ble_eq_true rfl) d_Store_remove_9 ⟨by show _ ≤ rc; omega, by show _ ≤ 1024 * rc; omega⟩) hP hD hS hA [0, 1, 2, 3, 4, 5, 6, 7, 8, 9, 10, 11] [] [0, 1, 2, 3, 4, 5, 6, 7, 8, 9, 10, 11] rfl rfl rfl rfl (by decide) rfl (fun _ => rfl) (fun rr _ H hw hP hD hS => ?_)
  refine W.widen (k := 0 + dr1) (n := 1024 * (0 + dr1)) (by omega) (by omega) ?_
  have hw := hw.symm
  subst hw
  obtain ⟨y3, h, hRa, hRc⟩ := nx_n h hRa hRc
  obtain ⟨r4, hr4, h⟩ := ob h
  refine zpcalll (wr := [(a_s, .inr (5, [.int c_sort, .ref a_t, .ref a_ao, .ref a_bo, .ref a_uo, .int c_set, .ref a_go])), (a_ao, .inr (0, [.ref a_aq, .int c_an, .int c_at])), (a_aq, .inl (G.2.2.1, 50, .inl c_ab))]) (w2 := fun _ => (wB G a_s a_t a_ao a_bo a_uo a_go c_sort c_set ++ wT G a_t a_c a_mv a_fr a_br a_e0 a_e1 a_e2 a_e3 a_lo a_ho c_c c_cl c_mv c_ml c_en c_rt c_fr c_br c_fi c_st c_vz ++ wK G a_ao a_aq c_ab c_an c_at)) (zrunV (As := [.int r1]) (rest := []) ⟨hx, hb, hml, hown, hts⟩ hN hK (c_Tree_value l G H.size a_t a_c a_mv a_fr a_br a_e0 a_e1 a_e2 a_e3 a_lo a_ho c_c c_cl c_mv c_ml c_en c_rt c_fr c_br c_fi c_st c_vz r1 r4 hr4) ⟨rfl, rfl⟩ kv_Store_104 ⟨Nat.le_of_ble_eq_true rfl, Nat.le_of_ble_eq_true rfl⟩ 0 rfl rfl rfl hl.1 (Nat.le_of_ble_eq_true rfl) d_Store_remove_12 ⟨by show _ ≤ rc; omega, by show _ ≤ 1024 * rc; omega⟩) hP hD hS hA [1, 2, 3, 4, 5, 6, 7, 8, 9] [0, 10, 11] [0, 3, 4, 5, 6, 7, 8, 9, 10, 11, 1, 2] rfl rfl rfl rfl (by decide) rfl (fun _ => rfl) (fun rr _ H hw hP hD hS => ?_)
  have hw := hw.symm
  subst hw
  refine lv_lstore_n (lv' := [(1, .long r4), (0, .ref a_s)]) hx hb d_Store_remove_15 rfl hl (by decide) rfl (fun ls hl => ?_)
  refine lv_aload_n hx hb d_Store_remove_16 rfl (lv_at hl 1 rfl) ?_
  refine va_get (D := G.1) (ci := 5) (v := .ref a_t) (C := "BranchStore") (T := F_Store) (N := 7) hx hb hts i_Store hown hK hP 0 rfl rfl 1 (by decide) (hts _ k_173) (fun _ h9 => h9) rfl d_Store_remove_17 ?_
  refine lv_aload_n hx hb d_Store_remove_20 rfl (lv_at hl 1 rfl) ?_
  refine va_get (D := G.1) (ci := 5) (v := .ref a_ao) (C := "BranchStore") (T := F_Store) (N := 7) hx hb hts i_Store hown hK hP 0 rfl rfl 2 (by decide) (hts _ k_174) (fun _ h9 => h9) rfl d_Store_remove_21 ?_
  obtain ⟨r5, dr5, y6, hr5, h, hRa, hRc⟩ := bd_k h hRa hRc
  refine zcallv (wr := [(a_s, .inr (5, [.int c_sort, .ref a_t, .ref a_ao, .ref a_bo, .ref a_uo, .int c_set, .ref a_go]))]) (w2 := fun (u7 : Nat × Nat) => (wB G a_s a_t a_ao a_bo a_uo a_go c_sort c_set ++ wT G a_t u7.1 u7.2 a_fr a_br a_e0 a_e1 a_e2 a_e3 a_lo a_ho r5.1 r5.2.1 c_mv c_ml r5.2.2.1 r5.2.2.2.1 r5.2.2.2.2.1 r5.2.2.2.2.2 c_fi c_st c_vz ++ wK G a_ao a_aq c_ab c_an c_at)) (zrunV (As := [.ref a_ao]) (rest := []) ⟨hx, hb, hml, hown, hts⟩ hN hK (c_Tree_remove l G H.size a_t a_c a_mv a_fr a_br a_e0 a_e1 a_e2 a_e3 a_lo a_ho a_ao a_aq c_c c_cl c_mv c_ml c_en c_rt c_fr c_br c_fi c_st c_vz c_ab c_an c_at r5 dr5 hr5) ⟨rfl, rfl⟩ kv_Store_108 ⟨Nat.le_of_ble_eq_true rfl, Nat.le_of_ble_eq_true rfl⟩ 0 rfl rfl rfl hl.1 (Nat.le_of_ble_eq_true rfl) d_Store_remove_24 ⟨by show _ ≤ rc; omega, by show _ ≤ 1024 * rc; omega⟩) hP hD hS hA [1, 2, 3, 4, 5, 6, 7, 8, 9, 10, 11] [0] [0, 1, 2, 3, 4, 5, 6, 7, 8, 9, 10, 11] rfl rfl rfl rfl (by decide) rfl (fun _ => rfl) (fun u7 H locs _ hP hD hS => ?_)
  refine W.widen (k := 0 + dr1 + dr5) (n := 1024 * (0 + dr1 + dr5)) (by omega) (by omega) ?_
  refine lv_lload_n hx hb d_Store_remove_27 rfl (lv_at hl 0 rfl) ?_
  have ey := Option.some.inj h
  rw [← ey] at hRa hRc
  have hRa : r0 = (r4, r5.1, r5.2.1, r5.2.2.1, r5.2.2.2.1, r5.2.2.2.2.1, r5.2.2.2.2.2) := hRa
  have hRc : rc = 0 + dr1 + dr5 + 0 := hRc
  subst hRa
  exact zretl (u7.1, u7.2) hQ hS.2.2 hx hb hr hlocks hP hD hS rfl (by omega) (by omega) d_Store_remove_28

set_option maxHeartbeats 8000000 in
set_option maxRecDepth 100000 in
theorem c_Store_remove_x (l : Launch) (G : zG) (hfl : l.flags = flags0) (sz : Nat) (a_s a_t a_ao a_bo a_uo a_go a_c a_mv a_fr a_br a_e0 a_e1 a_e2 a_e3 a_lo a_ho a_aq : Nat) (c_sort : Int32) (c_set : Int32) (c_c : (Nat → Int32)) (c_cl : Nat) (c_mv : (Nat → Int32)) (c_ml : Nat) (c_en : Int32) (c_rt : Int32) (c_fr : (Nat → Int32)) (c_br : (Nat → Int32)) (c_fi : Int64) (c_st : Int64) (c_vz : Int64) (c_ab : (Nat → Int32)) (c_an : Int32) (c_at : Int32) (k0 : Nat) (rc : Nat) (hf : f_Store_remove c_c c_cl c_en c_rt c_fr c_br c_ab c_an = some (.inl k0, rc)) :
    MetX l y_Store_remove (Cond.code y_Store_remove prog_1_method_14_code 3 (some .long) :: lw_ok) { frames := 7, cells := rc, slots := 1024 * rc, locals := 182 } (zPcX G sz [.ref a_s] (wB G a_s a_t a_ao a_bo a_uo a_go c_sort c_set ++ wT G a_t a_c a_mv a_fr a_br a_e0 a_e1 a_e2 a_e3 a_lo a_ho c_c c_cl c_mv c_ml c_en c_rt c_fr c_br c_fi c_st c_vz ++ wK G a_ao a_aq c_ab c_an c_at)) (zQx (zcls k0)) rc (1024 * rc) (fun q => sz ≤ q) := by
  refine zMetX hfl (by decide) (Nat.le_of_ble_eq_true rfl) (fun xp xe xs xm xb xme xc A ls Q H locs C htr hnh hTs hnA hN hK hP hD hS hL hA hl hQ => ?_)
  obtain ⟨hx, hb, hr, hts, hown, hlocks, hml, hin⟩ := C
  have hl : lv_has ls 3 [(0, .ref a_s)] := hl
  have h := hf
  unfold f_Store_remove at h
  have hRa : (Sum.inl k0 : Nat ⊕ (Int64 × (Nat → Int32) × Nat × Int32 × Int32 × (Nat → Int32) × (Nat → Int32))) = ((Sum.inl k0, rc) : (Nat ⊕ (Int64 × (Nat → Int32) × Nat × Int32 × Int32 × (Nat → Int32) × (Nat → Int32))) × Nat).1 := rfl
  have hRc : rc = 0 + ((Sum.inl k0, rc) : (Nat ⊕ (Int64 × (Nat → Int32) × Nat × Int32 × Int32 × (Nat → Int32) × (Nat → Int32))) × Nat).2 := (Nat.zero_add _).symm
  refine W.widen (k := 0) (n := 1024 * 0) (Nat.le_refl _) (Nat.le_refl _) ?_
  refine lv_aload_n hx hb d_Store_remove_0 rfl (lv_at hl 0 rfl) ?_
  refine va_get (D := G.1) (ci := 5) (v := .ref a_t) (C := "BranchStore") (T := F_Store) (N := 7) hx hb hts i_Store hown hK hP 0 rfl rfl 1 (by decide) (hts _ k_173) (fun _ h9 => h9) rfl d_Store_remove_1 ?_
  refine lv_aload_n hx hb d_Store_remove_4 rfl (lv_at hl 0 rfl) ?_
  refine lv_aload_n hx hb d_Store_remove_5 rfl (lv_at hl 0 rfl) ?_
  refine va_get (D := G.1) (ci := 5) (v := .ref a_ao) (C := "BranchStore") (T := F_Store) (N := 7) hx hb hts i_Store hown hK hP 0 rfl rfl 2 (by decide) (hts _ k_174) (fun _ h9 => h9) rfl d_Store_remove_6 ?_
  rcases bx_x h hRa hRc with ⟨dr1, hr1, hRc⟩ | ⟨r1, dr1, y2, hr1, h, hRa, hRc⟩
  · exact zprop (As := [.ref a_ao]) hQ (by omega) (by omega) hlocks hnh hS hL (zrunX (As := [.ref a_ao]) (rest := [.ref a_t]) ⟨hx, hb, hml, hown, hts⟩ hN hTs hnA hS hK (c_Store_found_x l G hfl H.size a_s a_t a_ao a_bo a_uo a_go a_c a_mv a_fr a_br a_e0 a_e1 a_e2 a_e3 a_lo a_ho a_ao a_aq c_sort c_set c_c c_cl c_mv c_ml c_en c_rt c_fr c_br c_fi c_st c_vz c_ab c_an c_at k0 dr1 hr1) ⟨rfl, rfl⟩ kv_Store_101 ⟨Nat.le_of_ble_eq_true rfl, Nat.le_of_ble_eq_true rfl⟩ 0 rfl rfl rfl hl.1 (Nat.le_of_ble_eq_true rfl) d_Store_remove_9 ⟨by show _ ≤ rc; omega, by show _ ≤ 1024 * rc; omega⟩ (hP.sub [0, 1, 2, 3, 4, 5, 6, 7, 8, 9, 10, 11] rfl) (hD.sub [0, 1, 2, 3, 4, 5, 6, 7, 8, 9, 10, 11] (by decide) rfl))
  refine zpcalli (wr := []) (w2 := fun _ => (wB G a_s a_t a_ao a_bo a_uo a_go c_sort c_set ++ wT G a_t a_c a_mv a_fr a_br a_e0 a_e1 a_e2 a_e3 a_lo a_ho c_c c_cl c_mv c_ml c_en c_rt c_fr c_br c_fi c_st c_vz ++ wK G a_ao a_aq c_ab c_an c_at)) (zrunV (As := [.ref a_ao]) (rest := [.ref a_t]) ⟨hx, hb, hml, hown, hts⟩ hN hK (c_Store_found l G H.size a_s a_t a_ao a_bo a_uo a_go a_c a_mv a_fr a_br a_e0 a_e1 a_e2 a_e3 a_lo a_ho a_ao a_aq c_sort c_set c_c c_cl c_mv c_ml c_en c_rt c_fr c_br c_fi c_st c_vz c_ab c_an c_at r1 dr1 hr1) ⟨rfl, rfl⟩ kv_Store_101 ⟨Nat.le_of_ble_eq_true rfl, Nat.le_of_ble_eq_true rfl⟩ 0 rfl rfl rfl hl.1 (Nat.le_of_ble_eq_true rfl) d_Store_remove_9 ⟨by show _ ≤ rc; omega, by show _ ≤ 1024 * rc; omega⟩) hP hD hS hA [0, 1, 2, 3, 4, 5, 6, 7, 8, 9, 10, 11] [] [0, 1, 2, 3, 4, 5, 6, 7, 8, 9, 10, 11] rfl rfl rfl rfl (by decide) rfl (fun _ => rfl) (fun rr _ H hw hP hD hS => ?_)
  refine W.widen (k := 0 + dr1) (n := 1024 * (0 + dr1)) (by omega) (by omega) ?_
  have hw := hw.symm
  subst hw
  exact absurd h (fun h => nx_x h hRa)

theorem kv_Store_111 : zKV "BranchStore" 111 y_Store_comes prog_1_method_3_code 2 (some .boolean) 1 := ⟨k_623, k_625, kp_21, k_1, k_626, by decide +kernel⟩
noncomputable def f_Store_seek (c_set : Int32) (c_c : (Nat → Int32)) (c_cl : Nat) (c_rt : Int32) (c_ab : (Nat → Int32)) (c_an : Int32) (c_ub : (Nat → Int32)) (c_un : Int32) (c_ut : Int32) (p_1 : Int32) : Option ((Nat ⊕ (Int32 × Int32 × (Nat → Int32) × Int32 × Int32)) × Nat) :=
if p_1 < 0 then
(some (.inl 1, 1))
else
(if p_1 ≤ 5 then
(nx <|
(f_Tree_rank c_c c_cl c_rt c_ab c_an).bind fun r4 =>
(if 4 ≤ p_1 then
(some 0)
else
((f_Tree_find c_c c_cl c_rt c_ab c_an).bind fun r7 =>
if r7 = 0 then
(some 0)
else
(some 1))).bind fun y10 =>
if p_1 = 0 then
((f_Store_comes c_set c_c c_cl c_rt c_ub c_un c_ut ((r4 + y10) - 1)).bind fun r13 =>
some ((r13.1, r13.2.1, r13.2.2.1, r13.2.2.2.1, r13.2.2.2.2), 0))
else
(if p_1 = 1 then
((f_Store_comes c_set c_c c_cl c_rt c_ub c_un c_ut r4).bind fun r16 =>
some ((r16.1, r16.2.1, r16.2.2.1, r16.2.2.2.1, r16.2.2.2.2), 0))
else
(if p_1 = 2 then
((f_Store_comes c_set c_c c_cl c_rt c_ub c_un c_ut (r4 - 1)).bind fun r19 =>
some ((r19.1, r19.2.1, r19.2.2.1, r19.2.2.2.1, r19.2.2.2.2), 0))
else
(if p_1 = 3 then
((f_Store_comes c_set c_c c_cl c_rt c_ub c_un c_ut (r4 + y10)).bind fun r22 =>
some ((r22.1, r22.2.1, r22.2.2.1, r22.2.2.2.1, r22.2.2.2.2), 0))
else
(if p_1 = 4 then
((f_Store_comes c_set c_c c_cl c_rt c_ub c_un c_ut 0).bind fun r25 =>
some ((r25.1, r25.2.1, r25.2.2.1, r25.2.2.2.1, r25.2.2.2.2), 0))
else
((f_Tree_keys c_c c_cl c_rt).bind fun r27 =>
(f_Store_comes c_set c_c c_cl c_rt c_ub c_un c_ut (r27 - 1)).bind fun r28 =>
some ((r28.1, r28.2.1, r28.2.2.1, r28.2.2.2.1, r28.2.2.2.2), 0)))))))
else
(some (.inl 1, 1)))
set_option maxHeartbeats 8000000 in
set_option maxRecDepth 100000 in
theorem c_Store_seek (l : Launch) (G : zG) (sz : Nat) (a_s a_t a_ao a_bo a_uo a_go a_c a_mv a_fr a_br a_e0 a_e1 a_e2 a_e3 a_lo a_ho a_aq a_uq : Nat) (c_sort : Int32) (c_set : Int32) (c_c : (Nat → Int32)) (c_cl : Nat) (c_mv : (Nat → Int32)) (c_ml : Nat) (c_en : Int32) (c_rt : Int32) (c_fr : (Nat → Int32)) (c_br : (Nat → Int32)) (c_fi : Int64) (c_st : Int64) (c_vz : Int64) (c_ab : (Nat → Int32)) (c_an : Int32) (c_at : Int32) (c_ub : (Nat → Int32)) (c_un : Int32) (c_ut : Int32) (p_1 : Int32) (r0 : (Int32 × Int32 × (Nat → Int32) × Int32 × Int32)) (rc : Nat) (hf : f_Store_seek c_set c_c c_cl c_rt c_ab c_an c_ub c_un c_ut p_1 = some (.inr r0, rc)) :
    Met l y_Store_seek (Cond.code y_Store_seek prog_1_method_15_code 4 (some .boolean) :: lw_ok) { frames := 7, cells := rc, slots := 1024 * rc, locals := 165 } (zPc G sz [.ref a_s, .int p_1] (wB G a_s a_t a_ao a_bo a_uo a_go c_sort c_set ++ wT G a_t a_c a_mv a_fr a_br a_e0 a_e1 a_e2 a_e3 a_lo a_ho c_c c_cl c_mv c_ml c_en c_rt c_fr c_br c_fi c_st c_vz ++ wK G a_ao a_aq c_ab c_an c_at ++ wK G a_uo a_uq c_ub c_un c_ut))
      ((fun (A : Nat → Prop) => va_Qi (fun (r : Int32) (u : Nat × Nat) => r = r0.1 ∧ narrow .boolean (.int r) = .int r) (fun u t => zB G A (wB G a_s a_t a_ao a_bo a_uo a_go c_sort r0.2.1 ++ wT G a_t u.1 u.2 a_fr a_br a_e0 a_e1 a_e2 a_e3 a_lo a_ho c_c c_cl c_mv c_ml c_en c_rt c_fr c_br c_fi c_st c_vz ++ wK G a_ao a_aq c_ab c_an c_at ++ wK G a_uo a_uq r0.2.2.1 r0.2.2.2.1 r0.2.2.2.2) t) A) (va_A (wB G a_s a_t a_ao a_bo a_uo a_go c_sort c_set ++ wT G a_t a_c a_mv a_fr a_br a_e0 a_e1 a_e2 a_e3 a_lo a_ho c_c c_cl c_mv c_ml c_en c_rt c_fr c_br c_fi c_st c_vz ++ wK G a_ao a_aq c_ab c_an c_at ++ wK G a_uo a_uq c_ub c_un c_ut) sz)) rc (1024 * rc) (va_A (wB G a_s a_t a_ao a_bo a_uo a_go c_sort c_set ++ wT G a_t a_c a_mv a_fr a_br a_e0 a_e1 a_e2 a_e3 a_lo a_ho c_c c_cl c_mv c_ml c_en c_rt c_fr c_br c_fi c_st c_vz ++ wK G a_ao a_aq c_ab c_an c_at ++ wK G a_uo a_uq c_ub c_un c_ut) sz) := by
  refine zMet (Qc := fun (A : Nat → Prop) => va_Qi (fun (r : Int32) (u : Nat × Nat) => r = r0.1 ∧ narrow .boolean (.int r) = .int r) (fun u t => zB G A (wB G a_s a_t a_ao a_bo a_uo a_go c_sort r0.2.1 ++ wT G a_t u.1 u.2 a_fr a_br a_e0 a_e1 a_e2 a_e3 a_lo a_ho c_c c_cl c_mv c_ml c_en c_rt c_fr c_br c_fi c_st c_vz ++ wK G a_ao a_aq c_ab c_an c_at ++ wK G a_uo a_uq r0.2.2.1 r0.2.2.2.1 r0.2.2.2.2) t) A) (by decide) (Nat.le_of_ble_eq_true rfl) (fun xp xe xs xm xb xme xc A ls Q H locs C hN hK hP hD hS hA hl hQ => ?_)
  obtain ⟨hx, hb, hr, hts, hown, hlocks, hml, hin⟩ := C
  have hl : lv_has ls 4 [(0, .ref a_s), (1, .int p_1)] := hl
  have h := hf
  unfold f_Store_seek at h
  have hRa : (Sum.inr r0 : Nat ⊕ (Int32 × Int32 × (Nat → Int32) × Int32 × Int32)) = ((Sum.inr r0, rc) : (Nat ⊕ (Int32 × Int32 × (Nat → Int32) × Int32 × Int32)) × Nat).1 := rfl
  have hRc : rc = 0 + ((Sum.inr r0, rc) : (Nat ⊕ (Int32 × Int32 × (Nat → Int32) × Int32 × Int32)) × Nat).2 := (Nat.zero_add _).symm
  refine W.widen (k := 0) (n := 1024 * 0) (Nat.le_refl _) (Nat.le_refl _) ?_
  refine lv_iload_n hx hb d_Store_seek_0 rfl (lv_at hl 1 rfl) ?_
  refine lv_if_lt (tgt := 9) hx hb d_Store_seek_1 (by decide) (fun q1 => ?_) (fun q1 => ?_)
  · have h := it h q1
    have ey := Option.some.inj h
    rw [← ey] at hRa
    cases hRa
  · have h := ie h q1
    refine lv_iload_n hx hb d_Store_seek_4 rfl (lv_at hl 1 rfl) ?_
    refine lv_iconst (v := 5) hx hb d_Store_seek_5 (by decide) ?_
    refine lv_icmp_le (tgt := 17) hx hb d_Store_seek_6 (by decide) (fun q2 => ?_) (fun q2 => ?_)
    · have h := it h q2
      obtain ⟨y3, h, hRa, hRc⟩ := nx_n h hRa hRc
      refine lv_aload_n hx hb d_Store_seek_17 rfl (lv_at hl 0 rfl) ?_
      refine va_get (D := G.1) (ci := 5) (v := .ref a_t) (C := "BranchStore") (T := F_Store) (N := 7) hx hb hts i_Store hown hK hP 0 rfl rfl 1 (by decide) (hts _ k_173) (fun _ h9 => h9) rfl d_Store_seek_18 ?_
      refine lv_aload_n hx hb d_Store_seek_21 rfl (lv_at hl 0 rfl) ?_
      refine va_get (D := G.1) (ci := 5) (v := .ref a_ao) (C := "BranchStore") (T := F_Store) (N := 7) hx hb hts i_Store hown hK hP 0 rfl rfl 2 (by decide) (hts _ k_174) (fun _ h9 => h9) rfl d_Store_seek_22 ?_
      obtain ⟨r4, hr4, h⟩ := ob h
      refine zpcalli (wr := [(a_s, .inr (5, [.int c_sort, .ref a_t, .ref a_ao, .ref a_bo, .ref a_uo, .int c_set, .ref a_go])), (a_uo, .inr (0, [.ref a_uq, .int c_un, .int c_ut])), (a_uq, .inl (G.2.2.1, 50, .inl c_ub))]) (w2 := fun _ => (wB G a_s a_t a_ao a_bo a_uo a_go c_sort c_set ++ wT G a_t a_c a_mv a_fr a_br a_e0 a_e1 a_e2 a_e3 a_lo a_ho c_c c_cl c_mv c_ml c_en c_rt c_fr c_br c_fi c_st c_vz ++ wK G a_ao a_aq c_ab c_an c_at ++ wK G a_uo a_uq c_ub c_un c_ut)) (zrunV (As := [.ref a_ao]) (rest := []) ⟨hx, hb, hml, hown, hts⟩ hN hK (c_Tree_rank l G H.size a_t a_c a_mv a_fr a_br a_e0 a_e1 a_e2 a_e3 a_lo a_ho a_ao a_aq c_c c_cl c_mv c_ml c_en c_rt c_fr c_br c_fi c_st c_vz c_ab c_an c_at r4 hr4) ⟨rfl, rfl⟩ kv_Store_42 ⟨Nat.le_of_ble_eq_true rfl, Nat.le_of_ble_eq_true rfl⟩ 0 rfl rfl rfl hl.1 (Nat.le_of_ble_eq_true rfl) d_Store_seek_25 ⟨by show _ ≤ rc; omega, by show _ ≤ 1024 * rc; omega⟩) hP hD hS hA [1, 2, 3, 4, 5, 6, 7, 8, 9, 10, 11] [0, 12, 13] [0, 3, 4, 5, 6, 7, 8, 9, 10, 11, 12, 13, 1, 2] rfl rfl rfl rfl (by decide) rfl (fun _ => rfl) (fun rr _ H hw hP hD hS => ?_)
      have hw := hw.symm
      subst hw
      refine lv_istore_n (lv' := [(2, .int r4), (0, .ref a_s), (1, .int p_1)]) hx hb d_Store_seek_28 rfl hl (by decide) rfl (fun ls hl => ?_)
      refine lv_iload_n hx hb d_Store_seek_29 rfl (lv_at hl 2 rfl) ?_
      refine lv_iconst (v := 4) hx hb d_Store_seek_30 (by decide) ?_
      obtain ⟨y9, hy9, h⟩ := ob h
      have J53 : ∀ (z11 : Int32), narrow .boolean (.int z11) = .int z11 → z11 = y9 → ∀ (H : Heap) (locs : List Loc) (ls : Array Slot), va_P G.1 classes (wB G a_s a_t a_ao a_bo a_uo a_go c_sort c_set ++ wT G a_t a_c a_mv a_fr a_br a_e0 a_e1 a_e2 a_e3 a_lo a_ho c_c c_cl c_mv c_ml c_en c_rt c_fr c_br c_fi c_st c_vz ++ wK G a_ao a_aq c_ab c_an c_at ++ wK G a_uo a_uq c_ub c_un c_ut) H → va_D A (wB G a_s a_t a_ao a_bo a_uo a_go c_sort c_set ++ wT G a_t a_c a_mv a_fr a_br a_e0 a_e1 a_e2 a_e3 a_lo a_ho c_c c_cl c_mv c_ml c_en c_rt c_fr c_br c_fi c_st c_vz ++ wK G a_ao a_aq c_ab c_an c_at ++ wK G a_uo a_uq c_ub c_un c_ut) → va_S A xs.heap H locs → lv_has ls 4 [(0, .ref a_s), (1, .int p_1), (2, .int r4)] → W xp l xe { frames := 7, cells := rc, slots := 1024 * rc, locals := 165 } xs xm ([.ref a_s, .int p_1] : List Value).toArray xb xme xc H locs (0) (1024 * (0)) Q (F0 xm 53 ls [.int z11]) := by
        intro z11 hzz11 ey H locs ls hP hD hS hl
        subst ey
        try dsimp only at h
        refine lv_istore_n (lv' := [(3, .int z11), (0, .ref a_s), (1, .int p_1), (2, .int r4)]) hx hb d_Store_seek_53 rfl hl (by decide) rfl (fun ls hl => ?_)
        refine lv_iload_n hx hb d_Store_seek_54 rfl (lv_at hl 2 rfl) ?_
        by_cases q12 : p_1 = 0
        · have h := it h q12
          refine lv_tableIn (tgt := 88) hx hb d_Store_seek_55 (by rw [q12]; decide) (by rw [q12]; decide) (by rw [q12]; rfl) (by decide) ?_
          refine lv_aload_n hx hb d_Store_seek_88 rfl (lv_at hl 1 rfl) ?_
          refine lv_iload_n hx hb d_Store_seek_89 rfl (lv_at hl 3 rfl) ?_
          refine lv_iload_n hx hb d_Store_seek_90 rfl (lv_at hl 0 rfl) ?_
          refine lv_iadd hx hb d_Store_seek_91 ?_
          refine lv_iconst (v := 1) hx hb d_Store_seek_92 (by decide) ?_
          refine lv_isub hx hb d_Store_seek_93 ?_
          obtain ⟨r13, hr13, h⟩ := ob h
          refine zcalli (wr := [(a_ao, .inr (0, [.ref a_aq, .int c_an, .int c_at])), (a_aq, .inl (G.2.2.1, 50, .inl c_ab))]) (w2 := fun _ => (wB G a_s a_t a_ao a_bo a_uo a_go c_sort r13.2.1 ++ wT G a_t a_c a_mv a_fr a_br a_e0 a_e1 a_e2 a_e3 a_lo a_ho c_c c_cl c_mv c_ml c_en c_rt c_fr c_br c_fi c_st c_vz ++ wK G a_ao a_aq c_ab c_an c_at ++ wK G a_uo a_uq r13.2.2.1 r13.2.2.2.1 r13.2.2.2.2)) (zrunV (As := [.int ((r4 + z11) - 1)]) (rest := []) ⟨hx, hb, hml, hown, hts⟩ hN hK (c_Store_comes l G H.size a_s a_t a_ao a_bo a_uo a_go a_c a_mv a_fr a_br a_e0 a_e1 a_e2 a_e3 a_lo a_ho a_uq c_sort c_set c_c c_cl c_mv c_ml c_en c_rt c_fr c_br c_fi c_st c_vz c_ub c_un c_ut ((r4 + z11) - 1) r13 hr13) ⟨rfl, rfl⟩ kv_Store_111 ⟨Nat.le_of_ble_eq_true rfl, Nat.le_of_ble_eq_true rfl⟩ 0 rfl rfl rfl hl.1 (Nat.le_of_ble_eq_true rfl) d_Store_seek_94 ⟨by show _ ≤ rc; omega, by show _ ≤ 1024 * rc; omega⟩) hP hD hS hA [0, 1, 2, 3, 4, 5, 6, 7, 8, 9, 12, 13] [10, 11] [2, 3, 4, 5, 6, 7, 8, 9, 10, 11, 0, 1, 12, 13] rfl rfl rfl rfl (by decide) rfl (fun _ => rfl) (fun rr _ H locs hw hP hD hS => ?_)
          obtain ⟨hw, hz14⟩ := hw
          have hw := hw.symm
          subst hw
          have ey := Option.some.inj h
          rw [← ey] at hRa hRc
          have hRa : r0 = (r13.1, r13.2.1, r13.2.2.1, r13.2.2.2.1, r13.2.2.2.2) := hRa
          have hRc : rc = 0 + 0 := hRc
          subst hRa
          exact zretz (a_c, a_mv) hQ hS.2.2 hx hb hr hlocks hP hD hS ⟨rfl, hz14⟩ (by omega) (by omega) d_Store_seek_97 hz14
        have h := ie h q12
        by_cases q15 : p_1 = 1
        · have h := it h q15
          refine lv_tableIn (tgt := 98) hx hb d_Store_seek_55 (by rw [q15]; decide) (by rw [q15]; decide) (by rw [q15]; rfl) (by decide) ?_
          refine lv_aload_n hx hb d_Store_seek_98 rfl (lv_at hl 1 rfl) ?_
          refine lv_iload_n hx hb d_Store_seek_99 rfl (lv_at hl 3 rfl) ?_
          obtain ⟨r16, hr16, h⟩ := ob h
          refine zcalli (wr := [(a_ao, .inr (0, [.ref a_aq, .int c_an, .int c_at])), (a_aq, .inl (G.2.2.1, 50, .inl c_ab))]) (w2 := fun _ => (wB G a_s a_t a_ao a_bo a_uo a_go c_sort r16.2.1 ++ wT G a_t a_c a_mv a_fr a_br a_e0 a_e1 a_e2 a_e3 a_lo a_ho c_c c_cl c_mv c_ml c_en c_rt c_fr c_br c_fi c_st c_vz ++ wK G a_ao a_aq c_ab c_an c_at ++ wK G a_uo a_uq r16.2.2.1 r16.2.2.2.1 r16.2.2.2.2)) (zrunV (As := [.int r4]) (rest := []) ⟨hx, hb, hml, hown, hts⟩ hN hK (c_Store_comes l G H.size a_s a_t a_ao a_bo a_uo a_go a_c a_mv a_fr a_br a_e0 a_e1 a_e2 a_e3 a_lo a_ho a_uq c_sort c_set c_c c_cl c_mv c_ml c_en c_rt c_fr c_br c_fi c_st c_vz c_ub c_un c_ut r4 r16 hr16) ⟨rfl, rfl⟩ kv_Store_111 ⟨Nat.le_of_ble_eq_true rfl, Nat.le_of_ble_eq_true rfl⟩ 0 rfl rfl rfl hl.1 (Nat.le_of_ble_eq_true rfl) d_Store_seek_100 ⟨by show _ ≤ rc; omega, by show _ ≤ 1024 * rc; omega⟩) hP hD hS hA [0, 1, 2, 3, 4, 5, 6, 7, 8, 9, 12, 13] [10, 11] [2, 3, 4, 5, 6, 7, 8, 9, 10, 11, 0, 1, 12, 13] rfl rfl rfl rfl (by decide) rfl (fun _ => rfl) (fun rr _ H locs hw hP hD hS => ?_)
          obtain ⟨hw, hz17⟩ := hw
          have hw := hw.symm
          subst hw
          have ey := Option.some.inj h
          rw [← ey] at hRa hRc
          have hRa : r0 = (r16.1, r16.2.1, r16.2.2.1, r16.2.2.2.1, r16.2.2.2.2) := hRa
          have hRc : rc = 0 + 0 := hRc
          subst hRa
          exact zretz (a_c, a_mv) hQ hS.2.2 hx hb hr hlocks hP hD hS ⟨rfl, hz17⟩ (by omega) (by omega) d_Store_seek_103 hz17
        have h := ie h q15
        by_cases q18 : p_1 = 2
        · have h := it h q18
          refine lv_tableIn (tgt := 104) hx hb d_Store_seek_55 (by rw [q18]; decide) (by rw [q18]; decide) (by rw [q18]; rfl) (by decide) ?_
          refine lv_aload_n hx hb d_Store_seek_104 rfl (lv_at hl 1 rfl) ?_
          refine lv_iload_n hx hb d_Store_seek_105 rfl (lv_at hl 3 rfl) ?_
          refine lv_iconst (v := 1) hx hb d_Store_seek_106 (by decide) ?_
          refine lv_isub hx hb d_Store_seek_107 ?_
          obtain ⟨r19, hr19, h⟩ := ob h
          refine zcalli (wr := [(a_ao, .inr (0, [.ref a_aq, .int c_an, .int c_at])), (a_aq, .inl (G.2.2.1, 50, .inl c_ab))]) (w2 := fun _ => (wB G a_s a_t a_ao a_bo a_uo a_go c_sort r19.2.1 ++ wT G a_t a_c a_mv a_fr a_br a_e0 a_e1 a_e2 a_e3 a_lo a_ho c_c c_cl c_mv c_ml c_en c_rt c_fr c_br c_fi c_st c_vz ++ wK G a_ao a_aq c_ab c_an c_at ++ wK G a_uo a_uq r19.2.2.1 r19.2.2.2.1 r19.2.2.2.2)) (zrunV (As := [.int (r4 - 1)]) (rest := []) ⟨hx, hb, hml, hown, hts⟩ hN hK (c_Store_comes l G H.size a_s a_t a_ao a_bo a_uo a_go a_c a_mv a_fr a_br a_e0 a_e1 a_e2 a_e3 a_lo a_ho a_uq c_sort c_set c_c c_cl c_mv c_ml c_en c_rt c_fr c_br c_fi c_st c_vz c_ub c_un c_ut (r4 - 1) r19 hr19) ⟨rfl, rfl⟩ kv_Store_111 ⟨Nat.le_of_ble_eq_true rfl, Nat.le_of_ble_eq_true rfl⟩ 0 rfl rfl rfl hl.1 (Nat.le_of_ble_eq_true rfl) d_Store_seek_108 ⟨by show _ ≤ rc; omega, by show _ ≤ 1024 * rc; omega⟩) hP hD hS hA [0, 1, 2, 3, 4, 5, 6, 7, 8, 9, 12, 13] [10, 11] [2, 3, 4, 5, 6, 7, 8, 9, 10, 11, 0, 1, 12, 13] rfl rfl rfl rfl (by decide) rfl (fun _ => rfl) (fun rr _ H locs hw hP hD hS => ?_)
          obtain ⟨hw, hz20⟩ := hw
          have hw := hw.symm
          subst hw
          have ey := Option.some.inj h
          rw [← ey] at hRa hRc
          have hRa : r0 = (r19.1, r19.2.1, r19.2.2.1, r19.2.2.2.1, r19.2.2.2.2) := hRa
          have hRc : rc = 0 + 0 := hRc
          subst hRa
          exact zretz (a_c, a_mv) hQ hS.2.2 hx hb hr hlocks hP hD hS ⟨rfl, hz20⟩ (by omega) (by omega) d_Store_seek_111 hz20
        have h := ie h q18
        by_cases q21 : p_1 = 3
        · have h := it h q21
          refine lv_tableIn (tgt := 112) hx hb d_Store_seek_55 (by rw [q21]; decide) (by rw [q21]; decide) (by rw [q21]; rfl) (by decide) ?_
          refine lv_aload_n hx hb d_Store_seek_112 rfl (lv_at hl 1 rfl) ?_
          refine lv_iload_n hx hb d_Store_seek_113 rfl (lv_at hl 3 rfl) ?_
          refine lv_iload_n hx hb d_Store_seek_114 rfl (lv_at hl 0 rfl) ?_
          refine lv_iadd hx hb d_Store_seek_115 ?_
          obtain ⟨r22, hr22, h⟩ := ob h
          refine zcalli (wr := [(a_ao, .inr (0, [.ref a_aq, .int c_an, .int c_at])), (a_aq, .inl (G.2.2.1, 50, .inl c_ab))]) (w2 := fun _ => (wB G a_s a_t a_ao a_bo a_uo a_go c_sort r22.2.1 ++ wT G a_t a_c a_mv a_fr a_br a_e0 a_e1 a_e2 a_e3 a_lo a_ho c_c c_cl c_mv c_ml c_en c_rt c_fr c_br c_fi c_st c_vz ++ wK G a_ao a_aq c_ab c_an c_at ++ wK G a_uo a_uq r22.2.2.1 r22.2.2.2.1 r22.2.2.2.2)) (zrunV (As := [.int (r4 + z11)]) (rest := []) ⟨hx, hb, hml, hown, hts⟩ hN hK (c_Store_comes l G H.size a_s a_t a_ao a_bo a_uo a_go a_c a_mv a_fr a_br a_e0 a_e1 a_e2 a_e3 a_lo a_ho a_uq c_sort c_set c_c c_cl c_mv c_ml c_en c_rt c_fr c_br c_fi c_st c_vz c_ub c_un c_ut (r4 + z11) r22 hr22) ⟨rfl, rfl⟩ kv_Store_111 ⟨Nat.le_of_ble_eq_true rfl, Nat.le_of_ble_eq_true rfl⟩ 0 rfl rfl rfl hl.1 (Nat.le_of_ble_eq_true rfl) d_Store_seek_116 ⟨by show _ ≤ rc; omega, by show _ ≤ 1024 * rc; omega⟩) hP hD hS hA [0, 1, 2, 3, 4, 5, 6, 7, 8, 9, 12, 13] [10, 11] [2, 3, 4, 5, 6, 7, 8, 9, 10, 11, 0, 1, 12, 13] rfl rfl rfl rfl (by decide) rfl (fun _ => rfl) (fun rr _ H locs hw hP hD hS => ?_)
          obtain ⟨hw, hz23⟩ := hw
          have hw := hw.symm
          subst hw
          have ey := Option.some.inj h
          rw [← ey] at hRa hRc
          have hRa : r0 = (r22.1, r22.2.1, r22.2.2.1, r22.2.2.2.1, r22.2.2.2.2) := hRa
          have hRc : rc = 0 + 0 := hRc
          subst hRa
          exact zretz (a_c, a_mv) hQ hS.2.2 hx hb hr hlocks hP hD hS ⟨rfl, hz23⟩ (by omega) (by omega) d_Store_seek_119 hz23
        have h := ie h q21
        by_cases q24 : p_1 = 4
        · have h := it h q24
          refine lv_tableIn (tgt := 120) hx hb d_Store_seek_55 (by rw [q24]; decide) (by rw [q24]; decide) (by rw [q24]; rfl) (by decide) ?_
          refine lv_aload_n hx hb d_Store_seek_120 rfl (lv_at hl 1 rfl) ?_
          refine lv_iconst (v := 0) hx hb d_Store_seek_121 (by decide) ?_
          obtain ⟨r25, hr25, h⟩ := ob h
          refine zcalli (wr := [(a_ao, .inr (0, [.ref a_aq, .int c_an, .int c_at])), (a_aq, .inl (G.2.2.1, 50, .inl c_ab))]) (w2 := fun _ => (wB G a_s a_t a_ao a_bo a_uo a_go c_sort r25.2.1 ++ wT G a_t a_c a_mv a_fr a_br a_e0 a_e1 a_e2 a_e3 a_lo a_ho c_c c_cl c_mv c_ml c_en c_rt c_fr c_br c_fi c_st c_vz ++ wK G a_ao a_aq c_ab c_an c_at ++ wK G a_uo a_uq r25.2.2.1 r25.2.2.2.1 r25.2.2.2.2)) (zrunV (As := [.int 0]) (rest := []) ⟨hx, hb, hml, hown, hts⟩ hN hK (c_Store_comes l G H.size a_s a_t a_ao a_bo a_uo a_go a_c a_mv a_fr a_br a_e0 a_e1 a_e2 a_e3 a_lo a_ho a_uq c_sort c_set c_c c_cl c_mv c_ml c_en c_rt c_fr c_br c_fi c_st c_vz c_ub c_un c_ut 0 r25 hr25) ⟨rfl, rfl⟩ kv_Store_111 ⟨Nat.le_of_ble_eq_true rfl, Nat.le_of_ble_eq_true rfl⟩ 0 rfl rfl rfl hl.1 (Nat.le_of_ble_eq_true rfl) d_Store_seek_122 ⟨by show _ ≤ rc; omega, by show _ ≤ 1024 * rc; omega⟩) hP hD hS hA [0, 1, 2, 3, 4, 5, 6, 7, 8, 9, 12, 13] [10, 11] [2, 3, 4, 5, 6, 7, 8, 9, 10, 11, 0, 1, 12, 13] rfl rfl rfl rfl (by decide) rfl (fun _ => rfl) (fun rr _ H locs hw hP hD hS => ?_)
          obtain ⟨hw, hz26⟩ := hw
          have hw := hw.symm
          subst hw
          have ey := Option.some.inj h
          rw [← ey] at hRa hRc
          have hRa : r0 = (r25.1, r25.2.1, r25.2.2.1, r25.2.2.2.1, r25.2.2.2.2) := hRa
          have hRc : rc = 0 + 0 := hRc
          subst hRa
          exact zretz (a_c, a_mv) hQ hS.2.2 hx hb hr hlocks hP hD hS ⟨rfl, hz26⟩ (by omega) (by omega) d_Store_seek_125 hz26
        have h := ie h q24
        refine lv_tableOut (tgt := 126) hx hb d_Store_seek_55 (zsw_out 0 4 (by decide) (by decide) (by decide) (fun j h1 h2 => by rcases (show j = 0 ∨ j = 1 ∨ j = 2 ∨ j = 3 ∨ j = 4 by omega) with rfl | rfl | rfl | rfl | rfl <;> assumption)) (by decide) ?_
        refine lv_aload_n hx hb d_Store_seek_126 rfl (lv_at hl 1 rfl) ?_
        refine lv_aload_n hx hb d_Store_seek_127 rfl (lv_at hl 1 rfl) ?_
        refine va_get (D := G.1) (ci := 5) (v := .ref a_t) (C := "BranchStore") (T := F_Store) (N := 7) hx hb hts i_Store hown hK hP 0 rfl rfl 1 (by decide) (hts _ k_173) (fun _ h9 => h9) rfl d_Store_seek_128 ?_
        obtain ⟨r27, hr27, h⟩ := ob h
        refine zpcalli (wr := [(a_s, .inr (5, [.int c_sort, .ref a_t, .ref a_ao, .ref a_bo, .ref a_uo, .int c_set, .ref a_go])), (a_ao, .inr (0, [.ref a_aq, .int c_an, .int c_at])), (a_aq, .inl (G.2.2.1, 50, .inl c_ab)), (a_uo, .inr (0, [.ref a_uq, .int c_un, .int c_ut])), (a_uq, .inl (G.2.2.1, 50, .inl c_ub))]) (w2 := fun _ => (wB G a_s a_t a_ao a_bo a_uo a_go c_sort c_set ++ wT G a_t a_c a_mv a_fr a_br a_e0 a_e1 a_e2 a_e3 a_lo a_ho c_c c_cl c_mv c_ml c_en c_rt c_fr c_br c_fi c_st c_vz ++ wK G a_ao a_aq c_ab c_an c_at ++ wK G a_uo a_uq c_ub c_un c_ut)) (zrunV (As := []) (rest := [.ref a_s]) ⟨hx, hb, hml, hown, hts⟩ hN hK (c_Tree_keys l G H.size a_t a_c a_mv a_fr a_br a_e0 a_e1 a_e2 a_e3 a_lo a_ho c_c c_cl c_mv c_ml c_en c_rt c_fr c_br c_fi c_st c_vz r27 hr27) ⟨rfl, rfl⟩ kv_Store_27 ⟨Nat.le_of_ble_eq_true rfl, Nat.le_of_ble_eq_true rfl⟩ 0 rfl rfl rfl hl.1 (Nat.le_of_ble_eq_true rfl) d_Store_seek_131 ⟨by show _ ≤ rc; omega, by show _ ≤ 1024 * rc; omega⟩) hP hD hS hA [1, 2, 3, 4, 5, 6, 7, 8, 9] [0, 10, 11, 12, 13] [0, 5, 6, 7, 8, 9, 10, 11, 12, 13, 1, 2, 3, 4] rfl rfl rfl rfl (by decide) rfl (fun _ => rfl) (fun rr _ H hw hP hD hS => ?_)
        have hw := hw.symm
        subst hw
        refine lv_iconst (v := 1) hx hb d_Store_seek_134 (by decide) ?_
        refine lv_isub hx hb d_Store_seek_135 ?_
        obtain ⟨r28, hr28, h⟩ := ob h
        refine zcalli (wr := [(a_ao, .inr (0, [.ref a_aq, .int c_an, .int c_at])), (a_aq, .inl (G.2.2.1, 50, .inl c_ab))]) (w2 := fun _ => (wB G a_s a_t a_ao a_bo a_uo a_go c_sort r28.2.1 ++ wT G a_t a_c a_mv a_fr a_br a_e0 a_e1 a_e2 a_e3 a_lo a_ho c_c c_cl c_mv c_ml c_en c_rt c_fr c_br c_fi c_st c_vz ++ wK G a_ao a_aq c_ab c_an c_at ++ wK G a_uo a_uq r28.2.2.1 r28.2.2.2.1 r28.2.2.2.2)) (zrunV (As := [.int (r27 - 1)]) (rest := []) ⟨hx, hb, hml, hown, hts⟩ hN hK (c_Store_comes l G H.size a_s a_t a_ao a_bo a_uo a_go a_c a_mv a_fr a_br a_e0 a_e1 a_e2 a_e3 a_lo a_ho a_uq c_sort c_set c_c c_cl c_mv c_ml c_en c_rt c_fr c_br c_fi c_st c_vz c_ub c_un c_ut (r27 - 1) r28 hr28) ⟨rfl, rfl⟩ kv_Store_111 ⟨Nat.le_of_ble_eq_true rfl, Nat.le_of_ble_eq_true rfl⟩ 0 rfl rfl rfl hl.1 (Nat.le_of_ble_eq_true rfl) d_Store_seek_136 ⟨by show _ ≤ rc; omega, by show _ ≤ 1024 * rc; omega⟩) hP hD hS hA [0, 1, 2, 3, 4, 5, 6, 7, 8, 9, 12, 13] [10, 11] [2, 3, 4, 5, 6, 7, 8, 9, 10, 11, 0, 1, 12, 13] rfl rfl rfl rfl (by decide) rfl (fun _ => rfl) (fun rr _ H locs hw hP hD hS => ?_)
        obtain ⟨hw, hz29⟩ := hw
        have hw := hw.symm
        subst hw
        have ey := Option.some.inj h
        rw [← ey] at hRa hRc
        have hRa : r0 = (r28.1, r28.2.1, r28.2.2.1, r28.2.2.2.1, r28.2.2.2.2) := hRa
        have hRc : rc = 0 + 0 := hRc
        subst hRa
        exact zretz (a_c, a_mv) hQ hS.2.2 hx hb hr hlocks hP hD hS ⟨rfl, hz29⟩ (by omega) (by omega) d_Store_seek_139 hz29
      have h := hy9
      refine lv_icmp_ge (tgt := 52) hx hb d_Store_seek_31 (by decide) (fun q6 => ?_) (fun q6 => ?_)
      · have h := it h q6
        refine lv_iconst (v := 0) hx hb d_Store_seek_52 (by decide) ?_
        exact J53 0 rfl (Option.some.inj h) H locs ls hP hD hS (lv_sub hl [1, 2, 0] rfl)
      · have h := ie h q6
        refine lv_aload_n hx hb d_Store_seek_34 rfl (lv_at hl 1 rfl) ?_
        refine va_get (D := G.1) (ci := 5) (v := .ref a_t) (C := "BranchStore") (T := F_Store) (N := 7) hx hb hts i_Store hown hK hP 0 rfl rfl 1 (by decide) (hts _ k_173) (fun _ h9 => h9) rfl d_Store_seek_35 ?_
        refine lv_aload_n hx hb d_Store_seek_38 rfl (lv_at hl 1 rfl) ?_
        refine va_get (D := G.1) (ci := 5) (v := .ref a_ao) (C := "BranchStore") (T := F_Store) (N := 7) hx hb hts i_Store hown hK hP 0 rfl rfl 2 (by decide) (hts _ k_174) (fun _ h9 => h9) rfl d_Store_seek_39 ?_
        obtain ⟨r7, hr7, h⟩ := ob h
        refine zpcalli (wr := [(a_s, .inr (5, [.int c_sort, .ref a_t, .ref a_ao, .ref a_bo, .ref a_uo, .int c_set, .ref a_go])), (a_uo, .inr (0, [.ref a_uq, .int c_un, .int c_ut])), (a_uq, .inl (G.2.2.1, 50, .inl c_ub))]) (w2 := fun _ => (wB G a_s a_t a_ao a_bo a_uo a_go c_sort c_set ++ wT G a_t a_c a_mv a_fr a_br a_e0 a_e1 a_e2 a_e3 a_lo a_ho c_c c_cl c_mv c_ml c_en c_rt c_fr c_br c_fi c_st c_vz ++ wK G a_ao a_aq c_ab c_an c_at ++ wK G a_uo a_uq c_ub c_un c_ut)) (zrunV (As := [.ref a_ao]) (rest := []) ⟨hx, hb, hml, hown, hts⟩ hN hK (c_Tree_find l G H.size a_t a_c a_mv a_fr a_br a_e0 a_e1 a_e2 a_e3 a_lo a_ho a_ao a_aq c_c c_cl c_mv c_ml c_en c_rt c_fr c_br c_fi c_st c_vz c_ab c_an c_at r7 hr7) ⟨rfl, rfl⟩ kv_Store_7 ⟨Nat.le_of_ble_eq_true rfl, Nat.le_of_ble_eq_true rfl⟩ 0 rfl rfl rfl hl.1 (Nat.le_of_ble_eq_true rfl) d_Store_seek_42 ⟨by show _ ≤ rc; omega, by show _ ≤ 1024 * rc; omega⟩) hP hD hS hA [1, 2, 3, 4, 5, 6, 7, 8, 9, 10, 11] [0, 12, 13] [0, 3, 4, 5, 6, 7, 8, 9, 10, 11, 12, 13, 1, 2] rfl rfl rfl rfl (by decide) rfl (fun _ => rfl) (fun rr _ H hw hP hD hS => ?_)
        have hw := hw.symm
        subst hw
        refine lv_if_eq (tgt := 52) hx hb d_Store_seek_45 (by decide) (fun q8 => ?_) (fun q8 => ?_)
        · have h := it h q8
          refine lv_iconst (v := 0) hx hb d_Store_seek_52 (by decide) ?_
          exact J53 0 rfl (Option.some.inj h) H locs ls hP hD hS (lv_sub hl [1, 2, 0] rfl)
        · have h := ie h q8
          refine lv_iconst (v := 1) hx hb d_Store_seek_48 (by decide) ?_
          refine lv_goto (tgt := 53) hx hb d_Store_seek_49 (by decide) ?_
          exact J53 1 rfl (Option.some.inj h) H locs ls hP hD hS (lv_sub hl [1, 2, 0] rfl)
    · have h := ie h q2
      have ey := Option.some.inj h
      rw [← ey] at hRa
      cases hRa

set_option maxHeartbeats 8000000 in
set_option maxRecDepth 100000 in
theorem c_Store_seek_x (l : Launch) (G : zG) (hfl : l.flags = flags0) (sz : Nat) (a_s a_t a_ao a_bo a_uo a_go a_c a_mv a_fr a_br a_e0 a_e1 a_e2 a_e3 a_lo a_ho a_aq a_uq : Nat) (c_sort : Int32) (c_set : Int32) (c_c : (Nat → Int32)) (c_cl : Nat) (c_mv : (Nat → Int32)) (c_ml : Nat) (c_en : Int32) (c_rt : Int32) (c_fr : (Nat → Int32)) (c_br : (Nat → Int32)) (c_fi : Int64) (c_st : Int64) (c_vz : Int64) (c_ab : (Nat → Int32)) (c_an : Int32) (c_at : Int32) (c_ub : (Nat → Int32)) (c_un : Int32) (c_ut : Int32) (p_1 : Int32) (k0 : Nat) (rc : Nat) (hf : f_Store_seek c_set c_c c_cl c_rt c_ab c_an c_ub c_un c_ut p_1 = some (.inl k0, rc)) :
    MetX l y_Store_seek (Cond.code y_Store_seek prog_1_method_15_code 4 (some .boolean) :: lw_ok) { frames := 7, cells := rc, slots := 1024 * rc, locals := 165 } (zPcX G sz [.ref a_s, .int p_1] (wB G a_s a_t a_ao a_bo a_uo a_go c_sort c_set ++ wT G a_t a_c a_mv a_fr a_br a_e0 a_e1 a_e2 a_e3 a_lo a_ho c_c c_cl c_mv c_ml c_en c_rt c_fr c_br c_fi c_st c_vz ++ wK G a_ao a_aq c_ab c_an c_at ++ wK G a_uo a_uq c_ub c_un c_ut)) (zQx (zcls k0)) rc (1024 * rc) (fun q => sz ≤ q) := by
  refine zMetX hfl (by decide) (Nat.le_of_ble_eq_true rfl) (fun xp xe xs xm xb xme xc A ls Q H locs C htr hnh hTs hnA hN hK hP hD hS hL hA hl hQ => ?_)
  obtain ⟨hx, hb, hr, hts, hown, hlocks, hml, hin⟩ := C
  have hl : lv_has ls 4 [(0, .ref a_s), (1, .int p_1)] := hl
  have h := hf
  unfold f_Store_seek at h
  have hRa : (Sum.inl k0 : Nat ⊕ (Int32 × Int32 × (Nat → Int32) × Int32 × Int32)) = ((Sum.inl k0, rc) : (Nat ⊕ (Int32 × Int32 × (Nat → Int32) × Int32 × Int32)) × Nat).1 := rfl
  have hRc : rc = 0 + ((Sum.inl k0, rc) : (Nat ⊕ (Int32 × Int32 × (Nat → Int32) × Int32 × Int32)) × Nat).2 := (Nat.zero_add _).symm
  refine W.widen (k := 0) (n := 1024 * 0) (Nat.le_refl _) (Nat.le_refl _) ?_
  refine lv_iload_n hx hb d_Store_seek_0 rfl (lv_at hl 1 rfl) ?_
  refine lv_if_lt (tgt := 9) hx hb d_Store_seek_1 (by decide) (fun q1 => ?_) (fun q1 => ?_)
  · have h := it h q1
    have ey := Option.some.inj h
    rw [← ey] at hRa hRc
    have hRc : rc = 0 + 1 := hRc
    obtain rfl := Sum.inl.inj hRa
    exact zthrow (ia := 74) (ic := 76) hQ hx hb hlocks htr hnh hts hN hTs hown (hml.trans hl.1.symm) hS hL k_516 k_517 k_13 kt_1 (by decide) (by show _ ≤ rc; omega) (by show _ ≤ 1024 * rc; omega) (by omega) (by omega) (Nat.le_of_ble_eq_true rfl) (Nat.le_of_ble_eq_true rfl) d_Store_seek_9 d_Store_seek_12 d_Store_seek_13 d_Store_seek_16
  · have h := ie h q1
    refine lv_iload_n hx hb d_Store_seek_4 rfl (lv_at hl 1 rfl) ?_
    refine lv_iconst (v := 5) hx hb d_Store_seek_5 (by decide) ?_
    refine lv_icmp_le (tgt := 17) hx hb d_Store_seek_6 (by decide) (fun q2 => ?_) (fun q2 => ?_)
    · have h := it h q2
      exact absurd h (fun h => nx_x h hRa)
    · have h := ie h q2
      have ey := Option.some.inj h
      rw [← ey] at hRa hRc
      have hRc : rc = 0 + 1 := hRc
      obtain rfl := Sum.inl.inj hRa
      exact zthrow (ia := 74) (ic := 76) hQ hx hb hlocks htr hnh hts hN hTs hown (hml.trans hl.1.symm) hS hL k_516 k_517 k_13 kt_1 (by decide) (by show _ ≤ rc; omega) (by show _ ≤ 1024 * rc; omega) (by omega) (by omega) (Nat.le_of_ble_eq_true rfl) (Nat.le_of_ble_eq_true rfl) d_Store_seek_9 d_Store_seek_12 d_Store_seek_13 d_Store_seek_16

theorem kv_Store_115 : zKV "BranchStore" 115 y_Store_known prog_1_method_2_code 1 (some (.object "BranchStore$Key")) 0 := ⟨k_634, k_636, kp_22, k_1, k_637, by decide +kernel⟩
noncomputable def f_Store_move (c_set : Int32) (c_c : (Nat → Int32)) (c_cl : Nat) (c_rt : Int32) (c_ub : (Nat → Int32)) (c_un : Int32) (c_ut : Int32) (p_1 : Int32) : Option ((Nat ⊕ (Int32 × Int32 × (Nat → Int32) × Int32 × Int32)) × Nat) :=
bx (f_Store_known c_set) fun r1 =>
nx <|
(f_Tree_rank c_c c_cl c_rt c_ub c_un).bind fun r4 =>
(if p_1 = 0 then
(some (r4 - 1))
else
((f_Tree_find c_c c_cl c_rt c_ub c_un).bind fun r7 =>
if r7 = 0 then
(some r4)
else
(some (r4 + 1)))).bind fun y10 =>
(f_Store_comes c_set c_c c_cl c_rt c_ub c_un c_ut y10).bind fun r12 =>
some ((r12.1, r12.2.1, r12.2.2.1, r12.2.2.2.1, r12.2.2.2.2), 0)
set_option maxHeartbeats 8000000 in
set_option maxRecDepth 100000 in
theorem c_Store_move (l : Launch) (G : zG) (sz : Nat) (a_s a_t a_ao a_bo a_uo a_go a_c a_mv a_fr a_br a_e0 a_e1 a_e2 a_e3 a_lo a_ho a_uq : Nat) (c_sort : Int32) (c_set : Int32) (c_c : (Nat → Int32)) (c_cl : Nat) (c_mv : (Nat → Int32)) (c_ml : Nat) (c_en : Int32) (c_rt : Int32) (c_fr : (Nat → Int32)) (c_br : (Nat → Int32)) (c_fi : Int64) (c_st : Int64) (c_vz : Int64) (c_ub : (Nat → Int32)) (c_un : Int32) (c_ut : Int32) (p_1 : Int32) (b_1 : narrow .boolean (.int p_1) = .int p_1) (r0 : (Int32 × Int32 × (Nat → Int32) × Int32 × Int32)) (rc : Nat) (hf : f_Store_move c_set c_c c_cl c_rt c_ub c_un c_ut p_1 = some (.inr r0, rc)) :
    Met l y_Store_move (Cond.code y_Store_move prog_1_method_16_code 3 (some .boolean) :: lw_ok) { frames := 7, cells := rc, slots := 1024 * rc, locals := 165 } (zPc G sz [.ref a_s, .int p_1] (wB G a_s a_t a_ao a_bo a_uo a_go c_sort c_set ++ wT G a_t a_c a_mv a_fr a_br a_e0 a_e1 a_e2 a_e3 a_lo a_ho c_c c_cl c_mv c_ml c_en c_rt c_fr c_br c_fi c_st c_vz ++ wK G a_uo a_uq c_ub c_un c_ut))
      ((fun (A : Nat → Prop) => va_Qi (fun (r : Int32) (u : Nat × Nat) => r = r0.1 ∧ narrow .boolean (.int r) = .int r) (fun u t => zB G A (wB G a_s a_t a_ao a_bo a_uo a_go c_sort r0.2.1 ++ wT G a_t u.1 u.2 a_fr a_br a_e0 a_e1 a_e2 a_e3 a_lo a_ho c_c c_cl c_mv c_ml c_en c_rt c_fr c_br c_fi c_st c_vz ++ wK G a_uo a_uq r0.2.2.1 r0.2.2.2.1 r0.2.2.2.2) t) A) (va_A (wB G a_s a_t a_ao a_bo a_uo a_go c_sort c_set ++ wT G a_t a_c a_mv a_fr a_br a_e0 a_e1 a_e2 a_e3 a_lo a_ho c_c c_cl c_mv c_ml c_en c_rt c_fr c_br c_fi c_st c_vz ++ wK G a_uo a_uq c_ub c_un c_ut) sz)) rc (1024 * rc) (va_A (wB G a_s a_t a_ao a_bo a_uo a_go c_sort c_set ++ wT G a_t a_c a_mv a_fr a_br a_e0 a_e1 a_e2 a_e3 a_lo a_ho c_c c_cl c_mv c_ml c_en c_rt c_fr c_br c_fi c_st c_vz ++ wK G a_uo a_uq c_ub c_un c_ut) sz) := by
  refine zMet (Qc := fun (A : Nat → Prop) => va_Qi (fun (r : Int32) (u : Nat × Nat) => r = r0.1 ∧ narrow .boolean (.int r) = .int r) (fun u t => zB G A (wB G a_s a_t a_ao a_bo a_uo a_go c_sort r0.2.1 ++ wT G a_t u.1 u.2 a_fr a_br a_e0 a_e1 a_e2 a_e3 a_lo a_ho c_c c_cl c_mv c_ml c_en c_rt c_fr c_br c_fi c_st c_vz ++ wK G a_uo a_uq r0.2.2.1 r0.2.2.2.1 r0.2.2.2.2) t) A) (by decide) (Nat.le_of_ble_eq_true rfl) (fun xp xe xs xm xb xme xc A ls Q H locs C hN hK hP hD hS hA hl hQ => ?_)
  obtain ⟨hx, hb, hr, hts, hown, hlocks, hml, hin⟩ := C
  have hl : lv_has ls 3 [(0, .ref a_s), (1, .int p_1)] := hl
  have h := hf
  unfold f_Store_move at h
  have hRa : (Sum.inr r0 : Nat ⊕ (Int32 × Int32 × (Nat → Int32) × Int32 × Int32)) = ((Sum.inr r0, rc) : (Nat ⊕ (Int32 × Int32 × (Nat → Int32) × Int32 × Int32)) × Nat).1 := rfl
  have hRc : rc = 0 + ((Sum.inr r0, rc) : (Nat ⊕ (Int32 × Int32 × (Nat → Int32) × Int32 × Int32)) × Nat).2 := (Nat.zero_add _).symm
  refine W.widen (k := 0) (n := 1024 * 0) (Nat.le_refl _) (Nat.le_refl _) ?_
  refine lv_aload_n hx hb d_Store_move_0 rfl (lv_at hl 0 rfl) ?_
  refine va_get (D := G.1) (ci := 5) (v := .ref a_t) (C := "BranchStore") (T := F_Store) (N := 7) hx hb hts i_Store hown hK hP 0 rfl rfl 1 (by decide) (hts _ k_173) (fun _ h9 => h9) rfl d_Store_move_1 ?_
  refine lv_aload_n hx hb d_Store_move_4 rfl (lv_at hl 0 rfl) ?_
  obtain ⟨r1, dr1, y2, hr1, h, hRa, hRc⟩ := bx_n h hRa hRc
  refine zpcallr (wr := [(a_t, .inr (4, [.ref a_c, .ref a_mv, .int c_en, .int c_rt, .ref a_fr, .ref a_e0, .ref a_e1, .ref a_e2, .ref a_e3, .ref a_br, .ref a_lo, .ref a_ho, .long c_fi, .long c_st, .long c_vz])), (a_c, .inl (G.2.1, c_cl, .inl c_c)), (a_mv, .inl (G.2.1, c_ml, .inl c_mv)), (a_fr, .inl (G.2.1, 261, .inl c_fr)), (a_br, .inl (G.2.1, 4, .inl c_br)), (a_e0, .inr (1, [.int 0, .int 9, .int 4, .int 5])), (a_e1, .inr (1, [.int 1, .int 24, .int 16, .int 8])), (a_e2, .inr (2, [.int 2, .int 116, .int 48])), (a_e3, .inr (3, [.int 3, .int 260, .int 256])), (a_uo, .inr (0, [.ref a_uq, .int c_un, .int c_ut])), (a_uq, .inl (G.2.2.1, 50, .inl c_ub))]) (w2 := fun _ => (wB G a_s a_t a_ao a_bo a_uo a_go c_sort c_set ++ wT G a_t a_c a_mv a_fr a_br a_e0 a_e1 a_e2 a_e3 a_lo a_ho c_c c_cl c_mv c_ml c_en c_rt c_fr c_br c_fi c_st c_vz ++ wK G a_uo a_uq c_ub c_un c_ut)) (zrunV (As := []) (rest := [.ref a_t]) ⟨hx, hb, hml, hown, hts⟩ hN hK (c_Store_known l G H.size a_s a_t a_ao a_bo a_uo a_go c_sort c_set r1 dr1 hr1) ⟨rfl, rfl⟩ kv_Store_115 ⟨Nat.le_of_ble_eq_true rfl, Nat.le_of_ble_eq_true rfl⟩ 0 rfl rfl rfl hl.1 (Nat.le_of_ble_eq_true rfl) d_Store_move_5 ⟨by show _ ≤ rc; omega, by show _ ≤ 1024 * rc; omega⟩) hP hD hS hA [0] [1, 2, 3, 4, 5, 6, 7, 8, 9, 10, 11] [11, 0, 1, 2, 3, 4, 5, 6, 7, 8, 9, 10] rfl rfl rfl rfl (by decide) rfl (fun _ => rfl) (fun _ ra H hw hP hD hS => ?_)
  refine W.widen (k := 0 + dr1) (n := 1024 * (0 + dr1)) (by omega) (by omega) ?_
  have hw := hw.symm
  subst hw
  obtain ⟨y3, h, hRa, hRc⟩ := nx_n h hRa hRc
  obtain ⟨r4, hr4, h⟩ := ob h
  refine zpcalli (wr := [(a_s, .inr (5, [.int c_sort, .ref a_t, .ref a_ao, .ref a_bo, .ref a_uo, .int c_set, .ref a_go]))]) (w2 := fun _ => (wB G a_s a_t a_ao a_bo a_uo a_go c_sort c_set ++ wT G a_t a_c a_mv a_fr a_br a_e0 a_e1 a_e2 a_e3 a_lo a_ho c_c c_cl c_mv c_ml c_en c_rt c_fr c_br c_fi c_st c_vz ++ wK G a_uo a_uq c_ub c_un c_ut)) (zrunV (As := [.ref a_uo]) (rest := []) ⟨hx, hb, hml, hown, hts⟩ hN hK (c_Tree_rank l G H.size a_t a_c a_mv a_fr a_br a_e0 a_e1 a_e2 a_e3 a_lo a_ho a_uo a_uq c_c c_cl c_mv c_ml c_en c_rt c_fr c_br c_fi c_st c_vz c_ub c_un c_ut r4 hr4) ⟨rfl, rfl⟩ kv_Store_42 ⟨Nat.le_of_ble_eq_true rfl, Nat.le_of_ble_eq_true rfl⟩ 0 rfl rfl rfl hl.1 (Nat.le_of_ble_eq_true rfl) d_Store_move_8 ⟨by show _ ≤ rc; omega, by show _ ≤ 1024 * rc; omega⟩) hP hD hS hA [1, 2, 3, 4, 5, 6, 7, 8, 9, 10, 11] [0] [0, 1, 2, 3, 4, 5, 6, 7, 8, 9, 10, 11] rfl rfl rfl rfl (by decide) rfl (fun _ => rfl) (fun rr _ H hw hP hD hS => ?_)
  have hw := hw.symm
  subst hw
  refine lv_istore_n (lv' := [(2, .int r4), (0, .ref a_s), (1, .int p_1)]) hx hb d_Store_move_11 rfl hl (by decide) rfl (fun ls hl => ?_)
  refine lv_aload_n hx hb d_Store_move_12 rfl (lv_at hl 1 rfl) ?_
  refine lv_iload_n hx hb d_Store_move_13 rfl (lv_at hl 2 rfl) ?_
  obtain ⟨y9, hy9, h⟩ := ob h
  have J44 : ∀ (z11 : Int32), z11 = y9 → ∀ (H : Heap) (locs : List Loc) (ls : Array Slot), va_P G.1 classes (wB G a_s a_t a_ao a_bo a_uo a_go c_sort c_set ++ wT G a_t a_c a_mv a_fr a_br a_e0 a_e1 a_e2 a_e3 a_lo a_ho c_c c_cl c_mv c_ml c_en c_rt c_fr c_br c_fi c_st c_vz ++ wK G a_uo a_uq c_ub c_un c_ut) H → va_D A (wB G a_s a_t a_ao a_bo a_uo a_go c_sort c_set ++ wT G a_t a_c a_mv a_fr a_br a_e0 a_e1 a_e2 a_e3 a_lo a_ho c_c c_cl c_mv c_ml c_en c_rt c_fr c_br c_fi c_st c_vz ++ wK G a_uo a_uq c_ub c_un c_ut) → va_S A xs.heap H locs → lv_has ls 3 [] → W xp l xe { frames := 7, cells := rc, slots := 1024 * rc, locals := 165 } xs xm ([.ref a_s, .int p_1] : List Value).toArray xb xme xc H locs (0 + dr1) (1024 * (0 + dr1)) Q (F0 xm 44 ls [.int z11, .ref a_s]) := by
    intro z11 ey H locs ls hP hD hS hl
    subst ey
    try dsimp only at h
    obtain ⟨r12, hr12, h⟩ := ob h
    refine zcalli (wr := []) (w2 := fun _ => (wB G a_s a_t a_ao a_bo a_uo a_go c_sort r12.2.1 ++ wT G a_t a_c a_mv a_fr a_br a_e0 a_e1 a_e2 a_e3 a_lo a_ho c_c c_cl c_mv c_ml c_en c_rt c_fr c_br c_fi c_st c_vz ++ wK G a_uo a_uq r12.2.2.1 r12.2.2.2.1 r12.2.2.2.2)) (zrunV (As := [.int z11]) (rest := []) ⟨hx, hb, hml, hown, hts⟩ hN hK (c_Store_comes l G H.size a_s a_t a_ao a_bo a_uo a_go a_c a_mv a_fr a_br a_e0 a_e1 a_e2 a_e3 a_lo a_ho a_uq c_sort c_set c_c c_cl c_mv c_ml c_en c_rt c_fr c_br c_fi c_st c_vz c_ub c_un c_ut z11 r12 hr12) ⟨rfl, rfl⟩ kv_Store_111 ⟨Nat.le_of_ble_eq_true rfl, Nat.le_of_ble_eq_true rfl⟩ 0 rfl rfl rfl hl.1 (Nat.le_of_ble_eq_true rfl) d_Store_move_44 ⟨by show _ ≤ rc; omega, by show _ ≤ 1024 * rc; omega⟩) hP hD hS hA [0, 1, 2, 3, 4, 5, 6, 7, 8, 9, 10, 11] [] [0, 1, 2, 3, 4, 5, 6, 7, 8, 9, 10, 11] rfl rfl rfl rfl (by decide) rfl (fun _ => rfl) (fun rr _ H locs hw hP hD hS => ?_)
    obtain ⟨hw, hz13⟩ := hw
    have hw := hw.symm
    subst hw
    have ey := Option.some.inj h
    rw [← ey] at hRa hRc
    have hRa : r0 = (r12.1, r12.2.1, r12.2.2.1, r12.2.2.2.1, r12.2.2.2.2) := hRa
    have hRc : rc = 0 + dr1 + 0 := hRc
    subst hRa
    exact zretz (a_c, a_mv) hQ hS.2.2 hx hb hr hlocks hP hD hS ⟨rfl, hz13⟩ (by omega) (by omega) d_Store_move_47 hz13
  have h := hy9
  refine lv_if_eq (tgt := 41) hx hb d_Store_move_14 (by decide) (fun q6 => ?_) (fun q6 => ?_)
  · have h := it h q6
    refine lv_iload_n hx hb d_Store_move_41 rfl (lv_at hl 0 rfl) ?_
    refine lv_iconst (v := 1) hx hb d_Store_move_42 (by decide) ?_
    refine lv_isub hx hb d_Store_move_43 ?_
    exact J44 (r4 - 1) (Option.some.inj h) H locs ls hP hD hS (lv_sub hl [] rfl)
  · have h := ie h q6
    refine lv_aload_n hx hb d_Store_move_17 rfl (lv_at hl 1 rfl) ?_
    refine va_get (D := G.1) (ci := 5) (v := .ref a_t) (C := "BranchStore") (T := F_Store) (N := 7) hx hb hts i_Store hown hK hP 0 rfl rfl 1 (by decide) (hts _ k_173) (fun _ h9 => h9) rfl d_Store_move_18 ?_
    refine lv_aload_n hx hb d_Store_move_21 rfl (lv_at hl 1 rfl) ?_
    refine va_get (D := G.1) (ci := 5) (v := .ref a_uo) (C := "BranchStore") (T := F_Store) (N := 7) hx hb hts i_Store hown hK hP 0 rfl rfl 4 (by decide) (hts _ k_176) (fun _ h9 => h9) rfl d_Store_move_22 ?_
    obtain ⟨r7, hr7, h⟩ := ob h
    refine zpcalli (wr := [(a_s, .inr (5, [.int c_sort, .ref a_t, .ref a_ao, .ref a_bo, .ref a_uo, .int c_set, .ref a_go]))]) (w2 := fun _ => (wB G a_s a_t a_ao a_bo a_uo a_go c_sort c_set ++ wT G a_t a_c a_mv a_fr a_br a_e0 a_e1 a_e2 a_e3 a_lo a_ho c_c c_cl c_mv c_ml c_en c_rt c_fr c_br c_fi c_st c_vz ++ wK G a_uo a_uq c_ub c_un c_ut)) (zrunV (As := [.ref a_uo]) (rest := [.ref a_s]) ⟨hx, hb, hml, hown, hts⟩ hN hK (c_Tree_find l G H.size a_t a_c a_mv a_fr a_br a_e0 a_e1 a_e2 a_e3 a_lo a_ho a_uo a_uq c_c c_cl c_mv c_ml c_en c_rt c_fr c_br c_fi c_st c_vz c_ub c_un c_ut r7 hr7) ⟨rfl, rfl⟩ kv_Store_7 ⟨Nat.le_of_ble_eq_true rfl, Nat.le_of_ble_eq_true rfl⟩ 0 rfl rfl rfl hl.1 (Nat.le_of_ble_eq_true rfl) d_Store_move_25 ⟨by show _ ≤ rc; omega, by show _ ≤ 1024 * rc; omega⟩) hP hD hS hA [1, 2, 3, 4, 5, 6, 7, 8, 9, 10, 11] [0] [0, 1, 2, 3, 4, 5, 6, 7, 8, 9, 10, 11] rfl rfl rfl rfl (by decide) rfl (fun _ => rfl) (fun rr _ H hw hP hD hS => ?_)
    have hw := hw.symm
    subst hw
    refine lv_if_eq (tgt := 37) hx hb d_Store_move_28 (by decide) (fun q8 => ?_) (fun q8 => ?_)
    · have h := it h q8
      refine lv_iload_n hx hb d_Store_move_37 rfl (lv_at hl 0 rfl) ?_
      refine lv_goto (tgt := 44) hx hb d_Store_move_38 (by decide) ?_
      exact J44 r4 (Option.some.inj h) H locs ls hP hD hS (lv_sub hl [] rfl)
    · have h := ie h q8
      refine lv_iload_n hx hb d_Store_move_31 rfl (lv_at hl 0 rfl) ?_
      refine lv_iconst (v := 1) hx hb d_Store_move_32 (by decide) ?_
      refine lv_iadd hx hb d_Store_move_33 ?_
      refine lv_goto (tgt := 44) hx hb d_Store_move_34 (by decide) ?_
      exact J44 (r4 + 1) (Option.some.inj h) H locs ls hP hD hS (lv_sub hl [] rfl)

set_option maxHeartbeats 8000000 in
set_option maxRecDepth 100000 in
theorem c_Store_move_x (l : Launch) (G : zG) (hfl : l.flags = flags0) (sz : Nat) (a_s a_t a_ao a_bo a_uo a_go a_c a_mv a_fr a_br a_e0 a_e1 a_e2 a_e3 a_lo a_ho a_uq : Nat) (c_sort : Int32) (c_set : Int32) (c_c : (Nat → Int32)) (c_cl : Nat) (c_mv : (Nat → Int32)) (c_ml : Nat) (c_en : Int32) (c_rt : Int32) (c_fr : (Nat → Int32)) (c_br : (Nat → Int32)) (c_fi : Int64) (c_st : Int64) (c_vz : Int64) (c_ub : (Nat → Int32)) (c_un : Int32) (c_ut : Int32) (p_1 : Int32) (b_1 : narrow .boolean (.int p_1) = .int p_1) (k0 : Nat) (rc : Nat) (hf : f_Store_move c_set c_c c_cl c_rt c_ub c_un c_ut p_1 = some (.inl k0, rc)) :
    MetX l y_Store_move (Cond.code y_Store_move prog_1_method_16_code 3 (some .boolean) :: lw_ok) { frames := 7, cells := rc, slots := 1024 * rc, locals := 165 } (zPcX G sz [.ref a_s, .int p_1] (wB G a_s a_t a_ao a_bo a_uo a_go c_sort c_set ++ wT G a_t a_c a_mv a_fr a_br a_e0 a_e1 a_e2 a_e3 a_lo a_ho c_c c_cl c_mv c_ml c_en c_rt c_fr c_br c_fi c_st c_vz ++ wK G a_uo a_uq c_ub c_un c_ut)) (zQx (zcls k0)) rc (1024 * rc) (fun q => sz ≤ q) := by
  refine zMetX hfl (by decide) (Nat.le_of_ble_eq_true rfl) (fun xp xe xs xm xb xme xc A ls Q H locs C htr hnh hTs hnA hN hK hP hD hS hL hA hl hQ => ?_)
  obtain ⟨hx, hb, hr, hts, hown, hlocks, hml, hin⟩ := C
  have hl : lv_has ls 3 [(0, .ref a_s), (1, .int p_1)] := hl
  have h := hf
  unfold f_Store_move at h
  have hRa : (Sum.inl k0 : Nat ⊕ (Int32 × Int32 × (Nat → Int32) × Int32 × Int32)) = ((Sum.inl k0, rc) : (Nat ⊕ (Int32 × Int32 × (Nat → Int32) × Int32 × Int32)) × Nat).1 := rfl
  have hRc : rc = 0 + ((Sum.inl k0, rc) : (Nat ⊕ (Int32 × Int32 × (Nat → Int32) × Int32 × Int32)) × Nat).2 := (Nat.zero_add _).symm
  refine W.widen (k := 0) (n := 1024 * 0) (Nat.le_refl _) (Nat.le_refl _) ?_
  refine lv_aload_n hx hb d_Store_move_0 rfl (lv_at hl 0 rfl) ?_
  refine va_get (D := G.1) (ci := 5) (v := .ref a_t) (C := "BranchStore") (T := F_Store) (N := 7) hx hb hts i_Store hown hK hP 0 rfl rfl 1 (by decide) (hts _ k_173) (fun _ h9 => h9) rfl d_Store_move_1 ?_
  refine lv_aload_n hx hb d_Store_move_4 rfl (lv_at hl 0 rfl) ?_
  rcases bx_x h hRa hRc with ⟨dr1, hr1, hRc⟩ | ⟨r1, dr1, y2, hr1, h, hRa, hRc⟩
  · exact zprop (As := []) hQ (by omega) (by omega) hlocks hnh hS hL (zrunX (As := []) (rest := [.ref a_t]) ⟨hx, hb, hml, hown, hts⟩ hN hTs hnA hS hK (c_Store_known_x l G hfl H.size a_s a_t a_ao a_bo a_uo a_go c_sort c_set k0 dr1 hr1) ⟨rfl, rfl⟩ kv_Store_115 ⟨Nat.le_of_ble_eq_true rfl, Nat.le_of_ble_eq_true rfl⟩ 0 rfl rfl rfl hl.1 (Nat.le_of_ble_eq_true rfl) d_Store_move_5 ⟨by show _ ≤ rc; omega, by show _ ≤ 1024 * rc; omega⟩ (hP.sub [0] rfl) (hD.sub [0] (by decide) rfl))
  refine zpcallr (wr := [(a_t, .inr (4, [.ref a_c, .ref a_mv, .int c_en, .int c_rt, .ref a_fr, .ref a_e0, .ref a_e1, .ref a_e2, .ref a_e3, .ref a_br, .ref a_lo, .ref a_ho, .long c_fi, .long c_st, .long c_vz])), (a_c, .inl (G.2.1, c_cl, .inl c_c)), (a_mv, .inl (G.2.1, c_ml, .inl c_mv)), (a_fr, .inl (G.2.1, 261, .inl c_fr)), (a_br, .inl (G.2.1, 4, .inl c_br)), (a_e0, .inr (1, [.int 0, .int 9, .int 4, .int 5])), (a_e1, .inr (1, [.int 1, .int 24, .int 16, .int 8])), (a_e2, .inr (2, [.int 2, .int 116, .int 48])), (a_e3, .inr (3, [.int 3, .int 260, .int 256])), (a_uo, .inr (0, [.ref a_uq, .int c_un, .int c_ut])), (a_uq, .inl (G.2.2.1, 50, .inl c_ub))]) (w2 := fun _ => (wB G a_s a_t a_ao a_bo a_uo a_go c_sort c_set ++ wT G a_t a_c a_mv a_fr a_br a_e0 a_e1 a_e2 a_e3 a_lo a_ho c_c c_cl c_mv c_ml c_en c_rt c_fr c_br c_fi c_st c_vz ++ wK G a_uo a_uq c_ub c_un c_ut)) (zrunV (As := []) (rest := [.ref a_t]) ⟨hx, hb, hml, hown, hts⟩ hN hK (c_Store_known l G H.size a_s a_t a_ao a_bo a_uo a_go c_sort c_set r1 dr1 hr1) ⟨rfl, rfl⟩ kv_Store_115 ⟨Nat.le_of_ble_eq_true rfl, Nat.le_of_ble_eq_true rfl⟩ 0 rfl rfl rfl hl.1 (Nat.le_of_ble_eq_true rfl) d_Store_move_5 ⟨by show _ ≤ rc; omega, by show _ ≤ 1024 * rc; omega⟩) hP hD hS hA [0] [1, 2, 3, 4, 5, 6, 7, 8, 9, 10, 11] [11, 0, 1, 2, 3, 4, 5, 6, 7, 8, 9, 10] rfl rfl rfl rfl (by decide) rfl (fun _ => rfl) (fun _ ra H hw hP hD hS => ?_)
  refine W.widen (k := 0 + dr1) (n := 1024 * (0 + dr1)) (by omega) (by omega) ?_
  have hw := hw.symm
  subst hw
  exact absurd h (fun h => nx_x h hRa)

noncomputable def f_Store_there (c_set : Int32) (c_c : (Nat → Int32)) (c_cl : Nat) (c_rt : Int32) (c_ub : (Nat → Int32)) (c_un : Int32)  : Option Int32 :=
if c_set = 0 then
(some 0)
else
((f_Tree_find c_c c_cl c_rt c_ub c_un).bind fun r2 =>
if r2 = 0 then
(some 0)
else
(some 1))
set_option maxHeartbeats 8000000 in
set_option maxRecDepth 100000 in
theorem c_Store_there (l : Launch) (G : zG) (sz : Nat) (a_s a_t a_ao a_bo a_uo a_go a_c a_mv a_fr a_br a_e0 a_e1 a_e2 a_e3 a_lo a_ho a_uq : Nat) (c_sort : Int32) (c_set : Int32) (c_c : (Nat → Int32)) (c_cl : Nat) (c_mv : (Nat → Int32)) (c_ml : Nat) (c_en : Int32) (c_rt : Int32) (c_fr : (Nat → Int32)) (c_br : (Nat → Int32)) (c_fi : Int64) (c_st : Int64) (c_vz : Int64) (c_ub : (Nat → Int32)) (c_un : Int32) (c_ut : Int32) (r0 : Int32) (hf : f_Store_there c_set c_c c_cl c_rt c_ub c_un = some r0) :
    Met l y_Store_there (Cond.code y_Store_there prog_1_method_17_code 1 (some .boolean) :: lw_ok) { frames := 5, cells := 0, slots := 0, locals := 116 } (zPc G sz [.ref a_s] (wB G a_s a_t a_ao a_bo a_uo a_go c_sort c_set ++ wT G a_t a_c a_mv a_fr a_br a_e0 a_e1 a_e2 a_e3 a_lo a_ho c_c c_cl c_mv c_ml c_en c_rt c_fr c_br c_fi c_st c_vz ++ wK G a_uo a_uq c_ub c_un c_ut))
      ((fun (A : Nat → Prop) => va_Qi (fun (r : Int32) (_ : Unit) => r = r0 ∧ narrow .boolean (.int r) = .int r) (fun _ t => zB G A (wB G a_s a_t a_ao a_bo a_uo a_go c_sort c_set ++ wT G a_t a_c a_mv a_fr a_br a_e0 a_e1 a_e2 a_e3 a_lo a_ho c_c c_cl c_mv c_ml c_en c_rt c_fr c_br c_fi c_st c_vz ++ wK G a_uo a_uq c_ub c_un c_ut) t) A) (va_A (wB G a_s a_t a_ao a_bo a_uo a_go c_sort c_set ++ wT G a_t a_c a_mv a_fr a_br a_e0 a_e1 a_e2 a_e3 a_lo a_ho c_c c_cl c_mv c_ml c_en c_rt c_fr c_br c_fi c_st c_vz ++ wK G a_uo a_uq c_ub c_un c_ut) sz)) 0 0 (fun q => sz ≤ q) := by
  refine zMetR (Qc := fun (A : Nat → Prop) => va_Qi (fun (r : Int32) (_ : Unit) => r = r0 ∧ narrow .boolean (.int r) = .int r) (fun _ t => zB G A (wB G a_s a_t a_ao a_bo a_uo a_go c_sort c_set ++ wT G a_t a_c a_mv a_fr a_br a_e0 a_e1 a_e2 a_e3 a_lo a_ho c_c c_cl c_mv c_ml c_en c_rt c_fr c_br c_fi c_st c_vz ++ wK G a_uo a_uq c_ub c_un c_ut) t) A) (by decide) (Nat.le_of_ble_eq_true rfl) (fun xp xe xs xm xb xme xc A ls Q H locs C hN hK hP hD hS hL hA hl hQ => ?_)
  obtain ⟨hx, hb, hr, hts, hown, hlocks, hml, hin⟩ := C
  have hl : lv_has ls 1 [(0, .ref a_s)] := hl
  have h := hf
  unfold f_Store_there at h
  refine lv_aload_n hx hb d_Store_there_0 rfl (lv_at hl 0 rfl) ?_
  refine va_get (D := G.1) (ci := 5) (v := .int c_set) (C := "BranchStore") (T := F_Store) (N := 7) hx hb hts i_Store hown hK hP 0 rfl rfl 5 (by decide) (hts _ k_177) (fun _ h9 => h9) rfl d_Store_there_1 ?_
  refine lv_if_eq (tgt := 25) hx hb d_Store_there_4 (by decide) (fun q1 => ?_) (fun q1 => ?_)
  · have h := it h q1
    refine lv_iconst (v := 0) hx hb d_Store_there_25 (by decide) ?_
    obtain rfl := Option.some.inj h
    exact zretz () hQ hL hx hb hr hlocks hP hD hS ⟨rfl, rfl⟩ (Nat.le_refl _) (Nat.le_refl _) d_Store_there_26 rfl
  · have h := ie h q1
    refine lv_aload_n hx hb d_Store_there_7 rfl (lv_at hl 0 rfl) ?_
    refine va_get (D := G.1) (ci := 5) (v := .ref a_t) (C := "BranchStore") (T := F_Store) (N := 7) hx hb hts i_Store hown hK hP 0 rfl rfl 1 (by decide) (hts _ k_173) (fun _ h9 => h9) rfl d_Store_there_8 ?_
    refine lv_aload_n hx hb d_Store_there_11 rfl (lv_at hl 0 rfl) ?_
    refine va_get (D := G.1) (ci := 5) (v := .ref a_uo) (C := "BranchStore") (T := F_Store) (N := 7) hx hb hts i_Store hown hK hP 0 rfl rfl 4 (by decide) (hts _ k_176) (fun _ h9 => h9) rfl d_Store_there_12 ?_
    obtain ⟨r2, hr2, h⟩ := ob h
    refine zpcalli (wr := [(a_s, .inr (5, [.int c_sort, .ref a_t, .ref a_ao, .ref a_bo, .ref a_uo, .int c_set, .ref a_go]))]) (w2 := fun _ => (wB G a_s a_t a_ao a_bo a_uo a_go c_sort c_set ++ wT G a_t a_c a_mv a_fr a_br a_e0 a_e1 a_e2 a_e3 a_lo a_ho c_c c_cl c_mv c_ml c_en c_rt c_fr c_br c_fi c_st c_vz ++ wK G a_uo a_uq c_ub c_un c_ut)) (zrunV (As := [.ref a_uo]) (rest := []) ⟨hx, hb, hml, hown, hts⟩ hN hK (c_Tree_find l G H.size a_t a_c a_mv a_fr a_br a_e0 a_e1 a_e2 a_e3 a_lo a_ho a_uo a_uq c_c c_cl c_mv c_ml c_en c_rt c_fr c_br c_fi c_st c_vz c_ub c_un c_ut r2 hr2) ⟨rfl, rfl⟩ kv_Store_7 ⟨Nat.le_of_ble_eq_true rfl, Nat.le_of_ble_eq_true rfl⟩ 0 rfl rfl rfl hl.1 (Nat.le_of_ble_eq_true rfl) d_Store_there_15 ⟨Nat.le_of_ble_eq_true rfl, Nat.le_of_ble_eq_true rfl⟩) hP hD hS hA [1, 2, 3, 4, 5, 6, 7, 8, 9, 10, 11] [0] [0, 1, 2, 3, 4, 5, 6, 7, 8, 9, 10, 11] rfl rfl rfl rfl (by decide) rfl (fun _ => rfl) (fun rr _ H hw hP hD hS => ?_)
    have hw := hw.symm
    subst hw
    refine lv_if_eq (tgt := 25) hx hb d_Store_there_18 (by decide) (fun q3 => ?_) (fun q3 => ?_)
    · have h := it h q3
      refine lv_iconst (v := 0) hx hb d_Store_there_25 (by decide) ?_
      obtain rfl := Option.some.inj h
      exact zretz () hQ hL hx hb hr hlocks hP hD hS ⟨rfl, rfl⟩ (Nat.le_refl _) (Nat.le_refl _) d_Store_there_26 rfl
    · have h := ie h q3
      refine lv_iconst (v := 1) hx hb d_Store_there_21 (by decide) ?_
      refine lv_goto (tgt := 26) hx hb d_Store_there_22 (by decide) ?_
      obtain rfl := Option.some.inj h
      exact zretz () hQ hL hx hb hr hlocks hP hD hS ⟨rfl, rfl⟩ (Nat.le_refl _) (Nat.le_refl _) d_Store_there_26 rfl

noncomputable def f_Store_length (c_sort : Int32) (c_set : Int32) (c_ut : Int32)  : Option ((Nat ⊕ Int32) × Nat) :=
bx (f_Store_known c_set) fun r1 =>
nx <|
if 2 ≤ c_sort then
(some (c_ut, 0))
else
(some ((c_sort + 1), 0))
set_option maxHeartbeats 8000000 in
set_option maxRecDepth 100000 in
theorem c_Store_length (l : Launch) (G : zG) (sz : Nat) (a_s a_t a_ao a_bo a_uo a_go a_uq : Nat) (c_sort : Int32) (c_set : Int32) (c_ub : (Nat → Int32)) (c_un : Int32) (c_ut : Int32) (r0 : Int32) (rc : Nat) (hf : f_Store_length c_sort c_set c_ut = some (.inr r0, rc)) :
    Met l y_Store_length (Cond.code y_Store_length prog_1_method_18_code 2 (some .int) :: lw_ok) { frames := 7, cells := rc, slots := 1024 * rc, locals := 110 } (zPc G sz [.ref a_s] (wB G a_s a_t a_ao a_bo a_uo a_go c_sort c_set ++ wK G a_uo a_uq c_ub c_un c_ut))
      ((fun (A : Nat → Prop) => va_Qi (fun (r : Int32) (_ : Unit) => r = r0) (fun _ t => zB G A (wB G a_s a_t a_ao a_bo a_uo a_go c_sort c_set ++ wK G a_uo a_uq c_ub c_un c_ut) t) A) (va_A (wB G a_s a_t a_ao a_bo a_uo a_go c_sort c_set ++ wK G a_uo a_uq c_ub c_un c_ut) sz)) rc (1024 * rc) (va_A (wB G a_s a_t a_ao a_bo a_uo a_go c_sort c_set ++ wK G a_uo a_uq c_ub c_un c_ut) sz) := by
  refine zMet (Qc := fun (A : Nat → Prop) => va_Qi (fun (r : Int32) (_ : Unit) => r = r0) (fun _ t => zB G A (wB G a_s a_t a_ao a_bo a_uo a_go c_sort c_set ++ wK G a_uo a_uq c_ub c_un c_ut) t) A) (by decide) (Nat.le_of_ble_eq_true rfl) (fun xp xe xs xm xb xme xc A ls Q H locs C hN hK hP hD hS hA hl hQ => ?_)
  obtain ⟨hx, hb, hr, hts, hown, hlocks, hml, hin⟩ := C
  have hl : lv_has ls 2 [(0, .ref a_s)] := hl
  have h := hf
  unfold f_Store_length at h
  have hRa : (Sum.inr r0 : Nat ⊕ Int32) = ((Sum.inr r0, rc) : (Nat ⊕ Int32) × Nat).1 := rfl
  have hRc : rc = 0 + ((Sum.inr r0, rc) : (Nat ⊕ Int32) × Nat).2 := (Nat.zero_add _).symm
  refine W.widen (k := 0) (n := 1024 * 0) (Nat.le_refl _) (Nat.le_refl _) ?_
  refine lv_aload_n hx hb d_Store_length_0 rfl (lv_at hl 0 rfl) ?_
  obtain ⟨r1, dr1, y2, hr1, h, hRa, hRc⟩ := bx_n h hRa hRc
  refine zpcallr (wr := [(a_uo, .inr (0, [.ref a_uq, .int c_un, .int c_ut])), (a_uq, .inl (G.2.2.1, 50, .inl c_ub))]) (w2 := fun _ => (wB G a_s a_t a_ao a_bo a_uo a_go c_sort c_set ++ wK G a_uo a_uq c_ub c_un c_ut)) (zrunV (As := []) (rest := []) ⟨hx, hb, hml, hown, hts⟩ hN hK (c_Store_known l G H.size a_s a_t a_ao a_bo a_uo a_go c_sort c_set r1 dr1 hr1) ⟨rfl, rfl⟩ kv_Store_115 ⟨Nat.le_of_ble_eq_true rfl, Nat.le_of_ble_eq_true rfl⟩ 0 rfl rfl rfl hl.1 (Nat.le_of_ble_eq_true rfl) d_Store_length_1 ⟨by show _ ≤ rc; omega, by show _ ≤ 1024 * rc; omega⟩) hP hD hS hA [0] [1, 2] [2, 0, 1] rfl rfl rfl rfl (by decide) rfl (fun _ => rfl) (fun _ ra H hw hP hD hS => ?_)
  refine W.widen (k := 0 + dr1) (n := 1024 * (0 + dr1)) (by omega) (by omega) ?_
  have hw := hw.symm
  subst hw
  obtain ⟨y3, h, hRa, hRc⟩ := nx_n h hRa hRc
  refine lv_astore_n (lv' := [(1, .ref a_uo), (0, .ref a_s)]) hx hb d_Store_length_4 rfl hl (by decide) rfl (fun ls hl => ?_)
  refine lv_aload_n hx hb d_Store_length_5 rfl (lv_at hl 1 rfl) ?_
  refine va_get (D := G.1) (ci := 5) (v := .int c_sort) (C := "BranchStore") (T := F_Store) (N := 7) hx hb hts i_Store hown hK hP 0 rfl rfl 0 (by decide) (hts _ k_172) (fun _ h9 => h9) rfl d_Store_length_6 ?_
  refine lv_iconst (v := 2) hx hb d_Store_length_9 (by decide) ?_
  refine lv_icmp_ge (tgt := 22) hx hb d_Store_length_10 (by decide) (fun q4 => ?_) (fun q4 => ?_)
  · have h := it h q4
    refine lv_aload_n hx hb d_Store_length_22 rfl (lv_at hl 0 rfl) ?_
    refine va_get (D := G.1) (ci := 0) (v := .int c_ut) (C := "BranchStore$Key") (T := F_Key) (N := 3) hx hb hts i_Key hown hK hP 1 rfl rfl 2 (by decide) (hts _ k_113) (fun _ h9 => h9) rfl d_Store_length_23 ?_
    have ey := Option.some.inj h
    rw [← ey] at hRa hRc
    have hRa : r0 = c_ut := hRa
    have hRc : rc = 0 + dr1 + 0 := hRc
    subst hRa
    exact zreti () hQ hS.2.2 hx hb hr hlocks hP hD hS rfl (by omega) (by omega) d_Store_length_26
  · have h := ie h q4
    refine lv_aload_n hx hb d_Store_length_13 rfl (lv_at hl 1 rfl) ?_
    refine va_get (D := G.1) (ci := 5) (v := .int c_sort) (C := "BranchStore") (T := F_Store) (N := 7) hx hb hts i_Store hown hK hP 0 rfl rfl 0 (by decide) (hts _ k_172) (fun _ h9 => h9) rfl d_Store_length_14 ?_
    refine lv_iconst (v := 1) hx hb d_Store_length_17 (by decide) ?_
    refine lv_iadd hx hb d_Store_length_18 ?_
    refine lv_goto (tgt := 26) hx hb d_Store_length_19 (by decide) ?_
    have ey := Option.some.inj h
    rw [← ey] at hRa hRc
    have hRa : r0 = (c_sort + 1) := hRa
    have hRc : rc = 0 + dr1 + 0 := hRc
    subst hRa
    exact zreti () hQ hS.2.2 hx hb hr hlocks hP hD hS rfl (by omega) (by omega) d_Store_length_26

set_option maxHeartbeats 8000000 in
set_option maxRecDepth 100000 in
theorem c_Store_length_x (l : Launch) (G : zG) (hfl : l.flags = flags0) (sz : Nat) (a_s a_t a_ao a_bo a_uo a_go a_uq : Nat) (c_sort : Int32) (c_set : Int32) (c_ub : (Nat → Int32)) (c_un : Int32) (c_ut : Int32) (k0 : Nat) (rc : Nat) (hf : f_Store_length c_sort c_set c_ut = some (.inl k0, rc)) :
    MetX l y_Store_length (Cond.code y_Store_length prog_1_method_18_code 2 (some .int) :: lw_ok) { frames := 7, cells := rc, slots := 1024 * rc, locals := 110 } (zPcX G sz [.ref a_s] (wB G a_s a_t a_ao a_bo a_uo a_go c_sort c_set ++ wK G a_uo a_uq c_ub c_un c_ut)) (zQx (zcls k0)) rc (1024 * rc) (fun q => sz ≤ q) := by
  refine zMetX hfl (by decide) (Nat.le_of_ble_eq_true rfl) (fun xp xe xs xm xb xme xc A ls Q H locs C htr hnh hTs hnA hN hK hP hD hS hL hA hl hQ => ?_)
  obtain ⟨hx, hb, hr, hts, hown, hlocks, hml, hin⟩ := C
  have hl : lv_has ls 2 [(0, .ref a_s)] := hl
  have h := hf
  unfold f_Store_length at h
  have hRa : (Sum.inl k0 : Nat ⊕ Int32) = ((Sum.inl k0, rc) : (Nat ⊕ Int32) × Nat).1 := rfl
  have hRc : rc = 0 + ((Sum.inl k0, rc) : (Nat ⊕ Int32) × Nat).2 := (Nat.zero_add _).symm
  refine W.widen (k := 0) (n := 1024 * 0) (Nat.le_refl _) (Nat.le_refl _) ?_
  refine lv_aload_n hx hb d_Store_length_0 rfl (lv_at hl 0 rfl) ?_
  rcases bx_x h hRa hRc with ⟨dr1, hr1, hRc⟩ | ⟨r1, dr1, y2, hr1, h, hRa, hRc⟩
  · exact zprop (As := []) hQ (by omega) (by omega) hlocks hnh hS hL (zrunX (As := []) (rest := []) ⟨hx, hb, hml, hown, hts⟩ hN hTs hnA hS hK (c_Store_known_x l G hfl H.size a_s a_t a_ao a_bo a_uo a_go c_sort c_set k0 dr1 hr1) ⟨rfl, rfl⟩ kv_Store_115 ⟨Nat.le_of_ble_eq_true rfl, Nat.le_of_ble_eq_true rfl⟩ 0 rfl rfl rfl hl.1 (Nat.le_of_ble_eq_true rfl) d_Store_length_1 ⟨by show _ ≤ rc; omega, by show _ ≤ 1024 * rc; omega⟩ (hP.sub [0] rfl) (hD.sub [0] (by decide) rfl))
  refine zpcallr (wr := [(a_uo, .inr (0, [.ref a_uq, .int c_un, .int c_ut])), (a_uq, .inl (G.2.2.1, 50, .inl c_ub))]) (w2 := fun _ => (wB G a_s a_t a_ao a_bo a_uo a_go c_sort c_set ++ wK G a_uo a_uq c_ub c_un c_ut)) (zrunV (As := []) (rest := []) ⟨hx, hb, hml, hown, hts⟩ hN hK (c_Store_known l G H.size a_s a_t a_ao a_bo a_uo a_go c_sort c_set r1 dr1 hr1) ⟨rfl, rfl⟩ kv_Store_115 ⟨Nat.le_of_ble_eq_true rfl, Nat.le_of_ble_eq_true rfl⟩ 0 rfl rfl rfl hl.1 (Nat.le_of_ble_eq_true rfl) d_Store_length_1 ⟨by show _ ≤ rc; omega, by show _ ≤ 1024 * rc; omega⟩) hP hD hS hA [0] [1, 2] [2, 0, 1] rfl rfl rfl rfl (by decide) rfl (fun _ => rfl) (fun _ ra H hw hP hD hS => ?_)
  refine W.widen (k := 0 + dr1) (n := 1024 * (0 + dr1)) (by omega) (by omega) ?_
  have hw := hw.symm
  subst hw
  exact absurd h (fun h => nx_x h hRa)

theorem kv_Store_122 : zKV "BranchStore" 122 y_Key_part prog_4_method_10_code 5 (some .long) 1 := ⟨k_668, k_669, k_670, k_7, k_671, by decide +kernel⟩
theorem kv_Store_125 : zKV "BranchStore" 125 y_Key_byteOf prog_4_method_11_code 4 (some .int) 1 := ⟨k_672, k_673, k_674, k_7, k_675, by decide +kernel⟩
noncomputable def f_Store_part (c_sort : Int32) (c_set : Int32) (c_ub : (Nat → Int32)) (c_ut : Int32) (p_1 : Int32) : Option ((Nat ⊕ Int64) × Nat) :=
bx (f_Store_known c_set) fun r1 =>
if p_1 < 0 then
(some (.inl 4, 1))
else
((if 2 ≤ c_sort then
(some c_ut)
else
(some (c_sort + 1))).bind fun y7 =>
if p_1 < y7 then
(nx <|
if 2 ≤ c_sort then
((f_Key_byteOf c_ub p_1).bind fun r12 =>
some (r12.toInt64, 0))
else
((f_Key_part c_ub p_1).bind fun r13 =>
some (r13, 0)))
else
(some (.inl 4, 1)))
set_option maxHeartbeats 8000000 in
set_option maxRecDepth 100000 in
theorem c_Store_part (l : Launch) (G : zG) (sz : Nat) (a_s a_t a_ao a_bo a_uo a_go a_uq : Nat) (c_sort : Int32) (c_set : Int32) (c_ub : (Nat → Int32)) (c_un : Int32) (c_ut : Int32) (p_1 : Int32) (r0 : Int64) (rc : Nat) (hf : f_Store_part c_sort c_set c_ub c_ut p_1 = some (.inr r0, rc)) :
    Met l y_Store_part (Cond.code y_Store_part prog_1_method_19_code 3 (some .long) :: lw_ok) { frames := 7, cells := rc, slots := 1024 * rc, locals := 110 } (zPc G sz [.ref a_s, .int p_1] (wB G a_s a_t a_ao a_bo a_uo a_go c_sort c_set ++ wK G a_uo a_uq c_ub c_un c_ut))
      ((fun (A : Nat → Prop) => va_Ql (fun (r : Int64) (_ : Unit) => r = r0) (fun _ t => zB G A (wB G a_s a_t a_ao a_bo a_uo a_go c_sort c_set ++ wK G a_uo a_uq c_ub c_un c_ut) t) A) (va_A (wB G a_s a_t a_ao a_bo a_uo a_go c_sort c_set ++ wK G a_uo a_uq c_ub c_un c_ut) sz)) rc (1024 * rc) (va_A (wB G a_s a_t a_ao a_bo a_uo a_go c_sort c_set ++ wK G a_uo a_uq c_ub c_un c_ut) sz) := by
  refine zMet (Qc := fun (A : Nat → Prop) => va_Ql (fun (r : Int64) (_ : Unit) => r = r0) (fun _ t => zB G A (wB G a_s a_t a_ao a_bo a_uo a_go c_sort c_set ++ wK G a_uo a_uq c_ub c_un c_ut) t) A) (by decide) (Nat.le_of_ble_eq_true rfl) (fun xp xe xs xm xb xme xc A ls Q H locs C hN hK hP hD hS hA hl hQ => ?_)
  obtain ⟨hx, hb, hr, hts, hown, hlocks, hml, hin⟩ := C
  have hl : lv_has ls 3 [(0, .ref a_s), (1, .int p_1)] := hl
  have h := hf
  unfold f_Store_part at h
  have hRa : (Sum.inr r0 : Nat ⊕ Int64) = ((Sum.inr r0, rc) : (Nat ⊕ Int64) × Nat).1 := rfl
  have hRc : rc = 0 + ((Sum.inr r0, rc) : (Nat ⊕ Int64) × Nat).2 := (Nat.zero_add _).symm
  refine W.widen (k := 0) (n := 1024 * 0) (Nat.le_refl _) (Nat.le_refl _) ?_
  refine lv_aload_n hx hb d_Store_part_0 rfl (lv_at hl 0 rfl) ?_
  obtain ⟨r1, dr1, y2, hr1, h, hRa, hRc⟩ := bx_n h hRa hRc
  refine zpcallr (wr := [(a_uo, .inr (0, [.ref a_uq, .int c_un, .int c_ut])), (a_uq, .inl (G.2.2.1, 50, .inl c_ub))]) (w2 := fun _ => (wB G a_s a_t a_ao a_bo a_uo a_go c_sort c_set ++ wK G a_uo a_uq c_ub c_un c_ut)) (zrunV (As := []) (rest := []) ⟨hx, hb, hml, hown, hts⟩ hN hK (c_Store_known l G H.size a_s a_t a_ao a_bo a_uo a_go c_sort c_set r1 dr1 hr1) ⟨rfl, rfl⟩ kv_Store_115 ⟨Nat.le_of_ble_eq_true rfl, Nat.le_of_ble_eq_true rfl⟩ 0 rfl rfl rfl hl.1 (Nat.le_of_ble_eq_true rfl) d_Store_part_1 ⟨by show _ ≤ rc; omega, by show _ ≤ 1024 * rc; omega⟩) hP hD hS hA [0] [1, 2] [2, 0, 1] rfl rfl rfl rfl (by decide) rfl (fun _ => rfl) (fun _ ra H hw hP hD hS => ?_)
  refine W.widen (k := 0 + dr1) (n := 1024 * (0 + dr1)) (by omega) (by omega) ?_
  have hw := hw.symm
  subst hw
  refine lv_astore_n (lv' := [(2, .ref a_uo), (0, .ref a_s), (1, .int p_1)]) hx hb d_Store_part_4 rfl hl (by decide) rfl (fun ls hl => ?_)
  refine lv_iload_n hx hb d_Store_part_5 rfl (lv_at hl 2 rfl) ?_
  refine lv_if_lt (tgt := 34) hx hb d_Store_part_6 (by decide) (fun q3 => ?_) (fun q3 => ?_)
  · have h := it h q3
    have ey := Option.some.inj h
    rw [← ey] at hRa
    cases hRa
  · have h := ie h q3
    refine lv_iload_n hx hb d_Store_part_9 rfl (lv_at hl 2 rfl) ?_
    refine lv_aload_n hx hb d_Store_part_10 rfl (lv_at hl 1 rfl) ?_
    refine va_get (D := G.1) (ci := 5) (v := .int c_sort) (C := "BranchStore") (T := F_Store) (N := 7) hx hb hts i_Store hown hK hP 0 rfl rfl 0 (by decide) (hts _ k_172) (fun _ h9 => h9) rfl d_Store_part_11 ?_
    refine lv_iconst (v := 2) hx hb d_Store_part_14 (by decide) ?_
    obtain ⟨y6, hy6, h⟩ := ob h
    have J31 : ∀ (z8 : Int32), z8 = y6 → ∀ (H : Heap) (locs : List Loc) (ls : Array Slot), va_P G.1 classes (wB G a_s a_t a_ao a_bo a_uo a_go c_sort c_set ++ wK G a_uo a_uq c_ub c_un c_ut) H → va_D A (wB G a_s a_t a_ao a_bo a_uo a_go c_sort c_set ++ wK G a_uo a_uq c_ub c_un c_ut) → va_S A xs.heap H locs → lv_has ls 3 [(0, .ref a_s), (1, .int p_1), (2, .ref a_uo)] → W xp l xe { frames := 7, cells := rc, slots := 1024 * rc, locals := 110 } xs xm ([.ref a_s, .int p_1] : List Value).toArray xb xme xc H locs (0 + dr1) (1024 * (0 + dr1)) Q (F0 xm 31 ls [.int z8, .int p_1]) := by
      intro z8 ey H locs ls hP hD hS hl
      subst ey
      try dsimp only at h
      refine lv_icmp_lt (tgt := 42) hx hb d_Store_part_31 (by decide) (fun q9 => ?_) (fun q9 => ?_)
      · have h := it h q9
        obtain ⟨y10, h, hRa, hRc⟩ := nx_n h hRa hRc
        refine lv_aload_n hx hb d_Store_part_42 rfl (lv_at hl 0 rfl) ?_
        refine va_get (D := G.1) (ci := 5) (v := .int c_sort) (C := "BranchStore") (T := F_Store) (N := 7) hx hb hts i_Store hown hK hP 0 rfl rfl 0 (by decide) (hts _ k_172) (fun _ h9 => h9) rfl d_Store_part_43 ?_
        refine lv_iconst (v := 2) hx hb d_Store_part_46 (by decide) ?_
        refine lv_icmp_ge (tgt := 58) hx hb d_Store_part_47 (by decide) (fun q11 => ?_) (fun q11 => ?_)
        · have h := it h q11
          refine lv_aload_n hx hb d_Store_part_58 rfl (lv_at hl 2 rfl) ?_
          refine lv_iload_n hx hb d_Store_part_59 rfl (lv_at hl 1 rfl) ?_
          obtain ⟨r12, hr12, h⟩ := ob h
          refine zpcalli (wr := [(a_s, .inr (5, [.int c_sort, .ref a_t, .ref a_ao, .ref a_bo, .ref a_uo, .int c_set, .ref a_go]))]) (w2 := fun _ => (wB G a_s a_t a_ao a_bo a_uo a_go c_sort c_set ++ wK G a_uo a_uq c_ub c_un c_ut)) (zrunV (As := [.int p_1]) (rest := []) ⟨hx, hb, hml, hown, hts⟩ hN hK (c_Key_byteOf l G H.size a_uo a_uq c_ub c_un c_ut p_1 r12 hr12) ⟨rfl, rfl⟩ kv_Store_125 ⟨Nat.le_of_ble_eq_true rfl, Nat.le_of_ble_eq_true rfl⟩ 0 rfl rfl rfl hl.1 (Nat.le_of_ble_eq_true rfl) d_Store_part_60 ⟨by show _ ≤ rc; omega, by show _ ≤ 1024 * rc; omega⟩) hP hD hS hA [1, 2] [0] [0, 1, 2] rfl rfl rfl rfl (by decide) rfl (fun _ => rfl) (fun rr _ H hw hP hD hS => ?_)
          have hw := hw.symm
          subst hw
          refine lv_i2l (v := r12.toInt64) hx hb d_Store_part_63 rfl ?_
          have ey := Option.some.inj h
          rw [← ey] at hRa hRc
          have hRa : r0 = r12.toInt64 := hRa
          have hRc : rc = 0 + dr1 + 0 := hRc
          subst hRa
          exact zretl () hQ hS.2.2 hx hb hr hlocks hP hD hS rfl (by omega) (by omega) d_Store_part_64
        · have h := ie h q11
          refine lv_aload_n hx hb d_Store_part_50 rfl (lv_at hl 2 rfl) ?_
          refine lv_iload_n hx hb d_Store_part_51 rfl (lv_at hl 1 rfl) ?_
          obtain ⟨r13, hr13, h⟩ := ob h
          refine zpcalll (wr := [(a_s, .inr (5, [.int c_sort, .ref a_t, .ref a_ao, .ref a_bo, .ref a_uo, .int c_set, .ref a_go]))]) (w2 := fun _ => (wB G a_s a_t a_ao a_bo a_uo a_go c_sort c_set ++ wK G a_uo a_uq c_ub c_un c_ut)) (zrunV (As := [.int p_1]) (rest := []) ⟨hx, hb, hml, hown, hts⟩ hN hK (c_Key_part l G H.size a_uo a_uq c_ub c_un c_ut p_1 r13 hr13) ⟨rfl, rfl⟩ kv_Store_122 ⟨Nat.le_of_ble_eq_true rfl, Nat.le_of_ble_eq_true rfl⟩ 0 rfl rfl rfl hl.1 (Nat.le_of_ble_eq_true rfl) d_Store_part_52 ⟨by show _ ≤ rc; omega, by show _ ≤ 1024 * rc; omega⟩) hP hD hS hA [1, 2] [0] [0, 1, 2] rfl rfl rfl rfl (by decide) rfl (fun _ => rfl) (fun rr _ H hw hP hD hS => ?_)
          have hw := hw.symm
          subst hw
          refine lv_goto (tgt := 64) hx hb d_Store_part_55 (by decide) ?_
          have ey := Option.some.inj h
          rw [← ey] at hRa hRc
          have hRa : r0 = r13 := hRa
          have hRc : rc = 0 + dr1 + 0 := hRc
          subst hRa
          exact zretl () hQ hS.2.2 hx hb hr hlocks hP hD hS rfl (by omega) (by omega) d_Store_part_64
      · have h := ie h q9
        have ey := Option.some.inj h
        rw [← ey] at hRa
        cases hRa
    have h := hy6
    refine lv_icmp_ge (tgt := 27) hx hb d_Store_part_15 (by decide) (fun q5 => ?_) (fun q5 => ?_)
    · have h := it h q5
      refine lv_aload_n hx hb d_Store_part_27 rfl (lv_at hl 0 rfl) ?_
      refine va_get (D := G.1) (ci := 0) (v := .int c_ut) (C := "BranchStore$Key") (T := F_Key) (N := 3) hx hb hts i_Key hown hK hP 1 rfl rfl 2 (by decide) (hts _ k_113) (fun _ h9 => h9) rfl d_Store_part_28 ?_
      exact J31 c_ut (Option.some.inj h) H locs ls hP hD hS (lv_sub hl [1, 2, 0] rfl)
    · have h := ie h q5
      refine lv_aload_n hx hb d_Store_part_18 rfl (lv_at hl 1 rfl) ?_
      refine va_get (D := G.1) (ci := 5) (v := .int c_sort) (C := "BranchStore") (T := F_Store) (N := 7) hx hb hts i_Store hown hK hP 0 rfl rfl 0 (by decide) (hts _ k_172) (fun _ h9 => h9) rfl d_Store_part_19 ?_
      refine lv_iconst (v := 1) hx hb d_Store_part_22 (by decide) ?_
      refine lv_iadd hx hb d_Store_part_23 ?_
      refine lv_goto (tgt := 31) hx hb d_Store_part_24 (by decide) ?_
      exact J31 (c_sort + 1) (Option.some.inj h) H locs ls hP hD hS (lv_sub hl [1, 2, 0] rfl)

set_option maxHeartbeats 8000000 in
set_option maxRecDepth 100000 in
theorem c_Store_part_x (l : Launch) (G : zG) (hfl : l.flags = flags0) (sz : Nat) (a_s a_t a_ao a_bo a_uo a_go a_uq : Nat) (c_sort : Int32) (c_set : Int32) (c_ub : (Nat → Int32)) (c_un : Int32) (c_ut : Int32) (p_1 : Int32) (k0 : Nat) (rc : Nat) (hf : f_Store_part c_sort c_set c_ub c_ut p_1 = some (.inl k0, rc)) :
    MetX l y_Store_part (Cond.code y_Store_part prog_1_method_19_code 3 (some .long) :: lw_ok) { frames := 7, cells := rc, slots := 1024 * rc, locals := 110 } (zPcX G sz [.ref a_s, .int p_1] (wB G a_s a_t a_ao a_bo a_uo a_go c_sort c_set ++ wK G a_uo a_uq c_ub c_un c_ut)) (zQx (zcls k0)) rc (1024 * rc) (fun q => sz ≤ q) := by
  refine zMetX hfl (by decide) (Nat.le_of_ble_eq_true rfl) (fun xp xe xs xm xb xme xc A ls Q H locs C htr hnh hTs hnA hN hK hP hD hS hL hA hl hQ => ?_)
  obtain ⟨hx, hb, hr, hts, hown, hlocks, hml, hin⟩ := C
  have hl : lv_has ls 3 [(0, .ref a_s), (1, .int p_1)] := hl
  have h := hf
  unfold f_Store_part at h
  have hRa : (Sum.inl k0 : Nat ⊕ Int64) = ((Sum.inl k0, rc) : (Nat ⊕ Int64) × Nat).1 := rfl
  have hRc : rc = 0 + ((Sum.inl k0, rc) : (Nat ⊕ Int64) × Nat).2 := (Nat.zero_add _).symm
  refine W.widen (k := 0) (n := 1024 * 0) (Nat.le_refl _) (Nat.le_refl _) ?_
  refine lv_aload_n hx hb d_Store_part_0 rfl (lv_at hl 0 rfl) ?_
  rcases bx_x h hRa hRc with ⟨dr1, hr1, hRc⟩ | ⟨r1, dr1, y2, hr1, h, hRa, hRc⟩
  · exact zprop (As := []) hQ (by omega) (by omega) hlocks hnh hS hL (zrunX (As := []) (rest := []) ⟨hx, hb, hml, hown, hts⟩ hN hTs hnA hS hK (c_Store_known_x l G hfl H.size a_s a_t a_ao a_bo a_uo a_go c_sort c_set k0 dr1 hr1) ⟨rfl, rfl⟩ kv_Store_115 ⟨Nat.le_of_ble_eq_true rfl, Nat.le_of_ble_eq_true rfl⟩ 0 rfl rfl rfl hl.1 (Nat.le_of_ble_eq_true rfl) d_Store_part_1 ⟨by show _ ≤ rc; omega, by show _ ≤ 1024 * rc; omega⟩ (hP.sub [0] rfl) (hD.sub [0] (by decide) rfl))
  refine zpcallr (wr := [(a_uo, .inr (0, [.ref a_uq, .int c_un, .int c_ut])), (a_uq, .inl (G.2.2.1, 50, .inl c_ub))]) (w2 := fun _ => (wB G a_s a_t a_ao a_bo a_uo a_go c_sort c_set ++ wK G a_uo a_uq c_ub c_un c_ut)) (zrunV (As := []) (rest := []) ⟨hx, hb, hml, hown, hts⟩ hN hK (c_Store_known l G H.size a_s a_t a_ao a_bo a_uo a_go c_sort c_set r1 dr1 hr1) ⟨rfl, rfl⟩ kv_Store_115 ⟨Nat.le_of_ble_eq_true rfl, Nat.le_of_ble_eq_true rfl⟩ 0 rfl rfl rfl hl.1 (Nat.le_of_ble_eq_true rfl) d_Store_part_1 ⟨by show _ ≤ rc; omega, by show _ ≤ 1024 * rc; omega⟩) hP hD hS hA [0] [1, 2] [2, 0, 1] rfl rfl rfl rfl (by decide) rfl (fun _ => rfl) (fun _ ra H hw hP hD hS => ?_)
  refine W.widen (k := 0 + dr1) (n := 1024 * (0 + dr1)) (by omega) (by omega) ?_
  have hw := hw.symm
  subst hw
  refine lv_astore_n (lv' := [(2, .ref a_uo), (0, .ref a_s), (1, .int p_1)]) hx hb d_Store_part_4 rfl hl (by decide) rfl (fun ls hl => ?_)
  refine lv_iload_n hx hb d_Store_part_5 rfl (lv_at hl 2 rfl) ?_
  refine lv_if_lt (tgt := 34) hx hb d_Store_part_6 (by decide) (fun q3 => ?_) (fun q3 => ?_)
  · have h := it h q3
    have ey := Option.some.inj h
    rw [← ey] at hRa hRc
    have hRc : rc = 0 + dr1 + 1 := hRc
    obtain rfl := Sum.inl.inj hRa
    exact zthrow (ia := 119) (ic := 121) hQ hx hb hlocks htr hnh hts hN hTs hown (hml.trans hl.1.symm) hS hL k_653 k_654 k_19 kt_4 (by decide) (by show _ ≤ rc; omega) (by show _ ≤ 1024 * rc; omega) (by omega) (by omega) (Nat.le_of_ble_eq_true rfl) (Nat.le_of_ble_eq_true rfl) d_Store_part_34 d_Store_part_37 d_Store_part_38 d_Store_part_41
  · have h := ie h q3
    refine lv_iload_n hx hb d_Store_part_9 rfl (lv_at hl 2 rfl) ?_
    refine lv_aload_n hx hb d_Store_part_10 rfl (lv_at hl 1 rfl) ?_
    refine va_get (D := G.1) (ci := 5) (v := .int c_sort) (C := "BranchStore") (T := F_Store) (N := 7) hx hb hts i_Store hown hK hP 0 rfl rfl 0 (by decide) (hts _ k_172) (fun _ h9 => h9) rfl d_Store_part_11 ?_
    refine lv_iconst (v := 2) hx hb d_Store_part_14 (by decide) ?_
    obtain ⟨y6, hy6, h⟩ := ob h
    have J31 : ∀ (z8 : Int32), z8 = y6 → ∀ (H : Heap) (locs : List Loc) (ls : Array Slot), va_P G.1 classes (wB G a_s a_t a_ao a_bo a_uo a_go c_sort c_set ++ wK G a_uo a_uq c_ub c_un c_ut) H → va_D A (wB G a_s a_t a_ao a_bo a_uo a_go c_sort c_set ++ wK G a_uo a_uq c_ub c_un c_ut) → va_S A xs.heap H locs → (∀ q ∈ locs, xs.heap.size ≤ q.base) → lv_has ls 3 [(0, .ref a_s), (1, .int p_1), (2, .ref a_uo)] → W xp l xe { frames := 7, cells := rc, slots := 1024 * rc, locals := 110 } xs xm ([.ref a_s, .int p_1] : List Value).toArray xb xme xc H locs (0 + dr1) (1024 * (0 + dr1)) Q (F0 xm 31 ls [.int z8, .int p_1]) := by
      intro z8 ey H locs ls hP hD hS hL hl
      subst ey
      try dsimp only at h
      refine lv_icmp_lt (tgt := 42) hx hb d_Store_part_31 (by decide) (fun q9 => ?_) (fun q9 => ?_)
      · have h := it h q9
        exact absurd h (fun h => nx_x h hRa)
      · have h := ie h q9
        have ey := Option.some.inj h
        rw [← ey] at hRa hRc
        have hRc : rc = 0 + dr1 + 1 := hRc
        obtain rfl := Sum.inl.inj hRa
        exact zthrow (ia := 119) (ic := 121) hQ hx hb hlocks htr hnh hts hN hTs hown (hml.trans hl.1.symm) hS hL k_653 k_654 k_19 kt_4 (by decide) (by show _ ≤ rc; omega) (by show _ ≤ 1024 * rc; omega) (by omega) (by omega) (Nat.le_of_ble_eq_true rfl) (Nat.le_of_ble_eq_true rfl) d_Store_part_34 d_Store_part_37 d_Store_part_38 d_Store_part_41
    have h := hy6
    refine lv_icmp_ge (tgt := 27) hx hb d_Store_part_15 (by decide) (fun q5 => ?_) (fun q5 => ?_)
    · have h := it h q5
      refine lv_aload_n hx hb d_Store_part_27 rfl (lv_at hl 0 rfl) ?_
      refine va_get (D := G.1) (ci := 0) (v := .int c_ut) (C := "BranchStore$Key") (T := F_Key) (N := 3) hx hb hts i_Key hown hK hP 1 rfl rfl 2 (by decide) (hts _ k_113) (fun _ h9 => h9) rfl d_Store_part_28 ?_
      exact J31 c_ut (Option.some.inj h) H locs ls hP hD hS hL (lv_sub hl [1, 2, 0] rfl)
    · have h := ie h q5
      refine lv_aload_n hx hb d_Store_part_18 rfl (lv_at hl 1 rfl) ?_
      refine va_get (D := G.1) (ci := 5) (v := .int c_sort) (C := "BranchStore") (T := F_Store) (N := 7) hx hb hts i_Store hown hK hP 0 rfl rfl 0 (by decide) (hts _ k_172) (fun _ h9 => h9) rfl d_Store_part_19 ?_
      refine lv_iconst (v := 1) hx hb d_Store_part_22 (by decide) ?_
      refine lv_iadd hx hb d_Store_part_23 ?_
      refine lv_goto (tgt := 31) hx hb d_Store_part_24 (by decide) ?_
      exact J31 (c_sort + 1) (Option.some.inj h) H locs ls hP hD hS hL (lv_sub hl [1, 2, 0] rfl)

noncomputable def f_Store_value (c_set : Int32) (c_c : (Nat → Int32)) (c_cl : Nat) (c_rt : Int32) (c_ub : (Nat → Int32)) (c_un : Int32)  : Option ((Nat ⊕ Int64) × Nat) :=
bx (f_Store_known c_set) fun r1 =>
bx (f_Store_found c_c c_cl c_rt c_ub c_un) fun r3 =>
nx <|
(f_Tree_value c_c c_cl r3).bind fun r6 =>
some (r6, 0)
set_option maxHeartbeats 8000000 in
set_option maxRecDepth 100000 in
theorem c_Store_value (l : Launch) (G : zG) (sz : Nat) (a_s a_t a_ao a_bo a_uo a_go a_c a_mv a_fr a_br a_e0 a_e1 a_e2 a_e3 a_lo a_ho a_uq : Nat) (c_sort : Int32) (c_set : Int32) (c_c : (Nat → Int32)) (c_cl : Nat) (c_mv : (Nat → Int32)) (c_ml : Nat) (c_en : Int32) (c_rt : Int32) (c_fr : (Nat → Int32)) (c_br : (Nat → Int32)) (c_fi : Int64) (c_st : Int64) (c_vz : Int64) (c_ub : (Nat → Int32)) (c_un : Int32) (c_ut : Int32) (r0 : Int64) (rc : Nat) (hf : f_Store_value c_set c_c c_cl c_rt c_ub c_un = some (.inr r0, rc)) :
    Met l y_Store_value (Cond.code y_Store_value prog_1_method_20_code 1 (some .long) :: lw_ok) { frames := 7, cells := rc, slots := 1024 * rc, locals := 138 } (zPc G sz [.ref a_s] (wB G a_s a_t a_ao a_bo a_uo a_go c_sort c_set ++ wT G a_t a_c a_mv a_fr a_br a_e0 a_e1 a_e2 a_e3 a_lo a_ho c_c c_cl c_mv c_ml c_en c_rt c_fr c_br c_fi c_st c_vz ++ wK G a_uo a_uq c_ub c_un c_ut))
      ((fun (A : Nat → Prop) => va_Ql (fun (r : Int64) (u : Nat × Nat) => r = r0) (fun u t => zB G A (wB G a_s a_t a_ao a_bo a_uo a_go c_sort c_set ++ wT G a_t u.1 u.2 a_fr a_br a_e0 a_e1 a_e2 a_e3 a_lo a_ho c_c c_cl c_mv c_ml c_en c_rt c_fr c_br c_fi c_st c_vz ++ wK G a_uo a_uq c_ub c_un c_ut) t) A) (va_A (wB G a_s a_t a_ao a_bo a_uo a_go c_sort c_set ++ wT G a_t a_c a_mv a_fr a_br a_e0 a_e1 a_e2 a_e3 a_lo a_ho c_c c_cl c_mv c_ml c_en c_rt c_fr c_br c_fi c_st c_vz ++ wK G a_uo a_uq c_ub c_un c_ut) sz)) rc (1024 * rc) (va_A (wB G a_s a_t a_ao a_bo a_uo a_go c_sort c_set ++ wT G a_t a_c a_mv a_fr a_br a_e0 a_e1 a_e2 a_e3 a_lo a_ho c_c c_cl c_mv c_ml c_en c_rt c_fr c_br c_fi c_st c_vz ++ wK G a_uo a_uq c_ub c_un c_ut) sz) := by
  refine zMet (Qc := fun (A : Nat → Prop) => va_Ql (fun (r : Int64) (u : Nat × Nat) => r = r0) (fun u t => zB G A (wB G a_s a_t a_ao a_bo a_uo a_go c_sort c_set ++ wT G a_t u.1 u.2 a_fr a_br a_e0 a_e1 a_e2 a_e3 a_lo a_ho c_c c_cl c_mv c_ml c_en c_rt c_fr c_br c_fi c_st c_vz ++ wK G a_uo a_uq c_ub c_un c_ut) t) A) (by decide) (Nat.le_of_ble_eq_true rfl) (fun xp xe xs xm xb xme xc A ls Q H locs C hN hK hP hD hS hA hl hQ => ?_)
  obtain ⟨hx, hb, hr, hts, hown, hlocks, hml, hin⟩ := C
  have hl : lv_has ls 1 [(0, .ref a_s)] := hl
  have h := hf
  unfold f_Store_value at h
  have hRa : (Sum.inr r0 : Nat ⊕ Int64) = ((Sum.inr r0, rc) : (Nat ⊕ Int64) × Nat).1 := rfl
  have hRc : rc = 0 + ((Sum.inr r0, rc) : (Nat ⊕ Int64) × Nat).2 := (Nat.zero_add _).symm
  refine W.widen (k := 0) (n := 1024 * 0) (Nat.le_refl _) (Nat.le_refl _) ?_
  refine lv_aload_n hx hb d_Store_value_0 rfl (lv_at hl 0 rfl) ?_
  refine va_get (D := G.1) (ci := 5) (v := .ref a_t) (C := "BranchStore") (T := F_Store) (N := 7) hx hb hts i_Store hown hK hP 0 rfl rfl 1 (by decide) (hts _ k_173) (fun _ h9 => h9) rfl d_Store_value_1 ?_
  refine lv_aload_n hx hb d_Store_value_4 rfl (lv_at hl 0 rfl) ?_
  refine lv_aload_n hx hb d_Store_value_5 rfl (lv_at hl 0 rfl) ?_
  obtain ⟨r1, dr1, y2, hr1, h, hRa, hRc⟩ := bx_n h hRa hRc
  refine zpcallr (wr := [(a_t, .inr (4, [.ref a_c, .ref a_mv, .int c_en, .int c_rt, .ref a_fr, .ref a_e0, .ref a_e1, .ref a_e2, .ref a_e3, .ref a_br, .ref a_lo, .ref a_ho, .long c_fi, .long c_st, .long c_vz])), (a_c, .inl (G.2.1, c_cl, .inl c_c)), (a_mv, .inl (G.2.1, c_ml, .inl c_mv)), (a_fr, .inl (G.2.1, 261, .inl c_fr)), (a_br, .inl (G.2.1, 4, .inl c_br)), (a_e0, .inr (1, [.int 0, .int 9, .int 4, .int 5])), (a_e1, .inr (1, [.int 1, .int 24, .int 16, .int 8])), (a_e2, .inr (2, [.int 2, .int 116, .int 48])), (a_e3, .inr (3, [.int 3, .int 260, .int 256])), (a_uo, .inr (0, [.ref a_uq, .int c_un, .int c_ut])), (a_uq, .inl (G.2.2.1, 50, .inl c_ub))]) (w2 := fun _ => (wB G a_s a_t a_ao a_bo a_uo a_go c_sort c_set ++ wT G a_t a_c a_mv a_fr a_br a_e0 a_e1 a_e2 a_e3 a_lo a_ho c_c c_cl c_mv c_ml c_en c_rt c_fr c_br c_fi c_st c_vz ++ wK G a_uo a_uq c_ub c_un c_ut)) (zrunV (As := []) (rest := [.ref a_s, .ref a_t]) ⟨hx, hb, hml, hown, hts⟩ hN hK (c_Store_known l G H.size a_s a_t a_ao a_bo a_uo a_go c_sort c_set r1 dr1 hr1) ⟨rfl, rfl⟩ kv_Store_115 ⟨Nat.le_of_ble_eq_true rfl, Nat.le_of_ble_eq_true rfl⟩ 0 rfl rfl rfl hl.1 (Nat.le_of_ble_eq_true rfl) d_Store_value_6 ⟨by show _ ≤ rc; omega, by show _ ≤ 1024 * rc; omega⟩) hP hD hS hA [0] [1, 2, 3, 4, 5, 6, 7, 8, 9, 10, 11] [11, 0, 1, 2, 3, 4, 5, 6, 7, 8, 9, 10] rfl rfl rfl rfl (by decide) rfl (fun _ => rfl) (fun _ ra H hw hP hD hS => ?_)
  refine W.widen (k := 0 + dr1) (n := 1024 * (0 + dr1)) (by omega) (by omega) ?_
  have hw := hw.symm
  subst hw
  obtain ⟨r3, dr3, y4, hr3, h, hRa, hRc⟩ := bx_n h hRa hRc
  refine zpcalli (wr := []) (w2 := fun _ => (wB G a_s a_t a_ao a_bo a_uo a_go c_sort c_set ++ wT G a_t a_c a_mv a_fr a_br a_e0 a_e1 a_e2 a_e3 a_lo a_ho c_c c_cl c_mv c_ml c_en c_rt c_fr c_br c_fi c_st c_vz ++ wK G a_uo a_uq c_ub c_un c_ut)) (zrunV (As := [.ref a_uo]) (rest := [.ref a_t]) ⟨hx, hb, hml, hown, hts⟩ hN hK (c_Store_found l G H.size a_s a_t a_ao a_bo a_uo a_go a_c a_mv a_fr a_br a_e0 a_e1 a_e2 a_e3 a_lo a_ho a_uo a_uq c_sort c_set c_c c_cl c_mv c_ml c_en c_rt c_fr c_br c_fi c_st c_vz c_ub c_un c_ut r3 dr3 hr3) ⟨rfl, rfl⟩ kv_Store_101 ⟨Nat.le_of_ble_eq_true rfl, Nat.le_of_ble_eq_true rfl⟩ 0 rfl rfl rfl hl.1 (Nat.le_of_ble_eq_true rfl) d_Store_value_9 ⟨by show _ ≤ rc; omega, by show _ ≤ 1024 * rc; omega⟩) hP hD hS hA [0, 1, 2, 3, 4, 5, 6, 7, 8, 9, 10, 11] [] [0, 1, 2, 3, 4, 5, 6, 7, 8, 9, 10, 11] rfl rfl rfl rfl (by decide) rfl (fun _ => rfl) (fun rr _ H hw hP hD hS => ?_)
  refine W.widen (k := 0 + dr1 + dr3) (n := 1024 * (0 + dr1 + dr3)) (by omega) (by omega) ?_
  have hw := hw.symm
  subst hw
  obtain ⟨y5, h, hRa, hRc⟩ := nx_n h hRa hRc
  obtain ⟨r6, hr6, h⟩ := ob h
  refine zpcalll (wr := [(a_s, .inr (5, [.int c_sort, .ref a_t, .ref a_ao, .ref a_bo, .ref a_uo, .int c_set, .ref a_go])), (a_uo, .inr (0, [.ref a_uq, .int c_un, .int c_ut])), (a_uq, .inl (G.2.2.1, 50, .inl c_ub))]) (w2 := fun _ => (wB G a_s a_t a_ao a_bo a_uo a_go c_sort c_set ++ wT G a_t a_c a_mv a_fr a_br a_e0 a_e1 a_e2 a_e3 a_lo a_ho c_c c_cl c_mv c_ml c_en c_rt c_fr c_br c_fi c_st c_vz ++ wK G a_uo a_uq c_ub c_un c_ut)) (zrunV (As := [.int r3]) (rest := []) ⟨hx, hb, hml, hown, hts⟩ hN hK (c_Tree_value l G H.size a_t a_c a_mv a_fr a_br a_e0 a_e1 a_e2 a_e3 a_lo a_ho c_c c_cl c_mv c_ml c_en c_rt c_fr c_br c_fi c_st c_vz r3 r6 hr6) ⟨rfl, rfl⟩ kv_Store_104 ⟨Nat.le_of_ble_eq_true rfl, Nat.le_of_ble_eq_true rfl⟩ 0 rfl rfl rfl hl.1 (Nat.le_of_ble_eq_true rfl) d_Store_value_12 ⟨by show _ ≤ rc; omega, by show _ ≤ 1024 * rc; omega⟩) hP hD hS hA [1, 2, 3, 4, 5, 6, 7, 8, 9] [0, 10, 11] [0, 3, 4, 5, 6, 7, 8, 9, 10, 11, 1, 2] rfl rfl rfl rfl (by decide) rfl (fun _ => rfl) (fun rr _ H hw hP hD hS => ?_)
  have hw := hw.symm
  subst hw
  have ey := Option.some.inj h
  rw [← ey] at hRa hRc
  have hRa : r0 = r6 := hRa
  have hRc : rc = 0 + dr1 + dr3 + 0 := hRc
  subst hRa
  exact zretl (a_c, a_mv) hQ hS.2.2 hx hb hr hlocks hP hD hS rfl (by omega) (by omega) d_Store_value_15

set_option maxHeartbeats 8000000 in
set_option maxRecDepth 100000 in
theorem c_Store_value_x (l : Launch) (G : zG) (hfl : l.flags = flags0) (sz : Nat) (a_s a_t a_ao a_bo a_uo a_go a_c a_mv a_fr a_br a_e0 a_e1 a_e2 a_e3 a_lo a_ho a_uq : Nat) (c_sort : Int32) (c_set : Int32) (c_c : (Nat → Int32)) (c_cl : Nat) (c_mv : (Nat → Int32)) (c_ml : Nat) (c_en : Int32) (c_rt : Int32) (c_fr : (Nat → Int32)) (c_br : (Nat → Int32)) (c_fi : Int64) (c_st : Int64) (c_vz : Int64) (c_ub : (Nat → Int32)) (c_un : Int32) (c_ut : Int32) (k0 : Nat) (rc : Nat) (hf : f_Store_value c_set c_c c_cl c_rt c_ub c_un = some (.inl k0, rc)) :
    MetX l y_Store_value (Cond.code y_Store_value prog_1_method_20_code 1 (some .long) :: lw_ok) { frames := 7, cells := rc, slots := 1024 * rc, locals := 138 } (zPcX G sz [.ref a_s] (wB G a_s a_t a_ao a_bo a_uo a_go c_sort c_set ++ wT G a_t a_c a_mv a_fr a_br a_e0 a_e1 a_e2 a_e3 a_lo a_ho c_c c_cl c_mv c_ml c_en c_rt c_fr c_br c_fi c_st c_vz ++ wK G a_uo a_uq c_ub c_un c_ut)) (zQx (zcls k0)) rc (1024 * rc) (fun q => sz ≤ q) := by
  refine zMetX hfl (by decide) (Nat.le_of_ble_eq_true rfl) (fun xp xe xs xm xb xme xc A ls Q H locs C htr hnh hTs hnA hN hK hP hD hS hL hA hl hQ => ?_)
  obtain ⟨hx, hb, hr, hts, hown, hlocks, hml, hin⟩ := C
  have hl : lv_has ls 1 [(0, .ref a_s)] := hl
  have h := hf
  unfold f_Store_value at h
  have hRa : (Sum.inl k0 : Nat ⊕ Int64) = ((Sum.inl k0, rc) : (Nat ⊕ Int64) × Nat).1 := rfl
  have hRc : rc = 0 + ((Sum.inl k0, rc) : (Nat ⊕ Int64) × Nat).2 := (Nat.zero_add _).symm
  refine W.widen (k := 0) (n := 1024 * 0) (Nat.le_refl _) (Nat.le_refl _) ?_
  refine lv_aload_n hx hb d_Store_value_0 rfl (lv_at hl 0 rfl) ?_
  refine va_get (D := G.1) (ci := 5) (v := .ref a_t) (C := "BranchStore") (T := F_Store) (N := 7) hx hb hts i_Store hown hK hP 0 rfl rfl 1 (by decide) (hts _ k_173) (fun _ h9 => h9) rfl d_Store_value_1 ?_
  refine lv_aload_n hx hb d_Store_value_4 rfl (lv_at hl 0 rfl) ?_
  refine lv_aload_n hx hb d_Store_value_5 rfl (lv_at hl 0 rfl) ?_
  rcases bx_x h hRa hRc with ⟨dr1, hr1, hRc⟩ | ⟨r1, dr1, y2, hr1, h, hRa, hRc⟩
  · exact zprop (As := []) hQ (by omega) (by omega) hlocks hnh hS hL (zrunX (As := []) (rest := [.ref a_s, .ref a_t]) ⟨hx, hb, hml, hown, hts⟩ hN hTs hnA hS hK (c_Store_known_x l G hfl H.size a_s a_t a_ao a_bo a_uo a_go c_sort c_set k0 dr1 hr1) ⟨rfl, rfl⟩ kv_Store_115 ⟨Nat.le_of_ble_eq_true rfl, Nat.le_of_ble_eq_true rfl⟩ 0 rfl rfl rfl hl.1 (Nat.le_of_ble_eq_true rfl) d_Store_value_6 ⟨by show _ ≤ rc; omega, by show _ ≤ 1024 * rc; omega⟩ (hP.sub [0] rfl) (hD.sub [0] (by decide) rfl))
  refine zpcallr (wr := [(a_t, .inr (4, [.ref a_c, .ref a_mv, .int c_en, .int c_rt, .ref a_fr, .ref a_e0, .ref a_e1, .ref a_e2, .ref a_e3, .ref a_br, .ref a_lo, .ref a_ho, .long c_fi, .long c_st, .long c_vz])), (a_c, .inl (G.2.1, c_cl, .inl c_c)), (a_mv, .inl (G.2.1, c_ml, .inl c_mv)), (a_fr, .inl (G.2.1, 261, .inl c_fr)), (a_br, .inl (G.2.1, 4, .inl c_br)), (a_e0, .inr (1, [.int 0, .int 9, .int 4, .int 5])), (a_e1, .inr (1, [.int 1, .int 24, .int 16, .int 8])), (a_e2, .inr (2, [.int 2, .int 116, .int 48])), (a_e3, .inr (3, [.int 3, .int 260, .int 256])), (a_uo, .inr (0, [.ref a_uq, .int c_un, .int c_ut])), (a_uq, .inl (G.2.2.1, 50, .inl c_ub))]) (w2 := fun _ => (wB G a_s a_t a_ao a_bo a_uo a_go c_sort c_set ++ wT G a_t a_c a_mv a_fr a_br a_e0 a_e1 a_e2 a_e3 a_lo a_ho c_c c_cl c_mv c_ml c_en c_rt c_fr c_br c_fi c_st c_vz ++ wK G a_uo a_uq c_ub c_un c_ut)) (zrunV (As := []) (rest := [.ref a_s, .ref a_t]) ⟨hx, hb, hml, hown, hts⟩ hN hK (c_Store_known l G H.size a_s a_t a_ao a_bo a_uo a_go c_sort c_set r1 dr1 hr1) ⟨rfl, rfl⟩ kv_Store_115 ⟨Nat.le_of_ble_eq_true rfl, Nat.le_of_ble_eq_true rfl⟩ 0 rfl rfl rfl hl.1 (Nat.le_of_ble_eq_true rfl) d_Store_value_6 ⟨by show _ ≤ rc; omega, by show _ ≤ 1024 * rc; omega⟩) hP hD hS hA [0] [1, 2, 3, 4, 5, 6, 7, 8, 9, 10, 11] [11, 0, 1, 2, 3, 4, 5, 6, 7, 8, 9, 10] rfl rfl rfl rfl (by decide) rfl (fun _ => rfl) (fun _ ra H hw hP hD hS => ?_)
  refine W.widen (k := 0 + dr1) (n := 1024 * (0 + dr1)) (by omega) (by omega) ?_
  have hw := hw.symm
  subst hw
  rcases bx_x h hRa hRc with ⟨dr3, hr3, hRc⟩ | ⟨r3, dr3, y4, hr3, h, hRa, hRc⟩
  · exact zprop (As := [.ref a_uo]) hQ (by omega) (by omega) hlocks hnh hS hL (zrunX (As := [.ref a_uo]) (rest := [.ref a_t]) ⟨hx, hb, hml, hown, hts⟩ hN hTs hnA hS hK (c_Store_found_x l G hfl H.size a_s a_t a_ao a_bo a_uo a_go a_c a_mv a_fr a_br a_e0 a_e1 a_e2 a_e3 a_lo a_ho a_uo a_uq c_sort c_set c_c c_cl c_mv c_ml c_en c_rt c_fr c_br c_fi c_st c_vz c_ub c_un c_ut k0 dr3 hr3) ⟨rfl, rfl⟩ kv_Store_101 ⟨Nat.le_of_ble_eq_true rfl, Nat.le_of_ble_eq_true rfl⟩ 0 rfl rfl rfl hl.1 (Nat.le_of_ble_eq_true rfl) d_Store_value_9 ⟨by show _ ≤ rc; omega, by show _ ≤ 1024 * rc; omega⟩ (hP.sub [0, 1, 2, 3, 4, 5, 6, 7, 8, 9, 10, 11] rfl) (hD.sub [0, 1, 2, 3, 4, 5, 6, 7, 8, 9, 10, 11] (by decide) rfl))
  refine zpcalli (wr := []) (w2 := fun _ => (wB G a_s a_t a_ao a_bo a_uo a_go c_sort c_set ++ wT G a_t a_c a_mv a_fr a_br a_e0 a_e1 a_e2 a_e3 a_lo a_ho c_c c_cl c_mv c_ml c_en c_rt c_fr c_br c_fi c_st c_vz ++ wK G a_uo a_uq c_ub c_un c_ut)) (zrunV (As := [.ref a_uo]) (rest := [.ref a_t]) ⟨hx, hb, hml, hown, hts⟩ hN hK (c_Store_found l G H.size a_s a_t a_ao a_bo a_uo a_go a_c a_mv a_fr a_br a_e0 a_e1 a_e2 a_e3 a_lo a_ho a_uo a_uq c_sort c_set c_c c_cl c_mv c_ml c_en c_rt c_fr c_br c_fi c_st c_vz c_ub c_un c_ut r3 dr3 hr3) ⟨rfl, rfl⟩ kv_Store_101 ⟨Nat.le_of_ble_eq_true rfl, Nat.le_of_ble_eq_true rfl⟩ 0 rfl rfl rfl hl.1 (Nat.le_of_ble_eq_true rfl) d_Store_value_9 ⟨by show _ ≤ rc; omega, by show _ ≤ 1024 * rc; omega⟩) hP hD hS hA [0, 1, 2, 3, 4, 5, 6, 7, 8, 9, 10, 11] [] [0, 1, 2, 3, 4, 5, 6, 7, 8, 9, 10, 11] rfl rfl rfl rfl (by decide) rfl (fun _ => rfl) (fun rr _ H hw hP hD hS => ?_)
  refine W.widen (k := 0 + dr1 + dr3) (n := 1024 * (0 + dr1 + dr3)) (by omega) (by omega) ?_
  have hw := hw.symm
  subst hw
  exact absurd h (fun h => nx_x h hRa)

noncomputable def f_Store_rank (c_c : (Nat → Int32)) (c_cl : Nat) (c_rt : Int32) (c_ab : (Nat → Int32)) (c_an : Int32)  : Option Int32 :=
(f_Tree_rank c_c c_cl c_rt c_ab c_an).bind fun r1 =>
some r1
set_option maxHeartbeats 8000000 in
set_option maxRecDepth 100000 in
theorem c_Store_rank (l : Launch) (G : zG) (sz : Nat) (a_s a_t a_ao a_bo a_uo a_go a_c a_mv a_fr a_br a_e0 a_e1 a_e2 a_e3 a_lo a_ho a_aq : Nat) (c_sort : Int32) (c_set : Int32) (c_c : (Nat → Int32)) (c_cl : Nat) (c_mv : (Nat → Int32)) (c_ml : Nat) (c_en : Int32) (c_rt : Int32) (c_fr : (Nat → Int32)) (c_br : (Nat → Int32)) (c_fi : Int64) (c_st : Int64) (c_vz : Int64) (c_ab : (Nat → Int32)) (c_an : Int32) (c_at : Int32) (r0 : Int32) (hf : f_Store_rank c_c c_cl c_rt c_ab c_an = some r0) :
    Met l y_Store_rank (Cond.code y_Store_rank prog_1_method_21_code 1 (some .int) :: lw_ok) { frames := 7, cells := 0, slots := 0, locals := 165 } (zPc G sz [.ref a_s] (wB G a_s a_t a_ao a_bo a_uo a_go c_sort c_set ++ wT G a_t a_c a_mv a_fr a_br a_e0 a_e1 a_e2 a_e3 a_lo a_ho c_c c_cl c_mv c_ml c_en c_rt c_fr c_br c_fi c_st c_vz ++ wK G a_ao a_aq c_ab c_an c_at))
      ((fun (A : Nat → Prop) => va_Qi (fun (r : Int32) (_ : Unit) => r = r0) (fun _ t => zB G A (wB G a_s a_t a_ao a_bo a_uo a_go c_sort c_set ++ wT G a_t a_c a_mv a_fr a_br a_e0 a_e1 a_e2 a_e3 a_lo a_ho c_c c_cl c_mv c_ml c_en c_rt c_fr c_br c_fi c_st c_vz ++ wK G a_ao a_aq c_ab c_an c_at) t) A) (va_A (wB G a_s a_t a_ao a_bo a_uo a_go c_sort c_set ++ wT G a_t a_c a_mv a_fr a_br a_e0 a_e1 a_e2 a_e3 a_lo a_ho c_c c_cl c_mv c_ml c_en c_rt c_fr c_br c_fi c_st c_vz ++ wK G a_ao a_aq c_ab c_an c_at) sz)) 0 0 (fun q => sz ≤ q) := by
  refine zMetR (Qc := fun (A : Nat → Prop) => va_Qi (fun (r : Int32) (_ : Unit) => r = r0) (fun _ t => zB G A (wB G a_s a_t a_ao a_bo a_uo a_go c_sort c_set ++ wT G a_t a_c a_mv a_fr a_br a_e0 a_e1 a_e2 a_e3 a_lo a_ho c_c c_cl c_mv c_ml c_en c_rt c_fr c_br c_fi c_st c_vz ++ wK G a_ao a_aq c_ab c_an c_at) t) A) (by decide) (Nat.le_of_ble_eq_true rfl) (fun xp xe xs xm xb xme xc A ls Q H locs C hN hK hP hD hS hL hA hl hQ => ?_)
  obtain ⟨hx, hb, hr, hts, hown, hlocks, hml, hin⟩ := C
  have hl : lv_has ls 1 [(0, .ref a_s)] := hl
  have h := hf
  unfold f_Store_rank at h
  refine lv_aload_n hx hb d_Store_rank_0 rfl (lv_at hl 0 rfl) ?_
  refine va_get (D := G.1) (ci := 5) (v := .ref a_t) (C := "BranchStore") (T := F_Store) (N := 7) hx hb hts i_Store hown hK hP 0 rfl rfl 1 (by decide) (hts _ k_173) (fun _ h9 => h9) rfl d_Store_rank_1 ?_
  refine lv_aload_n hx hb d_Store_rank_4 rfl (lv_at hl 0 rfl) ?_
  refine va_get (D := G.1) (ci := 5) (v := .ref a_ao) (C := "BranchStore") (T := F_Store) (N := 7) hx hb hts i_Store hown hK hP 0 rfl rfl 2 (by decide) (hts _ k_174) (fun _ h9 => h9) rfl d_Store_rank_5 ?_
  obtain ⟨r1, hr1, h⟩ := ob h
  refine zpcalli (wr := [(a_s, .inr (5, [.int c_sort, .ref a_t, .ref a_ao, .ref a_bo, .ref a_uo, .int c_set, .ref a_go]))]) (w2 := fun _ => (wB G a_s a_t a_ao a_bo a_uo a_go c_sort c_set ++ wT G a_t a_c a_mv a_fr a_br a_e0 a_e1 a_e2 a_e3 a_lo a_ho c_c c_cl c_mv c_ml c_en c_rt c_fr c_br c_fi c_st c_vz ++ wK G a_ao a_aq c_ab c_an c_at)) (zrunV (As := [.ref a_ao]) (rest := []) ⟨hx, hb, hml, hown, hts⟩ hN hK (c_Tree_rank l G H.size a_t a_c a_mv a_fr a_br a_e0 a_e1 a_e2 a_e3 a_lo a_ho a_ao a_aq c_c c_cl c_mv c_ml c_en c_rt c_fr c_br c_fi c_st c_vz c_ab c_an c_at r1 hr1) ⟨rfl, rfl⟩ kv_Store_42 ⟨Nat.le_of_ble_eq_true rfl, Nat.le_of_ble_eq_true rfl⟩ 0 rfl rfl rfl hl.1 (Nat.le_of_ble_eq_true rfl) d_Store_rank_8 ⟨Nat.le_of_ble_eq_true rfl, Nat.le_of_ble_eq_true rfl⟩) hP hD hS hA [1, 2, 3, 4, 5, 6, 7, 8, 9, 10, 11] [0] [0, 1, 2, 3, 4, 5, 6, 7, 8, 9, 10, 11] rfl rfl rfl rfl (by decide) rfl (fun _ => rfl) (fun rr _ H hw hP hD hS => ?_)
  have hw := hw.symm
  subst hw
  obtain rfl := Option.some.inj h
  exact zreti () hQ hL hx hb hr hlocks hP hD hS rfl (Nat.le_refl _) (Nat.le_refl _) d_Store_rank_11

noncomputable def f_Store_select (c_set : Int32) (c_c : (Nat → Int32)) (c_cl : Nat) (c_rt : Int32) (c_ub : (Nat → Int32)) (c_un : Int32) (c_ut : Int32) (p_1 : Int32) : Option ((Nat ⊕ (Int32 × (Nat → Int32) × Int32 × Int32)) × Nat) :=
if p_1 < 0 then
(some (.inl 4, 1))
else
((f_Tree_keys c_c c_cl c_rt).bind fun r2 =>
if p_1 < r2 then
(nx <|
(f_Store_comes c_set c_c c_cl c_rt c_ub c_un c_ut p_1).bind fun r5 =>
some ((r5.2.1, r5.2.2.1, r5.2.2.2.1, r5.2.2.2.2), 0))
else
(some (.inl 4, 1)))
set_option maxHeartbeats 8000000 in
set_option maxRecDepth 100000 in
theorem c_Store_select (l : Launch) (G : zG) (sz : Nat) (a_s a_t a_ao a_bo a_uo a_go a_c a_mv a_fr a_br a_e0 a_e1 a_e2 a_e3 a_lo a_ho a_uq : Nat) (c_sort : Int32) (c_set : Int32) (c_c : (Nat → Int32)) (c_cl : Nat) (c_mv : (Nat → Int32)) (c_ml : Nat) (c_en : Int32) (c_rt : Int32) (c_fr : (Nat → Int32)) (c_br : (Nat → Int32)) (c_fi : Int64) (c_st : Int64) (c_vz : Int64) (c_ub : (Nat → Int32)) (c_un : Int32) (c_ut : Int32) (p_1 : Int32) (r0 : (Int32 × (Nat → Int32) × Int32 × Int32)) (rc : Nat) (hf : f_Store_select c_set c_c c_cl c_rt c_ub c_un c_ut p_1 = some (.inr r0, rc)) :
    Met l y_Store_select (Cond.code y_Store_select prog_1_method_22_code 2 none :: lw_ok) { frames := 6, cells := rc, slots := 1024 * rc, locals := 141 } (zPc G sz [.ref a_s, .int p_1] (wB G a_s a_t a_ao a_bo a_uo a_go c_sort c_set ++ wT G a_t a_c a_mv a_fr a_br a_e0 a_e1 a_e2 a_e3 a_lo a_ho c_c c_cl c_mv c_ml c_en c_rt c_fr c_br c_fi c_st c_vz ++ wK G a_uo a_uq c_ub c_un c_ut))
      ((fun (A : Nat → Prop) => va_Qv (fun (u : Nat × Nat) => True) (fun u t => zB G A (wB G a_s a_t a_ao a_bo a_uo a_go c_sort r0.1 ++ wT G a_t u.1 u.2 a_fr a_br a_e0 a_e1 a_e2 a_e3 a_lo a_ho c_c c_cl c_mv c_ml c_en c_rt c_fr c_br c_fi c_st c_vz ++ wK G a_uo a_uq r0.2.1 r0.2.2.1 r0.2.2.2) t) A) (va_A (wB G a_s a_t a_ao a_bo a_uo a_go c_sort c_set ++ wT G a_t a_c a_mv a_fr a_br a_e0 a_e1 a_e2 a_e3 a_lo a_ho c_c c_cl c_mv c_ml c_en c_rt c_fr c_br c_fi c_st c_vz ++ wK G a_uo a_uq c_ub c_un c_ut) sz)) rc (1024 * rc) (va_A (wB G a_s a_t a_ao a_bo a_uo a_go c_sort c_set ++ wT G a_t a_c a_mv a_fr a_br a_e0 a_e1 a_e2 a_e3 a_lo a_ho c_c c_cl c_mv c_ml c_en c_rt c_fr c_br c_fi c_st c_vz ++ wK G a_uo a_uq c_ub c_un c_ut) sz) := by
  refine zMet (Qc := fun (A : Nat → Prop) => va_Qv (fun (u : Nat × Nat) => True) (fun u t => zB G A (wB G a_s a_t a_ao a_bo a_uo a_go c_sort r0.1 ++ wT G a_t u.1 u.2 a_fr a_br a_e0 a_e1 a_e2 a_e3 a_lo a_ho c_c c_cl c_mv c_ml c_en c_rt c_fr c_br c_fi c_st c_vz ++ wK G a_uo a_uq r0.2.1 r0.2.2.1 r0.2.2.2) t) A) (by decide) (Nat.le_of_ble_eq_true rfl) (fun xp xe xs xm xb xme xc A ls Q H locs C hN hK hP hD hS hA hl hQ => ?_)
  obtain ⟨hx, hb, hr, hts, hown, hlocks, hml, hin⟩ := C
  have hl : lv_has ls 2 [(0, .ref a_s), (1, .int p_1)] := hl
  have h := hf
  unfold f_Store_select at h
  have hRa : (Sum.inr r0 : Nat ⊕ (Int32 × (Nat → Int32) × Int32 × Int32)) = ((Sum.inr r0, rc) : (Nat ⊕ (Int32 × (Nat → Int32) × Int32 × Int32)) × Nat).1 := rfl
  have hRc : rc = 0 + ((Sum.inr r0, rc) : (Nat ⊕ (Int32 × (Nat → Int32) × Int32 × Int32)) × Nat).2 := (Nat.zero_add _).symm
  refine W.widen (k := 0) (n := 1024 * 0) (Nat.le_refl _) (Nat.le_refl _) ?_
  refine lv_iload_n hx hb d_Store_select_0 rfl (lv_at hl 1 rfl) ?_
  refine lv_if_lt (tgt := 15) hx hb d_Store_select_1 (by decide) (fun q1 => ?_) (fun q1 => ?_)
  · have h := it h q1
    have ey := Option.some.inj h
    rw [← ey] at hRa
    cases hRa
  · have h := ie h q1
    refine lv_iload_n hx hb d_Store_select_4 rfl (lv_at hl 1 rfl) ?_
    refine lv_aload_n hx hb d_Store_select_5 rfl (lv_at hl 0 rfl) ?_
    refine va_get (D := G.1) (ci := 5) (v := .ref a_t) (C := "BranchStore") (T := F_Store) (N := 7) hx hb hts i_Store hown hK hP 0 rfl rfl 1 (by decide) (hts _ k_173) (fun _ h9 => h9) rfl d_Store_select_6 ?_
    obtain ⟨r2, hr2, h⟩ := ob h
    refine zpcalli (wr := [(a_s, .inr (5, [.int c_sort, .ref a_t, .ref a_ao, .ref a_bo, .ref a_uo, .int c_set, .ref a_go])), (a_uo, .inr (0, [.ref a_uq, .int c_un, .int c_ut])), (a_uq, .inl (G.2.2.1, 50, .inl c_ub))]) (w2 := fun _ => (wB G a_s a_t a_ao a_bo a_uo a_go c_sort c_set ++ wT G a_t a_c a_mv a_fr a_br a_e0 a_e1 a_e2 a_e3 a_lo a_ho c_c c_cl c_mv c_ml c_en c_rt c_fr c_br c_fi c_st c_vz ++ wK G a_uo a_uq c_ub c_un c_ut)) (zrunV (As := []) (rest := [.int p_1]) ⟨hx, hb, hml, hown, hts⟩ hN hK (c_Tree_keys l G H.size a_t a_c a_mv a_fr a_br a_e0 a_e1 a_e2 a_e3 a_lo a_ho c_c c_cl c_mv c_ml c_en c_rt c_fr c_br c_fi c_st c_vz r2 hr2) ⟨rfl, rfl⟩ kv_Store_27 ⟨Nat.le_of_ble_eq_true rfl, Nat.le_of_ble_eq_true rfl⟩ 0 rfl rfl rfl hl.1 (Nat.le_of_ble_eq_true rfl) d_Store_select_9 ⟨by show _ ≤ rc; omega, by show _ ≤ 1024 * rc; omega⟩) hP hD hS hA [1, 2, 3, 4, 5, 6, 7, 8, 9] [0, 10, 11] [0, 3, 4, 5, 6, 7, 8, 9, 10, 11, 1, 2] rfl rfl rfl rfl (by decide) rfl (fun _ => rfl) (fun rr _ H hw hP hD hS => ?_)
    have hw := hw.symm
    subst hw
    refine lv_icmp_lt (tgt := 23) hx hb d_Store_select_12 (by decide) (fun q3 => ?_) (fun q3 => ?_)
    · have h := it h q3
      obtain ⟨y4, h, hRa, hRc⟩ := nx_n h hRa hRc
      refine lv_aload_n hx hb d_Store_select_23 rfl (lv_at hl 0 rfl) ?_
      refine lv_iload_n hx hb d_Store_select_24 rfl (lv_at hl 1 rfl) ?_
      obtain ⟨r5, hr5, h⟩ := ob h
      refine zcalli (wr := []) (w2 := fun _ => (wB G a_s a_t a_ao a_bo a_uo a_go c_sort r5.2.1 ++ wT G a_t a_c a_mv a_fr a_br a_e0 a_e1 a_e2 a_e3 a_lo a_ho c_c c_cl c_mv c_ml c_en c_rt c_fr c_br c_fi c_st c_vz ++ wK G a_uo a_uq r5.2.2.1 r5.2.2.2.1 r5.2.2.2.2)) (zrunV (As := [.int p_1]) (rest := []) ⟨hx, hb, hml, hown, hts⟩ hN hK (c_Store_comes l G H.size a_s a_t a_ao a_bo a_uo a_go a_c a_mv a_fr a_br a_e0 a_e1 a_e2 a_e3 a_lo a_ho a_uq c_sort c_set c_c c_cl c_mv c_ml c_en c_rt c_fr c_br c_fi c_st c_vz c_ub c_un c_ut p_1 r5 hr5) ⟨rfl, rfl⟩ kv_Store_111 ⟨Nat.le_of_ble_eq_true rfl, Nat.le_of_ble_eq_true rfl⟩ 0 rfl rfl rfl hl.1 (Nat.le_of_ble_eq_true rfl) d_Store_select_25 ⟨by show _ ≤ rc; omega, by show _ ≤ 1024 * rc; omega⟩) hP hD hS hA [0, 1, 2, 3, 4, 5, 6, 7, 8, 9, 10, 11] [] [0, 1, 2, 3, 4, 5, 6, 7, 8, 9, 10, 11] rfl rfl rfl rfl (by decide) rfl (fun _ => rfl) (fun rr _ H locs hw hP hD hS => ?_)
      obtain ⟨hw, hz6⟩ := hw
      have hw := hw.symm
      subst hw
      refine lv_pop hx hb d_Store_select_28 rfl ?_
      have ey := Option.some.inj h
      rw [← ey] at hRa hRc
      have hRa : r0 = (r5.2.1, r5.2.2.1, r5.2.2.2.1, r5.2.2.2.2) := hRa
      have hRc : rc = 0 + 0 := hRc
      subst hRa
      exact zretv (a_c, a_mv) hQ hS.2.2 hx hb hr hlocks hP hD hS trivial (by omega) (by omega) d_Store_select_29
    · have h := ie h q3
      have ey := Option.some.inj h
      rw [← ey] at hRa
      cases hRa

set_option maxHeartbeats 8000000 in
set_option maxRecDepth 100000 in
theorem c_Store_select_x (l : Launch) (G : zG) (hfl : l.flags = flags0) (sz : Nat) (a_s a_t a_ao a_bo a_uo a_go a_c a_mv a_fr a_br a_e0 a_e1 a_e2 a_e3 a_lo a_ho a_uq : Nat) (c_sort : Int32) (c_set : Int32) (c_c : (Nat → Int32)) (c_cl : Nat) (c_mv : (Nat → Int32)) (c_ml : Nat) (c_en : Int32) (c_rt : Int32) (c_fr : (Nat → Int32)) (c_br : (Nat → Int32)) (c_fi : Int64) (c_st : Int64) (c_vz : Int64) (c_ub : (Nat → Int32)) (c_un : Int32) (c_ut : Int32) (p_1 : Int32) (k0 : Nat) (rc : Nat) (hf : f_Store_select c_set c_c c_cl c_rt c_ub c_un c_ut p_1 = some (.inl k0, rc)) :
    MetX l y_Store_select (Cond.code y_Store_select prog_1_method_22_code 2 none :: lw_ok) { frames := 6, cells := rc, slots := 1024 * rc, locals := 141 } (zPcX G sz [.ref a_s, .int p_1] (wB G a_s a_t a_ao a_bo a_uo a_go c_sort c_set ++ wT G a_t a_c a_mv a_fr a_br a_e0 a_e1 a_e2 a_e3 a_lo a_ho c_c c_cl c_mv c_ml c_en c_rt c_fr c_br c_fi c_st c_vz ++ wK G a_uo a_uq c_ub c_un c_ut)) (zQx (zcls k0)) rc (1024 * rc) (fun q => sz ≤ q) := by
  refine zMetX hfl (by decide) (Nat.le_of_ble_eq_true rfl) (fun xp xe xs xm xb xme xc A ls Q H locs C htr hnh hTs hnA hN hK hP hD hS hL hA hl hQ => ?_)
  obtain ⟨hx, hb, hr, hts, hown, hlocks, hml, hin⟩ := C
  have hl : lv_has ls 2 [(0, .ref a_s), (1, .int p_1)] := hl
  have h := hf
  unfold f_Store_select at h
  have hRa : (Sum.inl k0 : Nat ⊕ (Int32 × (Nat → Int32) × Int32 × Int32)) = ((Sum.inl k0, rc) : (Nat ⊕ (Int32 × (Nat → Int32) × Int32 × Int32)) × Nat).1 := rfl
  have hRc : rc = 0 + ((Sum.inl k0, rc) : (Nat ⊕ (Int32 × (Nat → Int32) × Int32 × Int32)) × Nat).2 := (Nat.zero_add _).symm
  refine W.widen (k := 0) (n := 1024 * 0) (Nat.le_refl _) (Nat.le_refl _) ?_
  refine lv_iload_n hx hb d_Store_select_0 rfl (lv_at hl 1 rfl) ?_
  refine lv_if_lt (tgt := 15) hx hb d_Store_select_1 (by decide) (fun q1 => ?_) (fun q1 => ?_)
  · have h := it h q1
    have ey := Option.some.inj h
    rw [← ey] at hRa hRc
    have hRc : rc = 0 + 1 := hRc
    obtain rfl := Sum.inl.inj hRa
    exact zthrow (ia := 119) (ic := 121) hQ hx hb hlocks htr hnh hts hN hTs hown (hml.trans hl.1.symm) hS hL k_653 k_654 k_19 kt_4 (by decide) (by show _ ≤ rc; omega) (by show _ ≤ 1024 * rc; omega) (by omega) (by omega) (Nat.le_of_ble_eq_true rfl) (Nat.le_of_ble_eq_true rfl) d_Store_select_15 d_Store_select_18 d_Store_select_19 d_Store_select_22
  · have h := ie h q1
    refine lv_iload_n hx hb d_Store_select_4 rfl (lv_at hl 1 rfl) ?_
    refine lv_aload_n hx hb d_Store_select_5 rfl (lv_at hl 0 rfl) ?_
    refine va_get (D := G.1) (ci := 5) (v := .ref a_t) (C := "BranchStore") (T := F_Store) (N := 7) hx hb hts i_Store hown hK hP 0 rfl rfl 1 (by decide) (hts _ k_173) (fun _ h9 => h9) rfl d_Store_select_6 ?_
    obtain ⟨r2, hr2, h⟩ := ob h
    refine zpcalli (wr := [(a_s, .inr (5, [.int c_sort, .ref a_t, .ref a_ao, .ref a_bo, .ref a_uo, .int c_set, .ref a_go])), (a_uo, .inr (0, [.ref a_uq, .int c_un, .int c_ut])), (a_uq, .inl (G.2.2.1, 50, .inl c_ub))]) (w2 := fun _ => (wB G a_s a_t a_ao a_bo a_uo a_go c_sort c_set ++ wT G a_t a_c a_mv a_fr a_br a_e0 a_e1 a_e2 a_e3 a_lo a_ho c_c c_cl c_mv c_ml c_en c_rt c_fr c_br c_fi c_st c_vz ++ wK G a_uo a_uq c_ub c_un c_ut)) (zrunV (As := []) (rest := [.int p_1]) ⟨hx, hb, hml, hown, hts⟩ hN hK (c_Tree_keys l G H.size a_t a_c a_mv a_fr a_br a_e0 a_e1 a_e2 a_e3 a_lo a_ho c_c c_cl c_mv c_ml c_en c_rt c_fr c_br c_fi c_st c_vz r2 hr2) ⟨rfl, rfl⟩ kv_Store_27 ⟨Nat.le_of_ble_eq_true rfl, Nat.le_of_ble_eq_true rfl⟩ 0 rfl rfl rfl hl.1 (Nat.le_of_ble_eq_true rfl) d_Store_select_9 ⟨by show _ ≤ rc; omega, by show _ ≤ 1024 * rc; omega⟩) hP hD hS hA [1, 2, 3, 4, 5, 6, 7, 8, 9] [0, 10, 11] [0, 3, 4, 5, 6, 7, 8, 9, 10, 11, 1, 2] rfl rfl rfl rfl (by decide) rfl (fun _ => rfl) (fun rr _ H hw hP hD hS => ?_)
    have hw := hw.symm
    subst hw
    refine lv_icmp_lt (tgt := 23) hx hb d_Store_select_12 (by decide) (fun q3 => ?_) (fun q3 => ?_)
    · have h := it h q3
      exact absurd h (fun h => nx_x h hRa)
    · have h := ie h q3
      have ey := Option.some.inj h
      rw [← ey] at hRa hRc
      have hRc : rc = 0 + 1 := hRc
      obtain rfl := Sum.inl.inj hRa
      exact zthrow (ia := 119) (ic := 121) hQ hx hb hlocks htr hnh hts hN hTs hown (hml.trans hl.1.symm) hS hL k_653 k_654 k_19 kt_4 (by decide) (by show _ ≤ rc; omega) (by show _ ≤ 1024 * rc; omega) (by omega) (by omega) (Nat.le_of_ble_eq_true rfl) (Nat.le_of_ble_eq_true rfl) d_Store_select_15 d_Store_select_18 d_Store_select_19 d_Store_select_22

theorem kv_Store_128 : zKV "BranchStore" 128 y_Store_behind prog_1_method_4_code 1 (some .int) 0 := ⟨k_303, k_305, kp_11, k_1, k_306, by decide +kernel⟩
noncomputable def f_Store_range (c_c : (Nat → Int32)) (c_cl : Nat) (c_rt : Int32) (c_ab : (Nat → Int32)) (c_an : Int32) (c_bb : (Nat → Int32)) (c_bn : Int32)  : Option Int32 :=
(f_Store_behind c_c c_cl c_rt c_ab c_an).bind fun r1 =>
(f_Tree_rank c_c c_cl c_rt c_bb c_bn).bind fun r2 =>
some (if 0 < (r1 - r2) then (r1 - r2) else 0)
set_option maxHeartbeats 8000000 in
set_option maxRecDepth 100000 in
theorem c_Store_range (l : Launch) (G : zG) (sz : Nat) (a_s a_t a_ao a_bo a_uo a_go a_c a_mv a_fr a_br a_e0 a_e1 a_e2 a_e3 a_lo a_ho a_aq a_bq : Nat) (c_sort : Int32) (c_set : Int32) (c_c : (Nat → Int32)) (c_cl : Nat) (c_mv : (Nat → Int32)) (c_ml : Nat) (c_en : Int32) (c_rt : Int32) (c_fr : (Nat → Int32)) (c_br : (Nat → Int32)) (c_fi : Int64) (c_st : Int64) (c_vz : Int64) (c_ab : (Nat → Int32)) (c_an : Int32) (c_at : Int32) (c_bb : (Nat → Int32)) (c_bn : Int32) (c_bt : Int32) (r0 : Int32) (hf : f_Store_range c_c c_cl c_rt c_ab c_an c_bb c_bn = some r0) :
    Met l y_Store_range (Cond.code y_Store_range prog_1_method_23_code 1 (some .int) :: lw_ok) { frames := 8, cells := 0, slots := 0, locals := 185 } (zPc G sz [.ref a_s] (wB G a_s a_t a_ao a_bo a_uo a_go c_sort c_set ++ wT G a_t a_c a_mv a_fr a_br a_e0 a_e1 a_e2 a_e3 a_lo a_ho c_c c_cl c_mv c_ml c_en c_rt c_fr c_br c_fi c_st c_vz ++ wK G a_ao a_aq c_ab c_an c_at ++ wK G a_bo a_bq c_bb c_bn c_bt))
      ((fun (A : Nat → Prop) => va_Qi (fun (r : Int32) (_ : Unit) => r = r0) (fun _ t => zB G A (wB G a_s a_t a_ao a_bo a_uo a_go c_sort c_set ++ wT G a_t a_c a_mv a_fr a_br a_e0 a_e1 a_e2 a_e3 a_lo a_ho c_c c_cl c_mv c_ml c_en c_rt c_fr c_br c_fi c_st c_vz ++ wK G a_ao a_aq c_ab c_an c_at ++ wK G a_bo a_bq c_bb c_bn c_bt) t) A) (va_A (wB G a_s a_t a_ao a_bo a_uo a_go c_sort c_set ++ wT G a_t a_c a_mv a_fr a_br a_e0 a_e1 a_e2 a_e3 a_lo a_ho c_c c_cl c_mv c_ml c_en c_rt c_fr c_br c_fi c_st c_vz ++ wK G a_ao a_aq c_ab c_an c_at ++ wK G a_bo a_bq c_bb c_bn c_bt) sz)) 0 0 (fun q => sz ≤ q) := by
  refine zMetR (Qc := fun (A : Nat → Prop) => va_Qi (fun (r : Int32) (_ : Unit) => r = r0) (fun _ t => zB G A (wB G a_s a_t a_ao a_bo a_uo a_go c_sort c_set ++ wT G a_t a_c a_mv a_fr a_br a_e0 a_e1 a_e2 a_e3 a_lo a_ho c_c c_cl c_mv c_ml c_en c_rt c_fr c_br c_fi c_st c_vz ++ wK G a_ao a_aq c_ab c_an c_at ++ wK G a_bo a_bq c_bb c_bn c_bt) t) A) (by decide) (Nat.le_of_ble_eq_true rfl) (fun xp xe xs xm xb xme xc A ls Q H locs C hN hK hP hD hS hL hA hl hQ => ?_)
  obtain ⟨hx, hb, hr, hts, hown, hlocks, hml, hin⟩ := C
  have hl : lv_has ls 1 [(0, .ref a_s)] := hl
  have h := hf
  unfold f_Store_range at h
  refine lv_iconst (v := 0) hx hb d_Store_range_0 (by decide) ?_
  refine lv_aload_n hx hb d_Store_range_1 rfl (lv_at hl 0 rfl) ?_
  obtain ⟨r1, hr1, h⟩ := ob h
  refine zpcalli (wr := [(a_bo, .inr (0, [.ref a_bq, .int c_bn, .int c_bt])), (a_bq, .inl (G.2.2.1, 50, .inl c_bb))]) (w2 := fun _ => (wB G a_s a_t a_ao a_bo a_uo a_go c_sort c_set ++ wT G a_t a_c a_mv a_fr a_br a_e0 a_e1 a_e2 a_e3 a_lo a_ho c_c c_cl c_mv c_ml c_en c_rt c_fr c_br c_fi c_st c_vz ++ wK G a_ao a_aq c_ab c_an c_at ++ wK G a_bo a_bq c_bb c_bn c_bt)) (zrunV (As := []) (rest := [.int 0]) ⟨hx, hb, hml, hown, hts⟩ hN hK (c_Store_behind l G H.size a_s a_t a_ao a_bo a_uo a_go a_c a_mv a_fr a_br a_e0 a_e1 a_e2 a_e3 a_lo a_ho a_aq c_sort c_set c_c c_cl c_mv c_ml c_en c_rt c_fr c_br c_fi c_st c_vz c_ab c_an c_at r1 hr1) ⟨rfl, rfl⟩ kv_Store_128 ⟨Nat.le_of_ble_eq_true rfl, Nat.le_of_ble_eq_true rfl⟩ 0 rfl rfl rfl hl.1 (Nat.le_of_ble_eq_true rfl) d_Store_range_2 ⟨Nat.le_of_ble_eq_true rfl, Nat.le_of_ble_eq_true rfl⟩) hP hD hS hA [0, 1, 2, 3, 4, 5, 6, 7, 8, 9, 10, 11] [12, 13] [2, 3, 4, 5, 6, 7, 8, 9, 10, 11, 12, 13, 0, 1] rfl rfl rfl rfl (by decide) rfl (fun _ => rfl) (fun rr _ H hw hP hD hS => ?_)
  have hw := hw.symm
  subst hw
  refine lv_aload_n hx hb d_Store_range_5 rfl (lv_at hl 0 rfl) ?_
  refine va_get (D := G.1) (ci := 5) (v := .ref a_t) (C := "BranchStore") (T := F_Store) (N := 7) hx hb hts i_Store hown hK hP 0 rfl rfl 1 (by decide) (hts _ k_173) (fun _ h9 => h9) rfl d_Store_range_6 ?_
  refine lv_aload_n hx hb d_Store_range_9 rfl (lv_at hl 0 rfl) ?_
  refine va_get (D := G.1) (ci := 5) (v := .ref a_bo) (C := "BranchStore") (T := F_Store) (N := 7) hx hb hts i_Store hown hK hP 0 rfl rfl 3 (by decide) (hts _ k_175) (fun _ h9 => h9) rfl d_Store_range_10 ?_
  obtain ⟨r2, hr2, h⟩ := ob h
  refine zpcalli (wr := [(a_s, .inr (5, [.int c_sort, .ref a_t, .ref a_ao, .ref a_bo, .ref a_uo, .int c_set, .ref a_go])), (a_ao, .inr (0, [.ref a_aq, .int c_an, .int c_at])), (a_aq, .inl (G.2.2.1, 50, .inl c_ab))]) (w2 := fun _ => (wB G a_s a_t a_ao a_bo a_uo a_go c_sort c_set ++ wT G a_t a_c a_mv a_fr a_br a_e0 a_e1 a_e2 a_e3 a_lo a_ho c_c c_cl c_mv c_ml c_en c_rt c_fr c_br c_fi c_st c_vz ++ wK G a_ao a_aq c_ab c_an c_at ++ wK G a_bo a_bq c_bb c_bn c_bt)) (zrunV (As := [.ref a_bo]) (rest := [.int r1, .int 0]) ⟨hx, hb, hml, hown, hts⟩ hN hK (c_Tree_rank l G H.size a_t a_c a_mv a_fr a_br a_e0 a_e1 a_e2 a_e3 a_lo a_ho a_bo a_bq c_c c_cl c_mv c_ml c_en c_rt c_fr c_br c_fi c_st c_vz c_bb c_bn c_bt r2 hr2) ⟨rfl, rfl⟩ kv_Store_42 ⟨Nat.le_of_ble_eq_true rfl, Nat.le_of_ble_eq_true rfl⟩ 0 rfl rfl rfl hl.1 (Nat.le_of_ble_eq_true rfl) d_Store_range_13 ⟨Nat.le_of_ble_eq_true rfl, Nat.le_of_ble_eq_true rfl⟩) hP hD hS hA [1, 2, 3, 4, 5, 6, 7, 8, 9, 12, 13] [0, 10, 11] [0, 3, 4, 5, 6, 7, 8, 9, 10, 11, 1, 2, 12, 13] rfl rfl rfl rfl (by decide) rfl (fun _ => rfl) (fun rr _ H hw hP hD hS => ?_)
  have hw := hw.symm
  subst hw
  refine lv_isub hx hb d_Store_range_16 ?_
  refine va_mmax hx hb (hml.trans hl.1.symm) hown (hts _ k_307) (hts _ k_308) (hts _ k_16) (hts _ k_309) (Nat.le_of_ble_eq_true rfl) (Nat.le_of_ble_eq_true rfl) (Nat.zero_le _) (Nat.zero_le _) d_Store_range_17 ?_
  obtain rfl := Option.some.inj h
  exact zreti () hQ hL hx hb hr hlocks hP hD hS rfl (Nat.le_refl _) (Nat.le_refl _) d_Store_range_20

noncomputable def s_Store_cut_25 (x1 : Int32) (x2 : Int32) (x3 : Int32) (c_c : (Nat → Int32)) (c_cl : Nat) (c_en : Int32) (c_rt : Int32) (c_fr : (Nat → Int32)) (c_br : (Nat → Int32)) (c_gb : (Nat → Int32)) (c_gn : Int32) (c_gt : Int32) : Option (((Int32 × (Nat → Int32) × Nat × Int32 × Int32 × (Nat → Int32) × (Nat → Int32) × (Nat → Int32) × Int32 × Int32) ⊕ ((Nat → Int32) × Nat × Int32 × Int32 × (Nat → Int32) × (Nat → Int32) × (Nat → Int32) × Int32 × Int32)) × Nat) :=
if x2 ≤ x3 then
(some (.inr (c_c, c_cl, c_en, c_rt, c_fr, c_br, c_gb, c_gn, c_gt), 0))
else
((f_Tree_select c_c c_cl c_rt x1).bind fun r20 =>
(f_Tree_tell c_c c_cl c_gb c_gn c_gt r20).bind fun r21 =>
bd (f_Tree_remove c_c c_cl c_en c_rt c_fr c_br r21.1) fun r22 =>
nm (x3 + 1) fun v25 =>
some (.inl (v25, r22.1, r22.2.1, r22.2.2.1, r22.2.2.2.1, r22.2.2.2.2.1, r22.2.2.2.2.2, r21.1, r21.2.1, r21.2.2), 0))
noncomputable def f_Store_cut (c_c : (Nat → Int32)) (c_cl : Nat) (c_en : Int32) (c_rt : Int32) (c_fr : (Nat → Int32)) (c_br : (Nat → Int32)) (c_ab : (Nat → Int32)) (c_an : Int32) (c_bb : (Nat → Int32)) (c_bn : Int32) (c_gb : (Nat → Int32)) (c_gn : Int32) (c_gt : Int32)  : Option ((Int32 × (Nat → Int32) × Nat × Int32 × Int32 × (Nat → Int32) × (Nat → Int32) × (Nat → Int32) × Int32 × Int32) × Nat) :=
(f_Tree_rank c_c c_cl c_rt c_bb c_bn).bind fun r1 =>
(f_Store_behind c_c c_cl c_rt c_ab c_an).bind fun r2 =>
nm (if 0 < (r2 - r1) then (r2 - r1) else 0) fun v3 =>
bd (lpD (fun v => s_Store_cut_25 r1 v3 v.1 v.2.1 v.2.2.1 v.2.2.2.1 v.2.2.2.2.1 v.2.2.2.2.2.1 v.2.2.2.2.2.2.1 v.2.2.2.2.2.2.2.1 v.2.2.2.2.2.2.2.2.1 v.2.2.2.2.2.2.2.2.2) (0, c_c, c_cl, c_en, c_rt, c_fr, c_br, c_gb, c_gn, c_gt)) fun y35 =>
some ((v3, y35.1, y35.2.1, y35.2.2.1, y35.2.2.2.1, y35.2.2.2.2.1, y35.2.2.2.2.2.1, y35.2.2.2.2.2.2.1, y35.2.2.2.2.2.2.2.1, y35.2.2.2.2.2.2.2.2), 0)
set_option maxHeartbeats 8000000 in
set_option maxRecDepth 100000 in
theorem c_Store_cut (l : Launch) (G : zG) (sz : Nat) (a_s a_t a_ao a_bo a_uo a_go a_c a_mv a_fr a_br a_e0 a_e1 a_e2 a_e3 a_lo a_ho a_aq a_bq a_gq : Nat) (c_sort : Int32) (c_set : Int32) (c_c : (Nat → Int32)) (c_cl : Nat) (c_mv : (Nat → Int32)) (c_ml : Nat) (c_en : Int32) (c_rt : Int32) (c_fr : (Nat → Int32)) (c_br : (Nat → Int32)) (c_fi : Int64) (c_st : Int64) (c_vz : Int64) (c_ab : (Nat → Int32)) (c_an : Int32) (c_at : Int32) (c_bb : (Nat → Int32)) (c_bn : Int32) (c_bt : Int32) (c_gb : (Nat → Int32)) (c_gn : Int32) (c_gt : Int32) (r0 : (Int32 × (Nat → Int32) × Nat × Int32 × Int32 × (Nat → Int32) × (Nat → Int32) × (Nat → Int32) × Int32 × Int32)) (rc : Nat) (hf : f_Store_cut c_c c_cl c_en c_rt c_fr c_br c_ab c_an c_bb c_bn c_gb c_gn c_gt = some (r0, rc)) :
    Met l y_Store_cut (Cond.code y_Store_cut prog_1_method_24_code 4 (some .int) :: lw_ok) { frames := 8, cells := rc, slots := 1024 * rc, locals := 185 } (zPc G sz [.ref a_s] (wB G a_s a_t a_ao a_bo a_uo a_go c_sort c_set ++ wT G a_t a_c a_mv a_fr a_br a_e0 a_e1 a_e2 a_e3 a_lo a_ho c_c c_cl c_mv c_ml c_en c_rt c_fr c_br c_fi c_st c_vz ++ wK G a_ao a_aq c_ab c_an c_at ++ wK G a_bo a_bq c_bb c_bn c_bt ++ wK G a_go a_gq c_gb c_gn c_gt))
      ((fun (A : Nat → Prop) => va_Qi (fun (r : Int32) (u : Nat × Nat) => r = r0.1) (fun u t => zB G A (wB G a_s a_t a_ao a_bo a_uo a_go c_sort c_set ++ wT G a_t u.1 u.2 a_fr a_br a_e0 a_e1 a_e2 a_e3 a_lo a_ho r0.2.1 r0.2.2.1 c_mv c_ml r0.2.2.2.1 r0.2.2.2.2.1 r0.2.2.2.2.2.1 r0.2.2.2.2.2.2.1 c_fi c_st c_vz ++ wK G a_ao a_aq c_ab c_an c_at ++ wK G a_bo a_bq c_bb c_bn c_bt ++ wK G a_go a_gq r0.2.2.2.2.2.2.2.1 r0.2.2.2.2.2.2.2.2.1 r0.2.2.2.2.2.2.2.2.2) t) A) (va_A (wB G a_s a_t a_ao a_bo a_uo a_go c_sort c_set ++ wT G a_t a_c a_mv a_fr a_br a_e0 a_e1 a_e2 a_e3 a_lo a_ho c_c c_cl c_mv c_ml c_en c_rt c_fr c_br c_fi c_st c_vz ++ wK G a_ao a_aq c_ab c_an c_at ++ wK G a_bo a_bq c_bb c_bn c_bt ++ wK G a_go a_gq c_gb c_gn c_gt) sz)) rc (1024 * rc) (va_A (wB G a_s a_t a_ao a_bo a_uo a_go c_sort c_set ++ wT G a_t a_c a_mv a_fr a_br a_e0 a_e1 a_e2 a_e3 a_lo a_ho c_c c_cl c_mv c_ml c_en c_rt c_fr c_br c_fi c_st c_vz ++ wK G a_ao a_aq c_ab c_an c_at ++ wK G a_bo a_bq c_bb c_bn c_bt ++ wK G a_go a_gq c_gb c_gn c_gt) sz) := by
  refine zMet (Qc := fun (A : Nat → Prop) => va_Qi (fun (r : Int32) (u : Nat × Nat) => r = r0.1) (fun u t => zB G A (wB G a_s a_t a_ao a_bo a_uo a_go c_sort c_set ++ wT G a_t u.1 u.2 a_fr a_br a_e0 a_e1 a_e2 a_e3 a_lo a_ho r0.2.1 r0.2.2.1 c_mv c_ml r0.2.2.2.1 r0.2.2.2.2.1 r0.2.2.2.2.2.1 r0.2.2.2.2.2.2.1 c_fi c_st c_vz ++ wK G a_ao a_aq c_ab c_an c_at ++ wK G a_bo a_bq c_bb c_bn c_bt ++ wK G a_go a_gq r0.2.2.2.2.2.2.2.1 r0.2.2.2.2.2.2.2.2.1 r0.2.2.2.2.2.2.2.2.2) t) A) (by decide) (Nat.le_of_ble_eq_true rfl) (fun xp xe xs xm xb xme xc A ls Q H locs C hN hK hP hD hS hA hl hQ => ?_)
  obtain ⟨hx, hb, hr, hts, hown, hlocks, hml, hin⟩ := C
  have hl : lv_has ls 4 [(0, .ref a_s)] := hl
  have h := hf
  unfold f_Store_cut at h
  have hRa : r0 = (r0, rc).1 := rfl
  have hRc : rc = 0 + (r0, rc).2 := (Nat.zero_add _).symm
  refine W.widen (k := 0) (n := 1024 * 0) (Nat.le_refl _) (Nat.le_refl _) ?_
  refine lv_aload_n hx hb d_Store_cut_0 rfl (lv_at hl 0 rfl) ?_
  refine va_get (D := G.1) (ci := 5) (v := .ref a_t) (C := "BranchStore") (T := F_Store) (N := 7) hx hb hts i_Store hown hK hP 0 rfl rfl 1 (by decide) (hts _ k_173) (fun _ h9 => h9) rfl d_Store_cut_1 ?_
  refine lv_aload_n hx hb d_Store_cut_4 rfl (lv_at hl 0 rfl) ?_
  refine va_get (D := G.1) (ci := 5) (v := .ref a_bo) (C := "BranchStore") (T := F_Store) (N := 7) hx hb hts i_Store hown hK hP 0 rfl rfl 3 (by decide) (hts _ k_175) (fun _ h9 => h9) rfl d_Store_cut_5 ?_
  obtain ⟨r1, hr1, h⟩ := ob h
  refine zpcalli (wr := [(a_s, .inr (5, [.int c_sort, .ref a_t, .ref a_ao, .ref a_bo, .ref a_uo, .int c_set, .ref a_go])), (a_ao, .inr (0, [.ref a_aq, .int c_an, .int c_at])), (a_aq, .inl (G.2.2.1, 50, .inl c_ab)), (a_go, .inr (0, [.ref a_gq, .int c_gn, .int c_gt])), (a_gq, .inl (G.2.2.1, 50, .inl c_gb))]) (w2 := fun _ => (wB G a_s a_t a_ao a_bo a_uo a_go c_sort c_set ++ wT G a_t a_c a_mv a_fr a_br a_e0 a_e1 a_e2 a_e3 a_lo a_ho c_c c_cl c_mv c_ml c_en c_rt c_fr c_br c_fi c_st c_vz ++ wK G a_ao a_aq c_ab c_an c_at ++ wK G a_bo a_bq c_bb c_bn c_bt ++ wK G a_go a_gq c_gb c_gn c_gt)) (zrunV (As := [.ref a_bo]) (rest := []) ⟨hx, hb, hml, hown, hts⟩ hN hK (c_Tree_rank l G H.size a_t a_c a_mv a_fr a_br a_e0 a_e1 a_e2 a_e3 a_lo a_ho a_bo a_bq c_c c_cl c_mv c_ml c_en c_rt c_fr c_br c_fi c_st c_vz c_bb c_bn c_bt r1 hr1) ⟨rfl, rfl⟩ kv_Store_42 ⟨Nat.le_of_ble_eq_true rfl, Nat.le_of_ble_eq_true rfl⟩ 0 rfl rfl rfl hl.1 (Nat.le_of_ble_eq_true rfl) d_Store_cut_8 ⟨by show _ ≤ rc; omega, by show _ ≤ 1024 * rc; omega⟩) hP hD hS hA [1, 2, 3, 4, 5, 6, 7, 8, 9, 12, 13] [0, 10, 11, 14, 15] [0, 5, 6, 7, 8, 9, 10, 11, 12, 13, 1, 2, 14, 15, 3, 4] rfl rfl rfl rfl (by decide) rfl (fun _ => rfl) (fun rr _ H hw hP hD hS => ?_)
  have hw := hw.symm
  subst hw
  refine lv_istore_n (lv' := [(1, .int r1), (0, .ref a_s)]) hx hb d_Store_cut_11 rfl hl (by decide) rfl (fun ls hl => ?_)
  refine lv_iconst (v := 0) hx hb d_Store_cut_12 (by decide) ?_
  refine lv_aload_n hx hb d_Store_cut_13 rfl (lv_at hl 1 rfl) ?_
  obtain ⟨r2, hr2, h⟩ := ob h
  refine zpcalli (wr := [(a_bo, .inr (0, [.ref a_bq, .int c_bn, .int c_bt])), (a_bq, .inl (G.2.2.1, 50, .inl c_bb)), (a_go, .inr (0, [.ref a_gq, .int c_gn, .int c_gt])), (a_gq, .inl (G.2.2.1, 50, .inl c_gb))]) (w2 := fun _ => (wB G a_s a_t a_ao a_bo a_uo a_go c_sort c_set ++ wT G a_t a_c a_mv a_fr a_br a_e0 a_e1 a_e2 a_e3 a_lo a_ho c_c c_cl c_mv c_ml c_en c_rt c_fr c_br c_fi c_st c_vz ++ wK G a_ao a_aq c_ab c_an c_at ++ wK G a_bo a_bq c_bb c_bn c_bt ++ wK G a_go a_gq c_gb c_gn c_gt)) (zrunV (As := []) (rest := [.int 0]) ⟨hx, hb, hml, hown, hts⟩ hN hK (c_Store_behind l G H.size a_s a_t a_ao a_bo a_uo a_go a_c a_mv a_fr a_br a_e0 a_e1 a_e2 a_e3 a_lo a_ho a_aq c_sort c_set c_c c_cl c_mv c_ml c_en c_rt c_fr c_br c_fi c_st c_vz c_ab c_an c_at r2 hr2) ⟨rfl, rfl⟩ kv_Store_128 ⟨Nat.le_of_ble_eq_true rfl, Nat.le_of_ble_eq_true rfl⟩ 0 rfl rfl rfl hl.1 (Nat.le_of_ble_eq_true rfl) d_Store_cut_14 ⟨by show _ ≤ rc; omega, by show _ ≤ 1024 * rc; omega⟩) hP hD hS hA [0, 1, 2, 3, 4, 5, 6, 7, 8, 9, 10, 11] [12, 13, 14, 15] [4, 5, 6, 7, 8, 9, 10, 11, 12, 13, 14, 15, 0, 1, 2, 3] rfl rfl rfl rfl (by decide) rfl (fun _ => rfl) (fun rr _ H hw hP hD hS => ?_)
  have hw := hw.symm
  subst hw
  refine lv_iload_n hx hb d_Store_cut_17 rfl (lv_at hl 0 rfl) ?_
  refine lv_isub hx hb d_Store_cut_18 ?_
  refine va_mmax hx hb (hml.trans hl.1.symm) hown (hts _ k_307) (hts _ k_308) (hts _ k_16) (hts _ k_309) (Nat.le_of_ble_eq_true rfl) (Nat.le_of_ble_eq_true rfl) (by show _ ≤ rc; omega) (by show _ ≤ 1024 * rc; omega) d_Store_cut_19 ?_
  refine lv_topi (fun v3 ev3 => ?_)
  have h := nm_k h v3 ev3
  refine lv_istore_n (lv' := [(2, .int v3), (1, .int r1), (0, .ref a_s)]) hx hb d_Store_cut_22 rfl hl (by decide) rfl (fun ls hl => ?_)
  refine lv_iconst (v := 0) hx hb d_Store_cut_23 (by decide) ?_
  refine lv_istore_n (lv' := [(3, .int 0), (2, .int v3), (1, .int r1), (0, .ref a_s)]) hx hb d_Store_cut_24 rfl hl (by decide) rfl (fun ls hl => ?_)
  obtain ⟨y17, dy17, y18, hy17, h, hRa, hRc⟩ := bd_k h hRa hRc
  have hRo := hRc
  have E25 : ∀ (z26 : (Nat → Int32)) (z27 : Nat) (z28 : Int32) (z29 : Int32) (z30 : (Nat → Int32)) (z31 : (Nat → Int32)) (z32 : (Nat → Int32)) (z33 : Int32) (z34 : Int32), (z26, z27, z28, z29, z30, z31, z32, z33, z34) = y17 → ∀ (a36 a37 : Nat) (H : Heap) (locs : List Loc) (ls : Array Slot), va_P G.1 classes (wB G a_s a_t a_ao a_bo a_uo a_go c_sort c_set ++ wT G a_t a36 a37 a_fr a_br a_e0 a_e1 a_e2 a_e3 a_lo a_ho z26 z27 c_mv c_ml z28 z29 z30 z31 c_fi c_st c_vz ++ wK G a_ao a_aq c_ab c_an c_at ++ wK G a_bo a_bq c_bb c_bn c_bt ++ wK G a_go a_gq z32 z33 z34) H → va_D A (wB G a_s a_t a_ao a_bo a_uo a_go c_sort c_set ++ wT G a_t a36 a37 a_fr a_br a_e0 a_e1 a_e2 a_e3 a_lo a_ho z26 z27 c_mv c_ml z28 z29 z30 z31 c_fi c_st c_vz ++ wK G a_ao a_aq c_ab c_an c_at ++ wK G a_bo a_bq c_bb c_bn c_bt ++ wK G a_go a_gq z32 z33 z34) → va_S A xs.heap H locs → lv_has ls 4 [(2, .int v3)] → W xp l xe { frames := 8, cells := rc, slots := 1024 * rc, locals := 185 } xs xm ([.ref a_s] : List Value).toArray xb xme xc H locs (0 + dy17) (1024 * (0 + dy17)) Q (F0 xm 66 ls []) := by
    intro z26 z27 z28 z29 z30 z31 z32 z33 z34 ey a36 a37 H locs ls hP hD hS hl
    subst ey
    try dsimp only at h
    refine lv_iload_n hx hb d_Store_cut_66 rfl (lv_at hl 0 rfl) ?_
    have ey := Option.some.inj h
    rw [← ey] at hRa hRc
    have hRa : r0 = (v3, z26, z27, z28, z29, z30, z31, z32, z33, z34) := hRa
    have hRc : rc = 0 + dy17 + 0 := hRc
    subst hRa
    exact zreti (a36, a37) hQ hS.2.2 hx hb hr hlocks hP hD hS rfl (by omega) (by omega) d_Store_cut_67
  have L25 : ∀ v : (Int32 × (Nat → Int32) × Nat × Int32 × Int32 × (Nat → Int32) × (Nat → Int32) × (Nat → Int32) × Int32 × Int32), lpD (fun v => s_Store_cut_25 r1 v3 v.1 v.2.1 v.2.2.1 v.2.2.2.1 v.2.2.2.2.1 v.2.2.2.2.2.1 v.2.2.2.2.2.2.1 v.2.2.2.2.2.2.2.1 v.2.2.2.2.2.2.2.2.1 v.2.2.2.2.2.2.2.2.2) v = some (y17, dy17) → (fun (v : (Int32 × (Nat → Int32) × Nat × Int32 × Int32 × (Nat → Int32) × (Nat → Int32) × (Nat → Int32) × Int32 × Int32)) (e9 : Nat) => ∀ (k16 : Nat), rc = k16 + e9 + y18.2 → ∀ (a14 a15 : Nat) (H : Heap) (locs : List Loc) (ls : Array Slot), va_P G.1 classes (wB G a_s a_t a_ao a_bo a_uo a_go c_sort c_set ++ wT G a_t a14 a15 a_fr a_br a_e0 a_e1 a_e2 a_e3 a_lo a_ho v.2.1 v.2.2.1 c_mv c_ml v.2.2.2.1 v.2.2.2.2.1 v.2.2.2.2.2.1 v.2.2.2.2.2.2.1 c_fi c_st c_vz ++ wK G a_ao a_aq c_ab c_an c_at ++ wK G a_bo a_bq c_bb c_bn c_bt ++ wK G a_go a_gq v.2.2.2.2.2.2.2.1 v.2.2.2.2.2.2.2.2.1 v.2.2.2.2.2.2.2.2.2) H → va_D A (wB G a_s a_t a_ao a_bo a_uo a_go c_sort c_set ++ wT G a_t a14 a15 a_fr a_br a_e0 a_e1 a_e2 a_e3 a_lo a_ho v.2.1 v.2.2.1 c_mv c_ml v.2.2.2.1 v.2.2.2.2.1 v.2.2.2.2.2.1 v.2.2.2.2.2.2.1 c_fi c_st c_vz ++ wK G a_ao a_aq c_ab c_an c_at ++ wK G a_bo a_bq c_bb c_bn c_bt ++ wK G a_go a_gq v.2.2.2.2.2.2.2.1 v.2.2.2.2.2.2.2.2.1 v.2.2.2.2.2.2.2.2.2) → va_S A xs.heap H locs → lv_has ls 4 [(0, .ref a_s), (1, .int r1), (2, .int v3), (3, .int v.1)] → W xp l xe { frames := 8, cells := rc, slots := 1024 * rc, locals := 185 } xs xm ([.ref a_s] : List Value).toArray xb xme xc H locs (k16) (1024 * (k16)) Q (F0 xm 25 ls [])) v dy17 := by
    refine lpD_walk (fun (v : (Int32 × (Nat → Int32) × Nat × Int32 × Int32 × (Nat → Int32) × (Nat → Int32) × (Nat → Int32) × Int32 × Int32)) (e9 : Nat) => ∀ (k16 : Nat), rc = k16 + e9 + y18.2 → ∀ (a14 a15 : Nat) (H : Heap) (locs : List Loc) (ls : Array Slot), va_P G.1 classes (wB G a_s a_t a_ao a_bo a_uo a_go c_sort c_set ++ wT G a_t a14 a15 a_fr a_br a_e0 a_e1 a_e2 a_e3 a_lo a_ho v.2.1 v.2.2.1 c_mv c_ml v.2.2.2.1 v.2.2.2.2.1 v.2.2.2.2.2.1 v.2.2.2.2.2.2.1 c_fi c_st c_vz ++ wK G a_ao a_aq c_ab c_an c_at ++ wK G a_bo a_bq c_bb c_bn c_bt ++ wK G a_go a_gq v.2.2.2.2.2.2.2.1 v.2.2.2.2.2.2.2.2.1 v.2.2.2.2.2.2.2.2.2) H → va_D A (wB G a_s a_t a_ao a_bo a_uo a_go c_sort c_set ++ wT G a_t a14 a15 a_fr a_br a_e0 a_e1 a_e2 a_e3 a_lo a_ho v.2.1 v.2.2.1 c_mv c_ml v.2.2.2.1 v.2.2.2.2.1 v.2.2.2.2.2.1 v.2.2.2.2.2.2.1 c_fi c_st c_vz ++ wK G a_ao a_aq c_ab c_an c_at ++ wK G a_bo a_bq c_bb c_bn c_bt ++ wK G a_go a_gq v.2.2.2.2.2.2.2.1 v.2.2.2.2.2.2.2.2.1 v.2.2.2.2.2.2.2.2.2) → va_S A xs.heap H locs → lv_has ls 4 [(0, .ref a_s), (1, .int r1), (2, .int v3), (3, .int v.1)] → W xp l xe { frames := 8, cells := rc, slots := 1024 * rc, locals := 185 } xs xm ([.ref a_s] : List Value).toArray xb xme xc H locs (k16) (1024 * (k16)) Q (F0 xm 25 ls [])) (fun v x9 d9 e9 h hc he hde => ?_)
    obtain ⟨x3_4, c5, c6, c7, c8, c9, c10, c11, c12, c13⟩ := v
    intro k16 hk9 a14 a15 H locs ls hP hD hS hl
    have h : s_Store_cut_25 r1 v3 x3_4 c5 c6 c7 c8 c9 c10 c11 c12 c13 = some (x9, d9) := h
    unfold s_Store_cut_25 at h
    have hRa : x9 = (x9, d9).1 := rfl
    have hRc : k16 + d9 = k16 + (x9, d9).2 := rfl
    refine lv_iload_n hx hb d_Store_cut_25 rfl (lv_at hl 3 rfl) ?_
    refine lv_iload_n hx hb d_Store_cut_26 rfl (lv_at hl 2 rfl) ?_
    refine lv_icmp_ge (tgt := 66) hx hb d_Store_cut_27 (by decide) (fun q19 => ?_) (fun q19 => ?_)
    · have h := it h q19
      have ey := Option.some.inj h
      rw [← ey] at hRa hRc
      have hRc : k16 + d9 = k16 + 0 := hRc
      obtain ⟨ey2, ed9⟩ := he _ hRa
      refine W.widen (k := 0 + dy17) (n := 1024 * (0 + dy17)) (by omega) (by omega) ?_
      exact E25 c5 c6 c7 c8 c9 c10 c11 c12 c13 ey2 a14 a15 H locs ls hP hD hS (lv_sub hl [2] rfl)
    · have h := ie h q19
      refine lv_aload_n hx hb d_Store_cut_30 rfl (lv_at hl 0 rfl) ?_
      refine va_get (D := G.1) (ci := 5) (v := .ref a_t) (C := "BranchStore") (T := F_Store) (N := 7) hx hb hts i_Store hown hK hP 0 rfl rfl 1 (by decide) (hts _ k_173) (fun _ h9 => h9) rfl d_Store_cut_31 ?_
      refine lv_aload_n hx hb d_Store_cut_34 rfl (lv_at hl 0 rfl) ?_
      refine va_get (D := G.1) (ci := 5) (v := .ref a_t) (C := "BranchStore") (T := F_Store) (N := 7) hx hb hts i_Store hown hK hP 0 rfl rfl 1 (by decide) (hts _ k_173) (fun _ h9 => h9) rfl d_Store_cut_35 ?_
      refine lv_iload_n hx hb d_Store_cut_38 rfl (lv_at hl 1 rfl) ?_
      obtain ⟨r20, hr20, h⟩ := ob h
      refine zpcalli (wr := [(a_s, .inr (5, [.int c_sort, .ref a_t, .ref a_ao, .ref a_bo, .ref a_uo, .int c_set, .ref a_go])), (a_ao, .inr (0, [.ref a_aq, .int c_an, .int c_at])), (a_aq, .inl (G.2.2.1, 50, .inl c_ab)), (a_bo, .inr (0, [.ref a_bq, .int c_bn, .int c_bt])), (a_bq, .inl (G.2.2.1, 50, .inl c_bb)), (a_go, .inr (0, [.ref a_gq, .int c12, .int c13])), (a_gq, .inl (G.2.2.1, 50, .inl c11))]) (w2 := fun _ => (wB G a_s a_t a_ao a_bo a_uo a_go c_sort c_set ++ wT G a_t a14 a15 a_fr a_br a_e0 a_e1 a_e2 a_e3 a_lo a_ho c5 c6 c_mv c_ml c7 c8 c9 c10 c_fi c_st c_vz ++ wK G a_ao a_aq c_ab c_an c_at ++ wK G a_bo a_bq c_bb c_bn c_bt ++ wK G a_go a_gq c11 c12 c13)) (zrunV (As := [.int r1]) (rest := [.ref a_t]) ⟨hx, hb, hml, hown, hts⟩ hN hK (c_Tree_select l G H.size a_t a14 a15 a_fr a_br a_e0 a_e1 a_e2 a_e3 a_lo a_ho c5 c6 c_mv c_ml c7 c8 c9 c10 c_fi c_st c_vz r1 r20 hr20) ⟨rfl, rfl⟩ kv_Store_31 ⟨Nat.le_of_ble_eq_true rfl, Nat.le_of_ble_eq_true rfl⟩ 0 rfl rfl rfl hl.1 (Nat.le_of_ble_eq_true rfl) d_Store_cut_39 ⟨by show _ ≤ rc; omega, by show _ ≤ 1024 * rc; omega⟩) hP hD hS hA [1, 2, 3, 4, 5, 6, 7, 8, 9] [0, 10, 11, 12, 13, 14, 15] [0, 7, 8, 9, 10, 11, 12, 13, 14, 15, 1, 2, 3, 4, 5, 6] rfl rfl rfl rfl (by decide) rfl (fun _ => rfl) (fun rr _ H hw hP hD hS => ?_)
      have hw := hw.symm
      subst hw
      refine lv_aload_n hx hb d_Store_cut_42 rfl (lv_at hl 0 rfl) ?_
      refine va_get (D := G.1) (ci := 5) (v := .ref a_go) (C := "BranchStore") (T := F_Store) (N := 7) hx hb hts i_Store hown hK hP 0 rfl rfl 6 (by decide) (hts _ k_178) (fun _ h9 => h9) rfl d_Store_cut_43 ?_
      obtain ⟨r21, hr21, h⟩ := ob h
      refine zcallv (wr := [(a_s, .inr (5, [.int c_sort, .ref a_t, .ref a_ao, .ref a_bo, .ref a_uo, .int c_set, .ref a_go])), (a_ao, .inr (0, [.ref a_aq, .int c_an, .int c_at])), (a_aq, .inl (G.2.2.1, 50, .inl c_ab)), (a_bo, .inr (0, [.ref a_bq, .int c_bn, .int c_bt])), (a_bq, .inl (G.2.2.1, 50, .inl c_bb))]) (w2 := fun _ => (wB G a_s a_t a_ao a_bo a_uo a_go c_sort c_set ++ wT G a_t a14 a15 a_fr a_br a_e0 a_e1 a_e2 a_e3 a_lo a_ho c5 c6 c_mv c_ml c7 c8 c9 c10 c_fi c_st c_vz ++ wK G a_ao a_aq c_ab c_an c_at ++ wK G a_bo a_bq c_bb c_bn c_bt ++ wK G a_go a_gq r21.1 r21.2.1 r21.2.2)) (zrunV (As := [.int r20, .ref a_go]) (rest := []) ⟨hx, hb, hml, hown, hts⟩ hN hK (c_Tree_tell l G H.size a_t a14 a15 a_fr a_br a_e0 a_e1 a_e2 a_e3 a_lo a_ho a_go a_gq c5 c6 c_mv c_ml c7 c8 c9 c10 c_fi c_st c_vz c11 c12 c13 r20 r21 hr21) ⟨rfl, rfl⟩ kv_Store_35 ⟨Nat.le_of_ble_eq_true rfl, Nat.le_of_ble_eq_true rfl⟩ 0 rfl rfl rfl hl.1 (Nat.le_of_ble_eq_true rfl) d_Store_cut_46 ⟨by show _ ≤ rc; omega, by show _ ≤ 1024 * rc; omega⟩) hP hD hS hA [1, 2, 3, 4, 5, 6, 7, 8, 9, 14, 15] [0, 10, 11, 12, 13] [0, 5, 6, 7, 8, 9, 10, 11, 12, 13, 1, 2, 3, 4, 14, 15] rfl rfl rfl rfl (by decide) rfl (fun _ => rfl) (fun _ H locs _ hP hD hS => ?_)
      refine lv_aload_n hx hb d_Store_cut_49 rfl (lv_at hl 0 rfl) ?_
      refine va_get (D := G.1) (ci := 5) (v := .ref a_t) (C := "BranchStore") (T := F_Store) (N := 7) hx hb hts i_Store hown hK hP 0 rfl rfl 1 (by decide) (hts _ k_173) (fun _ h9 => h9) rfl d_Store_cut_50 ?_
      refine lv_aload_n hx hb d_Store_cut_53 rfl (lv_at hl 0 rfl) ?_
      refine va_get (D := G.1) (ci := 5) (v := .ref a_go) (C := "BranchStore") (T := F_Store) (N := 7) hx hb hts i_Store hown hK hP 0 rfl rfl 6 (by decide) (hts _ k_178) (fun _ h9 => h9) rfl d_Store_cut_54 ?_
      obtain ⟨r22, dr22, y23, hr22, h, hRa, hRc⟩ := bd_k h hRa hRc
      refine zcallv (wr := [(a_s, .inr (5, [.int c_sort, .ref a_t, .ref a_ao, .ref a_bo, .ref a_uo, .int c_set, .ref a_go])), (a_ao, .inr (0, [.ref a_aq, .int c_an, .int c_at])), (a_aq, .inl (G.2.2.1, 50, .inl c_ab)), (a_bo, .inr (0, [.ref a_bq, .int c_bn, .int c_bt])), (a_bq, .inl (G.2.2.1, 50, .inl c_bb))]) (w2 := fun (u24 : Nat × Nat) => (wB G a_s a_t a_ao a_bo a_uo a_go c_sort c_set ++ wT G a_t u24.1 u24.2 a_fr a_br a_e0 a_e1 a_e2 a_e3 a_lo a_ho r22.1 r22.2.1 c_mv c_ml r22.2.2.1 r22.2.2.2.1 r22.2.2.2.2.1 r22.2.2.2.2.2 c_fi c_st c_vz ++ wK G a_ao a_aq c_ab c_an c_at ++ wK G a_bo a_bq c_bb c_bn c_bt ++ wK G a_go a_gq r21.1 r21.2.1 r21.2.2)) (zrunV (As := [.ref a_go]) (rest := []) ⟨hx, hb, hml, hown, hts⟩ hN hK (c_Tree_remove l G H.size a_t a14 a15 a_fr a_br a_e0 a_e1 a_e2 a_e3 a_lo a_ho a_go a_gq c5 c6 c_mv c_ml c7 c8 c9 c10 c_fi c_st c_vz r21.1 r21.2.1 r21.2.2 r22 dr22 hr22) ⟨rfl, rfl⟩ kv_Store_108 ⟨Nat.le_of_ble_eq_true rfl, Nat.le_of_ble_eq_true rfl⟩ 0 rfl rfl rfl hl.1 (Nat.le_of_ble_eq_true rfl) d_Store_cut_57 ⟨by show _ ≤ rc; omega, by show _ ≤ 1024 * rc; omega⟩) hP hD hS hA [1, 2, 3, 4, 5, 6, 7, 8, 9, 14, 15] [0, 10, 11, 12, 13] [0, 5, 6, 7, 8, 9, 10, 11, 12, 13, 1, 2, 3, 4, 14, 15] rfl rfl rfl rfl (by decide) rfl (fun _ => rfl) (fun u24 H locs _ hP hD hS => ?_)
      refine W.widen (k := k16 + dr22) (n := 1024 * (k16 + dr22)) (by omega) (by omega) ?_
      obtain ⟨v25, ev25⟩ : ∃ y : Int32, y = x3_4 + 1 := ⟨_, rfl⟩
      have h := nm_k h v25 ev25
      refine lv_iinc (v := v25) (lv' := [(3, .int v25), (0, .ref a_s), (1, .int r1), (2, .int v3)]) hx hb d_Store_cut_60 hl (k := 3) rfl (by rw [ev25]; rfl) (by decide) rfl (fun ls hl => ?_)
      refine lv_goto (tgt := 25) hx hb d_Store_cut_63 (by decide) ?_
      have ey := Option.some.inj h
      rw [← ey] at hRa hRc
      have hRc : k16 + d9 = k16 + dr22 + 0 := hRc
      obtain ⟨e8, he8, hP8⟩ := hc _ hRa
      exact hP8 (k16 + dr22) (by omega) u24.1 u24.2 H locs ls hP hD hS (lv_sub hl [1, 2, 3, 0] rfl)
  exact L25 _ hy17 (0) hRo a_c a_mv _ _ ls hP hD hS (lv_sub hl [3, 2, 1, 0] rfl)

theorem kv_Store_140 : zKV "BranchStore" 140 y_Tree_begins prog_7_method_24_code 5 (some .int) 2 := ⟨k_697, k_698, k_699, k_2, k_700, by decide +kernel⟩
noncomputable def f_Store_begins (c_sort : Int32) (c_c : (Nat → Int32)) (c_cl : Nat) (c_rt : Int32) (c_ab : (Nat → Int32)) (c_an : Int32)  : Option ((Nat ⊕ Int32) × Nat) :=
if c_sort = 2 then
(nx <|
(f_Tree_begins c_c c_cl c_rt c_ab c_an (c_an - 2)).bind fun r3 =>
some (r3, 0))
else
(some (.inl 0, 1))
set_option maxHeartbeats 8000000 in
set_option maxRecDepth 100000 in
theorem c_Store_begins (l : Launch) (G : zG) (sz : Nat) (a_s a_t a_ao a_bo a_uo a_go a_c a_mv a_fr a_br a_e0 a_e1 a_e2 a_e3 a_lo a_ho a_aq : Nat) (c_sort : Int32) (c_set : Int32) (c_c : (Nat → Int32)) (c_cl : Nat) (c_mv : (Nat → Int32)) (c_ml : Nat) (c_en : Int32) (c_rt : Int32) (c_fr : (Nat → Int32)) (c_br : (Nat → Int32)) (c_fi : Int64) (c_st : Int64) (c_vz : Int64) (c_ab : (Nat → Int32)) (c_an : Int32) (c_at : Int32) (r0 : Int32) (rc : Nat) (hf : f_Store_begins c_sort c_c c_cl c_rt c_ab c_an = some (.inr r0, rc)) :
    Met l y_Store_begins (Cond.code y_Store_begins prog_1_method_25_code 1 (some .int) :: lw_ok) { frames := 6, cells := rc, slots := 1024 * rc, locals := 140 } (zPc G sz [.ref a_s] (wB G a_s a_t a_ao a_bo a_uo a_go c_sort c_set ++ wT G a_t a_c a_mv a_fr a_br a_e0 a_e1 a_e2 a_e3 a_lo a_ho c_c c_cl c_mv c_ml c_en c_rt c_fr c_br c_fi c_st c_vz ++ wK G a_ao a_aq c_ab c_an c_at))
      ((fun (A : Nat → Prop) => va_Qi (fun (r : Int32) (u : Nat × Nat) => r = r0) (fun u t => zB G A (wB G a_s a_t a_ao a_bo a_uo a_go c_sort c_set ++ wT G a_t u.1 u.2 a_fr a_br a_e0 a_e1 a_e2 a_e3 a_lo a_ho c_c c_cl c_mv c_ml c_en c_rt c_fr c_br c_fi c_st c_vz ++ wK G a_ao a_aq c_ab c_an c_at) t) A) (va_A (wB G a_s a_t a_ao a_bo a_uo a_go c_sort c_set ++ wT G a_t a_c a_mv a_fr a_br a_e0 a_e1 a_e2 a_e3 a_lo a_ho c_c c_cl c_mv c_ml c_en c_rt c_fr c_br c_fi c_st c_vz ++ wK G a_ao a_aq c_ab c_an c_at) sz)) rc (1024 * rc) (va_A (wB G a_s a_t a_ao a_bo a_uo a_go c_sort c_set ++ wT G a_t a_c a_mv a_fr a_br a_e0 a_e1 a_e2 a_e3 a_lo a_ho c_c c_cl c_mv c_ml c_en c_rt c_fr c_br c_fi c_st c_vz ++ wK G a_ao a_aq c_ab c_an c_at) sz) := by
  refine zMet (Qc := fun (A : Nat → Prop) => va_Qi (fun (r : Int32) (u : Nat × Nat) => r = r0) (fun u t => zB G A (wB G a_s a_t a_ao a_bo a_uo a_go c_sort c_set ++ wT G a_t u.1 u.2 a_fr a_br a_e0 a_e1 a_e2 a_e3 a_lo a_ho c_c c_cl c_mv c_ml c_en c_rt c_fr c_br c_fi c_st c_vz ++ wK G a_ao a_aq c_ab c_an c_at) t) A) (by decide) (Nat.le_of_ble_eq_true rfl) (fun xp xe xs xm xb xme xc A ls Q H locs C hN hK hP hD hS hA hl hQ => ?_)
  obtain ⟨hx, hb, hr, hts, hown, hlocks, hml, hin⟩ := C
  have hl : lv_has ls 1 [(0, .ref a_s)] := hl
  have h := hf
  unfold f_Store_begins at h
  have hRa : (Sum.inr r0 : Nat ⊕ Int32) = ((Sum.inr r0, rc) : (Nat ⊕ Int32) × Nat).1 := rfl
  have hRc : rc = 0 + ((Sum.inr r0, rc) : (Nat ⊕ Int32) × Nat).2 := (Nat.zero_add _).symm
  refine W.widen (k := 0) (n := 1024 * 0) (Nat.le_refl _) (Nat.le_refl _) ?_
  refine lv_aload_n hx hb d_Store_begins_0 rfl (lv_at hl 0 rfl) ?_
  refine va_get (D := G.1) (ci := 5) (v := .int c_sort) (C := "BranchStore") (T := F_Store) (N := 7) hx hb hts i_Store hown hK hP 0 rfl rfl 0 (by decide) (hts _ k_172) (fun _ h9 => h9) rfl d_Store_begins_1 ?_
  refine lv_iconst (v := 2) hx hb d_Store_begins_4 (by decide) ?_
  refine lv_icmp_eq (tgt := 16) hx hb d_Store_begins_5 (by decide) (fun q1 => ?_) (fun q1 => ?_)
  · have h := it h q1
    obtain ⟨y2, h, hRa, hRc⟩ := nx_n h hRa hRc
    refine lv_aload_n hx hb d_Store_begins_16 rfl (lv_at hl 0 rfl) ?_
    refine va_get (D := G.1) (ci := 5) (v := .ref a_t) (C := "BranchStore") (T := F_Store) (N := 7) hx hb hts i_Store hown hK hP 0 rfl rfl 1 (by decide) (hts _ k_173) (fun _ h9 => h9) rfl d_Store_begins_17 ?_
    refine lv_aload_n hx hb d_Store_begins_20 rfl (lv_at hl 0 rfl) ?_
    refine va_get (D := G.1) (ci := 5) (v := .ref a_ao) (C := "BranchStore") (T := F_Store) (N := 7) hx hb hts i_Store hown hK hP 0 rfl rfl 2 (by decide) (hts _ k_174) (fun _ h9 => h9) rfl d_Store_begins_21 ?_
    refine lv_aload_n hx hb d_Store_begins_24 rfl (lv_at hl 0 rfl) ?_
    refine va_get (D := G.1) (ci := 5) (v := .ref a_ao) (C := "BranchStore") (T := F_Store) (N := 7) hx hb hts i_Store hown hK hP 0 rfl rfl 2 (by decide) (hts _ k_174) (fun _ h9 => h9) rfl d_Store_begins_25 ?_
    refine va_get (D := G.1) (ci := 0) (v := .int c_an) (C := "BranchStore$Key") (T := F_Key) (N := 3) hx hb hts i_Key hown hK hP 10 rfl rfl 1 (by decide) (hts _ k_111) (fun _ h9 => h9) rfl d_Store_begins_28 ?_
    refine lv_iconst (v := 2) hx hb d_Store_begins_31 (by decide) ?_
    refine lv_isub hx hb d_Store_begins_32 ?_
    obtain ⟨r3, hr3, h⟩ := ob h
    refine zpcalli (wr := [(a_s, .inr (5, [.int c_sort, .ref a_t, .ref a_ao, .ref a_bo, .ref a_uo, .int c_set, .ref a_go]))]) (w2 := fun _ => (wB G a_s a_t a_ao a_bo a_uo a_go c_sort c_set ++ wT G a_t a_c a_mv a_fr a_br a_e0 a_e1 a_e2 a_e3 a_lo a_ho c_c c_cl c_mv c_ml c_en c_rt c_fr c_br c_fi c_st c_vz ++ wK G a_ao a_aq c_ab c_an c_at)) (zrunV (As := [.ref a_ao, .int (c_an - 2)]) (rest := []) ⟨hx, hb, hml, hown, hts⟩ hN hK (c_Tree_begins l G H.size a_t a_c a_mv a_fr a_br a_e0 a_e1 a_e2 a_e3 a_lo a_ho a_ao a_aq c_c c_cl c_mv c_ml c_en c_rt c_fr c_br c_fi c_st c_vz c_ab c_an c_at (c_an - 2) r3 hr3) ⟨rfl, rfl⟩ kv_Store_140 ⟨Nat.le_of_ble_eq_true rfl, Nat.le_of_ble_eq_true rfl⟩ 0 rfl rfl rfl hl.1 (Nat.le_of_ble_eq_true rfl) d_Store_begins_33 ⟨by show _ ≤ rc; omega, by show _ ≤ 1024 * rc; omega⟩) hP hD hS hA [1, 2, 3, 4, 5, 6, 7, 8, 9, 10, 11] [0] [0, 1, 2, 3, 4, 5, 6, 7, 8, 9, 10, 11] rfl rfl rfl rfl (by decide) rfl (fun _ => rfl) (fun rr _ H hw hP hD hS => ?_)
    have hw := hw.symm
    subst hw
    have ey := Option.some.inj h
    rw [← ey] at hRa hRc
    have hRa : r0 = r3 := hRa
    have hRc : rc = 0 + 0 := hRc
    subst hRa
    exact zreti (a_c, a_mv) hQ hS.2.2 hx hb hr hlocks hP hD hS rfl (by omega) (by omega) d_Store_begins_36
  · have h := ie h q1
    have ey := Option.some.inj h
    rw [← ey] at hRa
    cases hRa

set_option maxHeartbeats 8000000 in
set_option maxRecDepth 100000 in
theorem c_Store_begins_x (l : Launch) (G : zG) (hfl : l.flags = flags0) (sz : Nat) (a_s a_t a_ao a_bo a_uo a_go a_c a_mv a_fr a_br a_e0 a_e1 a_e2 a_e3 a_lo a_ho a_aq : Nat) (c_sort : Int32) (c_set : Int32) (c_c : (Nat → Int32)) (c_cl : Nat) (c_mv : (Nat → Int32)) (c_ml : Nat) (c_en : Int32) (c_rt : Int32) (c_fr : (Nat → Int32)) (c_br : (Nat → Int32)) (c_fi : Int64) (c_st : Int64) (c_vz : Int64) (c_ab : (Nat → Int32)) (c_an : Int32) (c_at : Int32) (k0 : Nat) (rc : Nat) (hf : f_Store_begins c_sort c_c c_cl c_rt c_ab c_an = some (.inl k0, rc)) :
    MetX l y_Store_begins (Cond.code y_Store_begins prog_1_method_25_code 1 (some .int) :: lw_ok) { frames := 6, cells := rc, slots := 1024 * rc, locals := 140 } (zPcX G sz [.ref a_s] (wB G a_s a_t a_ao a_bo a_uo a_go c_sort c_set ++ wT G a_t a_c a_mv a_fr a_br a_e0 a_e1 a_e2 a_e3 a_lo a_ho c_c c_cl c_mv c_ml c_en c_rt c_fr c_br c_fi c_st c_vz ++ wK G a_ao a_aq c_ab c_an c_at)) (zQx (zcls k0)) rc (1024 * rc) (fun q => sz ≤ q) := by
  refine zMetX hfl (by decide) (Nat.le_of_ble_eq_true rfl) (fun xp xe xs xm xb xme xc A ls Q H locs C htr hnh hTs hnA hN hK hP hD hS hL hA hl hQ => ?_)
  obtain ⟨hx, hb, hr, hts, hown, hlocks, hml, hin⟩ := C
  have hl : lv_has ls 1 [(0, .ref a_s)] := hl
  have h := hf
  unfold f_Store_begins at h
  have hRa : (Sum.inl k0 : Nat ⊕ Int32) = ((Sum.inl k0, rc) : (Nat ⊕ Int32) × Nat).1 := rfl
  have hRc : rc = 0 + ((Sum.inl k0, rc) : (Nat ⊕ Int32) × Nat).2 := (Nat.zero_add _).symm
  refine W.widen (k := 0) (n := 1024 * 0) (Nat.le_refl _) (Nat.le_refl _) ?_
  refine lv_aload_n hx hb d_Store_begins_0 rfl (lv_at hl 0 rfl) ?_
  refine va_get (D := G.1) (ci := 5) (v := .int c_sort) (C := "BranchStore") (T := F_Store) (N := 7) hx hb hts i_Store hown hK hP 0 rfl rfl 0 (by decide) (hts _ k_172) (fun _ h9 => h9) rfl d_Store_begins_1 ?_
  refine lv_iconst (v := 2) hx hb d_Store_begins_4 (by decide) ?_
  refine lv_icmp_eq (tgt := 16) hx hb d_Store_begins_5 (by decide) (fun q1 => ?_) (fun q1 => ?_)
  · have h := it h q1
    exact absurd h (fun h => nx_x h hRa)
  · have h := ie h q1
    have ey := Option.some.inj h
    rw [← ey] at hRa hRc
    have hRc : rc = 0 + 1 := hRc
    obtain rfl := Sum.inl.inj hRa
    exact zthrow (ia := 64) (ic := 66) hQ hx hb hlocks htr hnh hts hN hTs hown (hml.trans hl.1.symm) hS hL k_433 k_434 k_12 kt_0 (by decide) (by show _ ≤ rc; omega) (by show _ ≤ 1024 * rc; omega) (by omega) (by omega) (Nat.le_of_ble_eq_true rfl) (Nat.le_of_ble_eq_true rfl) d_Store_begins_8 d_Store_begins_11 d_Store_begins_12 d_Store_begins_15

theorem kv_Store_148 : zKS "BranchStore" 148 y_Long_divideUnsigned prog_15_method_44_code 8 (some .long) 2 := ⟨k_709, k_710, k_20, k_711, by decide +kernel⟩
theorem kv_Store_152 : zKS "BranchStore" 152 y_Long_compareUnsigned prog_15_method_43_code 4 (some .int) 2 := ⟨k_713, k_714, k_20, k_715, by decide +kernel⟩
theorem kv_Store_156 : zKV "BranchStore" 156 y_Tree_build prog_7_method_30_code 8 none 4 := ⟨k_720, k_721, k_722, k_2, k_723, by decide +kernel⟩
noncomputable def f_Store_load (c_sort : Int32) (c_c : (Nat → Int32)) (c_cl : Nat) (c_en : Int32) (c_rt : Int32) (c_fr : (Nat → Int32)) (c_br : (Nat → Int32)) (c_fi : Int64) (c_st : Int64) (c_vz : Int64) (c_lb : (Nat → Int32)) (c_ln : Int32) (c_lt : Int32) (c_hb : (Nat → Int32)) (c_hn : Int32) (c_ht : Int32) (c_ab : (Nat → Int32)) (p_1 : Int64) (p_3 : Int32) (p_4 : Int64) : Option ((Nat ⊕ ((Nat → Int32) × Nat × Int32 × Int32 × (Nat → Int32) × (Nat → Int32) × Int64 × Int64 × Int64 × (Nat → Int32) × Int32 × Int32 × (Nat → Int32) × Int32 × Int32)) × Nat) :=
if c_sort = 0 then
((f_Tree_keys c_c c_cl c_rt).bind fun r2 =>
if r2 ≤ 0 then
((f_Key_part c_ab 0).bind fun r4 =>
if (lg_cmp p_1 1) < 0 then
(some (.inl 1, 1))
else
(if p_3 < 0 then
(some (.inl 1, 1))
else
(if p_3 ≤ 1 then
(if p_3 ≤ 1500 then
(nx <|
if p_3 ≤ 0 then
(some ((c_c, c_cl, c_en, c_rt, c_fr, c_br, c_fi, c_st, c_vz, c_lb, c_ln, c_lt, c_hb, c_hn, c_ht), 0))
else
(bd (f_Tree_build c_c c_cl c_en c_rt c_fr c_br c_fi c_st c_vz c_lb c_ln c_lt c_hb c_hn c_ht r4 p_1 p_3 p_4) fun r11 =>
some ((r11.1, r11.2.1, r11.2.2.1, r11.2.2.2.1, r11.2.2.2.2.1, r11.2.2.2.2.2.1, r11.2.2.2.2.2.2.1, r11.2.2.2.2.2.2.2.1, r11.2.2.2.2.2.2.2.2.1, r11.2.2.2.2.2.2.2.2.2.1, r11.2.2.2.2.2.2.2.2.2.2.1, r11.2.2.2.2.2.2.2.2.2.2.2.1, r11.2.2.2.2.2.2.2.2.2.2.2.2.1, r11.2.2.2.2.2.2.2.2.2.2.2.2.2.1, r11.2.2.2.2.2.2.2.2.2.2.2.2.2.2), 0)))
else
(some (.inl 2, 1)))
else
((f_Long_divideUnsigned (9223372036854775807 - r4) p_1).bind fun r14 =>
(f_Long_compareUnsigned r14 (p_3.toInt64 - 1)).bind fun r15 =>
if 0 ≤ r15 then
(if p_3 ≤ 1500 then
(nx <|
if p_3 ≤ 0 then
(some ((c_c, c_cl, c_en, c_rt, c_fr, c_br, c_fi, c_st, c_vz, c_lb, c_ln, c_lt, c_hb, c_hn, c_ht), 0))
else
(bd (f_Tree_build c_c c_cl c_en c_rt c_fr c_br c_fi c_st c_vz c_lb c_ln c_lt c_hb c_hn c_ht r4 p_1 p_3 p_4) fun r20 =>
some ((r20.1, r20.2.1, r20.2.2.1, r20.2.2.2.1, r20.2.2.2.2.1, r20.2.2.2.2.2.1, r20.2.2.2.2.2.2.1, r20.2.2.2.2.2.2.2.1, r20.2.2.2.2.2.2.2.2.1, r20.2.2.2.2.2.2.2.2.2.1, r20.2.2.2.2.2.2.2.2.2.2.1, r20.2.2.2.2.2.2.2.2.2.2.2.1, r20.2.2.2.2.2.2.2.2.2.2.2.2.1, r20.2.2.2.2.2.2.2.2.2.2.2.2.2.1, r20.2.2.2.2.2.2.2.2.2.2.2.2.2.2), 0)))
else
(some (.inl 2, 1)))
else
(some (.inl 1, 1))))))
else
(some (.inl 0, 1)))
else
(some (.inl 0, 1))
set_option maxHeartbeats 8000000 in
set_option maxRecDepth 100000 in
theorem c_Store_load (l : Launch) (G : zG) (sz : Nat) (a_s a_t a_ao a_bo a_uo a_go a_c a_mv a_fr a_br a_e0 a_e1 a_e2 a_e3 a_lo a_ho a_lq a_hq a_aq : Nat) (c_sort : Int32) (c_set : Int32) (c_c : (Nat → Int32)) (c_cl : Nat) (c_mv : (Nat → Int32)) (c_ml : Nat) (c_en : Int32) (c_rt : Int32) (c_fr : (Nat → Int32)) (c_br : (Nat → Int32)) (c_fi : Int64) (c_st : Int64) (c_vz : Int64) (c_lb : (Nat → Int32)) (c_ln : Int32) (c_lt : Int32) (c_hb : (Nat → Int32)) (c_hn : Int32) (c_ht : Int32) (c_ab : (Nat → Int32)) (c_an : Int32) (c_at : Int32) (p_1 : Int64) (p_3 : Int32) (p_4 : Int64) (r0 : ((Nat → Int32) × Nat × Int32 × Int32 × (Nat → Int32) × (Nat → Int32) × Int64 × Int64 × Int64 × (Nat → Int32) × Int32 × Int32 × (Nat → Int32) × Int32 × Int32)) (rc : Nat) (hf : f_Store_load c_sort c_c c_cl c_en c_rt c_fr c_br c_fi c_st c_vz c_lb c_ln c_lt c_hb c_hn c_ht c_ab p_1 p_3 p_4 = some (.inr r0, rc)) :
    Met l y_Store_load (Cond.code y_Store_load prog_1_method_26_code 8 none :: lw_ok) { frames := 66, cells := rc, slots := 1024 * rc, locals := 1988 } (zPc G sz [.ref a_s, .long p_1, .int p_3, .long p_4] (wB G a_s a_t a_ao a_bo a_uo a_go c_sort c_set ++ wT G a_t a_c a_mv a_fr a_br a_e0 a_e1 a_e2 a_e3 a_lo a_ho c_c c_cl c_mv c_ml c_en c_rt c_fr c_br c_fi c_st c_vz ++ wK G a_lo a_lq c_lb c_ln c_lt ++ wK G a_ho a_hq c_hb c_hn c_ht ++ wK G a_ao a_aq c_ab c_an c_at))
      ((fun (A : Nat → Prop) => va_Qv (fun (u : Nat × Nat) => True) (fun u t => zB G A (wB G a_s a_t a_ao a_bo a_uo a_go c_sort c_set ++ wT G a_t u.1 u.2 a_fr a_br a_e0 a_e1 a_e2 a_e3 a_lo a_ho r0.1 r0.2.1 c_mv c_ml r0.2.2.1 r0.2.2.2.1 r0.2.2.2.2.1 r0.2.2.2.2.2.1 r0.2.2.2.2.2.2.1 r0.2.2.2.2.2.2.2.1 r0.2.2.2.2.2.2.2.2.1 ++ wK G a_lo a_lq r0.2.2.2.2.2.2.2.2.2.1 r0.2.2.2.2.2.2.2.2.2.2.1 r0.2.2.2.2.2.2.2.2.2.2.2.1 ++ wK G a_ho a_hq r0.2.2.2.2.2.2.2.2.2.2.2.2.1 r0.2.2.2.2.2.2.2.2.2.2.2.2.2.1 r0.2.2.2.2.2.2.2.2.2.2.2.2.2.2 ++ wK G a_ao a_aq c_ab c_an c_at) t) A) (va_A (wB G a_s a_t a_ao a_bo a_uo a_go c_sort c_set ++ wT G a_t a_c a_mv a_fr a_br a_e0 a_e1 a_e2 a_e3 a_lo a_ho c_c c_cl c_mv c_ml c_en c_rt c_fr c_br c_fi c_st c_vz ++ wK G a_lo a_lq c_lb c_ln c_lt ++ wK G a_ho a_hq c_hb c_hn c_ht ++ wK G a_ao a_aq c_ab c_an c_at) sz)) rc (1024 * rc) (va_A (wB G a_s a_t a_ao a_bo a_uo a_go c_sort c_set ++ wT G a_t a_c a_mv a_fr a_br a_e0 a_e1 a_e2 a_e3 a_lo a_ho c_c c_cl c_mv c_ml c_en c_rt c_fr c_br c_fi c_st c_vz ++ wK G a_lo a_lq c_lb c_ln c_lt ++ wK G a_ho a_hq c_hb c_hn c_ht ++ wK G a_ao a_aq c_ab c_an c_at) sz) := by
  refine zMet (Qc := fun (A : Nat → Prop) => va_Qv (fun (u : Nat × Nat) => True) (fun u t => zB G A (wB G a_s a_t a_ao a_bo a_uo a_go c_sort c_set ++ wT G a_t u.1 u.2 a_fr a_br a_e0 a_e1 a_e2 a_e3 a_lo a_ho r0.1 r0.2.1 c_mv c_ml r0.2.2.1 r0.2.2.2.1 r0.2.2.2.2.1 r0.2.2.2.2.2.1 r0.2.2.2.2.2.2.1 r0.2.2.2.2.2.2.2.1 r0.2.2.2.2.2.2.2.2.1 ++ wK G a_lo a_lq r0.2.2.2.2.2.2.2.2.2.1 r0.2.2.2.2.2.2.2.2.2.2.1 r0.2.2.2.2.2.2.2.2.2.2.2.1 ++ wK G a_ho a_hq r0.2.2.2.2.2.2.2.2.2.2.2.2.1 r0.2.2.2.2.2.2.2.2.2.2.2.2.2.1 r0.2.2.2.2.2.2.2.2.2.2.2.2.2.2 ++ wK G a_ao a_aq c_ab c_an c_at) t) A) (by decide) (Nat.le_of_ble_eq_true rfl) (fun xp xe xs xm xb xme xc A ls Q H locs C hN hK hP hD hS hA hl hQ => ?_)
  obtain ⟨hx, hb, hr, hts, hown, hlocks, hml, hin⟩ := C
  have hl : lv_has ls 8 [(0, .ref a_s), (1, .long p_1), (3, .int p_3), (4, .long p_4)] := hl
  have h := hf
  unfold f_Store_load at h
  have hRa : (Sum.inr r0 : Nat ⊕ ((Nat → Int32) × Nat × Int32 × Int32 × (Nat → Int32) × (Nat → Int32) × Int64 × Int64 × Int64 × (Nat → Int32) × Int32 × Int32 × (Nat → Int32) × Int32 × Int32)) = ((Sum.inr r0, rc) : (Nat ⊕ ((Nat → Int32) × Nat × Int32 × Int32 × (Nat → Int32) × (Nat → Int32) × Int64 × Int64 × Int64 × (Nat → Int32) × Int32 × Int32 × (Nat → Int32) × Int32 × Int32)) × Nat).1 := rfl
  have hRc : rc = 0 + ((Sum.inr r0, rc) : (Nat ⊕ ((Nat → Int32) × Nat × Int32 × Int32 × (Nat → Int32) × (Nat → Int32) × Int64 × Int64 × Int64 × (Nat → Int32) × Int32 × Int32 × (Nat → Int32) × Int32 × Int32)) × Nat).2 := (Nat.zero_add _).symm
  refine W.widen (k := 0) (n := 1024 * 0) (Nat.le_refl _) (Nat.le_refl _) ?_
  refine lv_aload_n hx hb d_Store_load_0 rfl (lv_at hl 0 rfl) ?_
  refine va_get (D := G.1) (ci := 5) (v := .int c_sort) (C := "BranchStore") (T := F_Store) (N := 7) hx hb hts i_Store hown hK hP 0 rfl rfl 0 (by decide) (hts _ k_172) (fun _ h9 => h9) rfl d_Store_load_1 ?_
  refine lv_if_ne (tgt := 17) hx hb d_Store_load_4 (by decide) (fun q1 => ?_) (fun q1 => ?_)
  · have h := ie h q1
    have ey := Option.some.inj h
    rw [← ey] at hRa
    cases hRa
  · have h := it h q1
    refine lv_aload_n hx hb d_Store_load_7 rfl (lv_at hl 0 rfl) ?_
    refine va_get (D := G.1) (ci := 5) (v := .ref a_t) (C := "BranchStore") (T := F_Store) (N := 7) hx hb hts i_Store hown hK hP 0 rfl rfl 1 (by decide) (hts _ k_173) (fun _ h9 => h9) rfl d_Store_load_8 ?_
    obtain ⟨r2, hr2, h⟩ := ob h
    refine zpcalli (wr := [(a_s, .inr (5, [.int c_sort, .ref a_t, .ref a_ao, .ref a_bo, .ref a_uo, .int c_set, .ref a_go])), (a_lo, .inr (0, [.ref a_lq, .int c_ln, .int c_lt])), (a_lq, .inl (G.2.2.1, 50, .inl c_lb)), (a_ho, .inr (0, [.ref a_hq, .int c_hn, .int c_ht])), (a_hq, .inl (G.2.2.1, 50, .inl c_hb)), (a_ao, .inr (0, [.ref a_aq, .int c_an, .int c_at])), (a_aq, .inl (G.2.2.1, 50, .inl c_ab))]) (w2 := fun _ => (wB G a_s a_t a_ao a_bo a_uo a_go c_sort c_set ++ wT G a_t a_c a_mv a_fr a_br a_e0 a_e1 a_e2 a_e3 a_lo a_ho c_c c_cl c_mv c_ml c_en c_rt c_fr c_br c_fi c_st c_vz ++ wK G a_lo a_lq c_lb c_ln c_lt ++ wK G a_ho a_hq c_hb c_hn c_ht ++ wK G a_ao a_aq c_ab c_an c_at)) (zrunV (As := []) (rest := []) ⟨hx, hb, hml, hown, hts⟩ hN hK (c_Tree_keys l G H.size a_t a_c a_mv a_fr a_br a_e0 a_e1 a_e2 a_e3 a_lo a_ho c_c c_cl c_mv c_ml c_en c_rt c_fr c_br c_fi c_st c_vz r2 hr2) ⟨rfl, rfl⟩ kv_Store_27 ⟨Nat.le_of_ble_eq_true rfl, Nat.le_of_ble_eq_true rfl⟩ 0 rfl rfl rfl hl.1 (Nat.le_of_ble_eq_true rfl) d_Store_load_11 ⟨by show _ ≤ rc; omega, by show _ ≤ 1024 * rc; omega⟩) hP hD hS hA [1, 2, 3, 4, 5, 6, 7, 8, 9] [0, 10, 11, 12, 13, 14, 15] [0, 7, 8, 9, 10, 11, 12, 13, 14, 15, 1, 2, 3, 4, 5, 6] rfl rfl rfl rfl (by decide) rfl (fun _ => rfl) (fun rr _ H hw hP hD hS => ?_)
    have hw := hw.symm
    subst hw
    refine lv_if_le (tgt := 25) hx hb d_Store_load_14 (by decide) (fun q3 => ?_) (fun q3 => ?_)
    · have h := it h q3
      refine lv_aload_n hx hb d_Store_load_25 rfl (lv_at hl 0 rfl) ?_
      refine va_get (D := G.1) (ci := 5) (v := .ref a_ao) (C := "BranchStore") (T := F_Store) (N := 7) hx hb hts i_Store hown hK hP 0 rfl rfl 2 (by decide) (hts _ k_174) (fun _ h9 => h9) rfl d_Store_load_26 ?_
      refine lv_iconst (v := 0) hx hb d_Store_load_29 (by decide) ?_
      obtain ⟨r4, hr4, h⟩ := ob h
      refine zpcalll (wr := [(a_s, .inr (5, [.int c_sort, .ref a_t, .ref a_ao, .ref a_bo, .ref a_uo, .int c_set, .ref a_go])), (a_t, .inr (4, [.ref a_c, .ref a_mv, .int c_en, .int c_rt, .ref a_fr, .ref a_e0, .ref a_e1, .ref a_e2, .ref a_e3, .ref a_br, .ref a_lo, .ref a_ho, .long c_fi, .long c_st, .long c_vz])), (a_c, .inl (G.2.1, c_cl, .inl c_c)), (a_mv, .inl (G.2.1, c_ml, .inl c_mv)), (a_fr, .inl (G.2.1, 261, .inl c_fr)), (a_br, .inl (G.2.1, 4, .inl c_br)), (a_e0, .inr (1, [.int 0, .int 9, .int 4, .int 5])), (a_e1, .inr (1, [.int 1, .int 24, .int 16, .int 8])), (a_e2, .inr (2, [.int 2, .int 116, .int 48])), (a_e3, .inr (3, [.int 3, .int 260, .int 256])), (a_lo, .inr (0, [.ref a_lq, .int c_ln, .int c_lt])), (a_lq, .inl (G.2.2.1, 50, .inl c_lb)), (a_ho, .inr (0, [.ref a_hq, .int c_hn, .int c_ht])), (a_hq, .inl (G.2.2.1, 50, .inl c_hb))]) (w2 := fun _ => (wB G a_s a_t a_ao a_bo a_uo a_go c_sort c_set ++ wT G a_t a_c a_mv a_fr a_br a_e0 a_e1 a_e2 a_e3 a_lo a_ho c_c c_cl c_mv c_ml c_en c_rt c_fr c_br c_fi c_st c_vz ++ wK G a_lo a_lq c_lb c_ln c_lt ++ wK G a_ho a_hq c_hb c_hn c_ht ++ wK G a_ao a_aq c_ab c_an c_at)) (zrunV (As := [.int 0]) (rest := []) ⟨hx, hb, hml, hown, hts⟩ hN hK (c_Key_part l G H.size a_ao a_aq c_ab c_an c_at 0 r4 hr4) ⟨rfl, rfl⟩ kv_Store_122 ⟨Nat.le_of_ble_eq_true rfl, Nat.le_of_ble_eq_true rfl⟩ 0 rfl rfl rfl hl.1 (Nat.le_of_ble_eq_true rfl) d_Store_load_30 ⟨by show _ ≤ rc; omega, by show _ ≤ 1024 * rc; omega⟩) hP hD hS hA [14, 15] [0, 1, 2, 3, 4, 5, 6, 7, 8, 9, 10, 11, 12, 13] [0, 1, 2, 3, 4, 5, 6, 7, 8, 9, 10, 11, 12, 13, 14, 15] rfl rfl rfl rfl (by decide) rfl (fun _ => rfl) (fun rr _ H hw hP hD hS => ?_)
      have hw := hw.symm
      subst hw
      refine lv_lstore (lv' := [(6, .long r4), (0, .ref a_s), (1, .long p_1), (3, .int p_3), (4, .long p_4)]) hx hb d_Store_load_33 hl (by decide) rfl (fun ls hl => ?_)
      refine lv_lload_n hx hb d_Store_load_35 rfl (lv_at hl 2 rfl) ?_
      refine lv_lconst (v := 1) hx hb d_Store_load_36 (by decide) ?_
      refine W.lcmp hx hb d_Store_load_37 ?_
      refine lv_if_lt (tgt := 70) hx hb d_Store_load_38 (by decide) (fun q5 => ?_) (fun q5 => ?_)
      · have h := it h q5
        have ey := Option.some.inj h
        rw [← ey] at hRa
        cases hRa
      · have h := ie h q5
        refine lv_iload_n hx hb d_Store_load_41 rfl (lv_at hl 3 rfl) ?_
        refine lv_if_lt (tgt := 70) hx hb d_Store_load_42 (by decide) (fun q6 => ?_) (fun q6 => ?_)
        · have h := it h q6
          have ey := Option.some.inj h
          rw [← ey] at hRa
          cases hRa
        · have h := ie h q6
          refine lv_iload_n hx hb d_Store_load_45 rfl (lv_at hl 3 rfl) ?_
          refine lv_iconst (v := 1) hx hb d_Store_load_46 (by decide) ?_
          refine lv_icmp_le (tgt := 78) hx hb d_Store_load_47 (by decide) (fun q7 => ?_) (fun q7 => ?_)
          · have h := it h q7
            refine lv_iload_n hx hb d_Store_load_78 rfl (lv_at hl 3 rfl) ?_
            refine lv_sipush (v := 1500) hx hb d_Store_load_79 (by decide) ?_
            refine lv_icmp_le (tgt := 93) hx hb d_Store_load_82 (by decide) (fun q8 => ?_) (fun q8 => ?_)
            · have h := it h q8
              obtain ⟨y9, h, hRa, hRc⟩ := nx_n h hRa hRc
              refine lv_iload_n hx hb d_Store_load_93 rfl (lv_at hl 3 rfl) ?_
              refine lv_if_le (tgt := 110) hx hb d_Store_load_94 (by decide) (fun q10 => ?_) (fun q10 => ?_)
              · have h := it h q10
                have ey := Option.some.inj h
                rw [← ey] at hRa hRc
                have hRa : r0 = (c_c, c_cl, c_en, c_rt, c_fr, c_br, c_fi, c_st, c_vz, c_lb, c_ln, c_lt, c_hb, c_hn, c_ht) := hRa
                have hRc : rc = 0 + 0 := hRc
                subst hRa
                exact zretv (a_c, a_mv) hQ hS.2.2 hx hb hr hlocks hP hD hS trivial (by omega) (by omega) d_Store_load_110
              · have h := ie h q10
                refine lv_aload_n hx hb d_Store_load_97 rfl (lv_at hl 1 rfl) ?_
                refine va_get (D := G.1) (ci := 5) (v := .ref a_t) (C := "BranchStore") (T := F_Store) (N := 7) hx hb hts i_Store hown hK hP 0 rfl rfl 1 (by decide) (hts _ k_173) (fun _ h9 => h9) rfl d_Store_load_98 ?_
                refine lv_lload hx hb d_Store_load_101 (lv_at hl 0 rfl) ?_
                refine lv_lload_n hx hb d_Store_load_103 rfl (lv_at hl 2 rfl) ?_
                refine lv_iload_n hx hb d_Store_load_104 rfl (lv_at hl 3 rfl) ?_
                refine lv_lload hx hb d_Store_load_105 (lv_at hl 4 rfl) ?_
                obtain ⟨r11, dr11, y12, hr11, h, hRa, hRc⟩ := bd_k h hRa hRc
                refine zcallv (wr := [(a_s, .inr (5, [.int c_sort, .ref a_t, .ref a_ao, .ref a_bo, .ref a_uo, .int c_set, .ref a_go])), (a_ao, .inr (0, [.ref a_aq, .int c_an, .int c_at])), (a_aq, .inl (G.2.2.1, 50, .inl c_ab))]) (w2 := fun (u13 : Nat × Nat) => (wB G a_s a_t a_ao a_bo a_uo a_go c_sort c_set ++ wT G a_t u13.1 u13.2 a_fr a_br a_e0 a_e1 a_e2 a_e3 a_lo a_ho r11.1 r11.2.1 c_mv c_ml r11.2.2.1 r11.2.2.2.1 r11.2.2.2.2.1 r11.2.2.2.2.2.1 r11.2.2.2.2.2.2.1 r11.2.2.2.2.2.2.2.1 r11.2.2.2.2.2.2.2.2.1 ++ wK G a_lo a_lq r11.2.2.2.2.2.2.2.2.2.1 r11.2.2.2.2.2.2.2.2.2.2.1 r11.2.2.2.2.2.2.2.2.2.2.2.1 ++ wK G a_ho a_hq r11.2.2.2.2.2.2.2.2.2.2.2.2.1 r11.2.2.2.2.2.2.2.2.2.2.2.2.2.1 r11.2.2.2.2.2.2.2.2.2.2.2.2.2.2 ++ wK G a_ao a_aq c_ab c_an c_at)) (zrunV (As := [.long r4, .long p_1, .int p_3, .long p_4]) (rest := []) ⟨hx, hb, hml, hown, hts⟩ hN hK (c_Tree_build l G H.size a_t a_c a_mv a_fr a_br a_e0 a_e1 a_e2 a_e3 a_lo a_ho a_lq a_hq c_c c_cl c_mv c_ml c_en c_rt c_fr c_br c_fi c_st c_vz c_lb c_ln c_lt c_hb c_hn c_ht r4 p_1 p_3 p_4 r11 dr11 hr11) ⟨rfl, rfl⟩ kv_Store_156 ⟨Nat.le_of_ble_eq_true rfl, Nat.le_of_ble_eq_true rfl⟩ 0 rfl rfl rfl hl.1 (Nat.le_of_ble_eq_true rfl) d_Store_load_107 ⟨by show _ ≤ rc; omega, by show _ ≤ 1024 * rc; omega⟩) hP hD hS hA [1, 2, 3, 4, 5, 6, 7, 8, 9, 10, 11, 12, 13] [0, 14, 15] [0, 3, 4, 5, 6, 7, 8, 9, 10, 11, 12, 13, 14, 15, 1, 2] rfl rfl rfl rfl (by decide) rfl (fun _ => rfl) (fun u13 H locs _ hP hD hS => ?_)
                refine W.widen (k := 0 + dr11) (n := 1024 * (0 + dr11)) (by omega) (by omega) ?_
                have ey := Option.some.inj h
                rw [← ey] at hRa hRc
                have hRa : r0 = (r11.1, r11.2.1, r11.2.2.1, r11.2.2.2.1, r11.2.2.2.2.1, r11.2.2.2.2.2.1, r11.2.2.2.2.2.2.1, r11.2.2.2.2.2.2.2.1, r11.2.2.2.2.2.2.2.2.1, r11.2.2.2.2.2.2.2.2.2.1, r11.2.2.2.2.2.2.2.2.2.2.1, r11.2.2.2.2.2.2.2.2.2.2.2.1, r11.2.2.2.2.2.2.2.2.2.2.2.2.1, r11.2.2.2.2.2.2.2.2.2.2.2.2.2.1, r11.2.2.2.2.2.2.2.2.2.2.2.2.2.2) := hRa
                have hRc : rc = 0 + dr11 + 0 := hRc
                subst hRa
                exact zretv (u13.1, u13.2) hQ hS.2.2 hx hb hr hlocks hP hD hS trivial (by omega) (by omega) d_Store_load_110
            · have h := ie h q8
              have ey := Option.some.inj h
              rw [← ey] at hRa
              cases hRa
          · have h := ie h q7
            refine lv_ldc2 (v := 9223372036854775807) hx hb hown (hts _ k_708) d_Store_load_50 ?_
            refine lv_lload hx hb d_Store_load_53 (lv_at hl 0 rfl) ?_
            refine lv_lsub hx hb d_Store_load_55 ?_
            refine lv_lload_n hx hb d_Store_load_56 rfl (lv_at hl 2 rfl) ?_
            obtain ⟨r14, hr14, h⟩ := ob h
            refine zpcalll (wr := (wB G a_s a_t a_ao a_bo a_uo a_go c_sort c_set ++ wT G a_t a_c a_mv a_fr a_br a_e0 a_e1 a_e2 a_e3 a_lo a_ho c_c c_cl c_mv c_ml c_en c_rt c_fr c_br c_fi c_st c_vz ++ wK G a_lo a_lq c_lb c_ln c_lt ++ wK G a_ho a_hq c_hb c_hn c_ht ++ wK G a_ao a_aq c_ab c_an c_at)) (w2 := fun _ => (wB G a_s a_t a_ao a_bo a_uo a_go c_sort c_set ++ wT G a_t a_c a_mv a_fr a_br a_e0 a_e1 a_e2 a_e3 a_lo a_ho c_c c_cl c_mv c_ml c_en c_rt c_fr c_br c_fi c_st c_vz ++ wK G a_lo a_lq c_lb c_ln c_lt ++ wK G a_ho a_hq c_hb c_hn c_ht ++ wK G a_ao a_aq c_ab c_an c_at)) (zrunS (As := [.long (9223372036854775807 - r4), .long p_1]) (rest := []) ⟨hx, hb, hml, hown, hts⟩ hN hK (c_Long_divideUnsigned l G H.size (9223372036854775807 - r4) p_1 r14 hr14) ⟨rfl, rfl⟩ kv_Store_148 ⟨Nat.le_of_ble_eq_true rfl, Nat.le_of_ble_eq_true rfl⟩ rfl hl.1 (Nat.le_of_ble_eq_true rfl) d_Store_load_57 ⟨by show _ ≤ rc; omega, by show _ ≤ 1024 * rc; omega⟩) hP hD hS hA [] [0, 1, 2, 3, 4, 5, 6, 7, 8, 9, 10, 11, 12, 13, 14, 15] [0, 1, 2, 3, 4, 5, 6, 7, 8, 9, 10, 11, 12, 13, 14, 15] rfl rfl rfl rfl (by decide) rfl (fun _ => rfl) (fun rr _ H hw hP hD hS => ?_)
            have hw := hw.symm
            subst hw
            refine lv_iload_n hx hb d_Store_load_60 rfl (lv_at hl 3 rfl) ?_
            refine lv_i2l (v := p_3.toInt64) hx hb d_Store_load_61 rfl ?_
            refine lv_lconst (v := 1) hx hb d_Store_load_62 (by decide) ?_
            refine lv_lsub hx hb d_Store_load_63 ?_
            obtain ⟨r15, hr15, h⟩ := ob h
            refine zpcalli (wr := (wB G a_s a_t a_ao a_bo a_uo a_go c_sort c_set ++ wT G a_t a_c a_mv a_fr a_br a_e0 a_e1 a_e2 a_e3 a_lo a_ho c_c c_cl c_mv c_ml c_en c_rt c_fr c_br c_fi c_st c_vz ++ wK G a_lo a_lq c_lb c_ln c_lt ++ wK G a_ho a_hq c_hb c_hn c_ht ++ wK G a_ao a_aq c_ab c_an c_at)) (w2 := fun _ => (wB G a_s a_t a_ao a_bo a_uo a_go c_sort c_set ++ wT G a_t a_c a_mv a_fr a_br a_e0 a_e1 a_e2 a_e3 a_lo a_ho c_c c_cl c_mv c_ml c_en c_rt c_fr c_br c_fi c_st c_vz ++ wK G a_lo a_lq c_lb c_ln c_lt ++ wK G a_ho a_hq c_hb c_hn c_ht ++ wK G a_ao a_aq c_ab c_an c_at)) (zrunS (As := [.long r14, .long (p_3.toInt64 - 1)]) (rest := []) ⟨hx, hb, hml, hown, hts⟩ hN hK (c_Long_compareUnsigned l G H.size r14 (p_3.toInt64 - 1) r15 hr15) ⟨rfl, rfl⟩ kv_Store_152 ⟨Nat.le_of_ble_eq_true rfl, Nat.le_of_ble_eq_true rfl⟩ rfl hl.1 (Nat.le_of_ble_eq_true rfl) d_Store_load_64 ⟨by show _ ≤ rc; omega, by show _ ≤ 1024 * rc; omega⟩) hP hD hS hA [] [0, 1, 2, 3, 4, 5, 6, 7, 8, 9, 10, 11, 12, 13, 14, 15] [0, 1, 2, 3, 4, 5, 6, 7, 8, 9, 10, 11, 12, 13, 14, 15] rfl rfl rfl rfl (by decide) rfl (fun _ => rfl) (fun rr _ H hw hP hD hS => ?_)
            have hw := hw.symm
            subst hw
            refine lv_if_ge (tgt := 78) hx hb d_Store_load_67 (by decide) (fun q16 => ?_) (fun q16 => ?_)
            · have h := it h q16
              refine lv_iload_n hx hb d_Store_load_78 rfl (lv_at hl 3 rfl) ?_
              refine lv_sipush (v := 1500) hx hb d_Store_load_79 (by decide) ?_
              refine lv_icmp_le (tgt := 93) hx hb d_Store_load_82 (by decide) (fun q17 => ?_) (fun q17 => ?_)
              · have h := it h q17
                obtain ⟨y18, h, hRa, hRc⟩ := nx_n h hRa hRc
                refine lv_iload_n hx hb d_Store_load_93 rfl (lv_at hl 3 rfl) ?_
                refine lv_if_le (tgt := 110) hx hb d_Store_load_94 (by decide) (fun q19 => ?_) (fun q19 => ?_)
                · have h := it h q19
                  have ey := Option.some.inj h
                  rw [← ey] at hRa hRc
                  have hRa : r0 = (c_c, c_cl, c_en, c_rt, c_fr, c_br, c_fi, c_st, c_vz, c_lb, c_ln, c_lt, c_hb, c_hn, c_ht) := hRa
                  have hRc : rc = 0 + 0 := hRc
                  subst hRa
                  exact zretv (a_c, a_mv) hQ hS.2.2 hx hb hr hlocks hP hD hS trivial (by omega) (by omega) d_Store_load_110
                · have h := ie h q19
                  refine lv_aload_n hx hb d_Store_load_97 rfl (lv_at hl 1 rfl) ?_
                  refine va_get (D := G.1) (ci := 5) (v := .ref a_t) (C := "BranchStore") (T := F_Store) (N := 7) hx hb hts i_Store hown hK hP 0 rfl rfl 1 (by decide) (hts _ k_173) (fun _ h9 => h9) rfl d_Store_load_98 ?_
                  refine lv_lload hx hb d_Store_load_101 (lv_at hl 0 rfl) ?_
                  refine lv_lload_n hx hb d_Store_load_103 rfl (lv_at hl 2 rfl) ?_
                  refine lv_iload_n hx hb d_Store_load_104 rfl (lv_at hl 3 rfl) ?_
                  refine lv_lload hx hb d_Store_load_105 (lv_at hl 4 rfl) ?_
                  obtain ⟨r20, dr20, y21, hr20, h, hRa, hRc⟩ := bd_k h hRa hRc
                  refine zcallv (wr := [(a_s, .inr (5, [.int c_sort, .ref a_t, .ref a_ao, .ref a_bo, .ref a_uo, .int c_set, .ref a_go])), (a_ao, .inr (0, [.ref a_aq, .int c_an, .int c_at])), (a_aq, .inl (G.2.2.1, 50, .inl c_ab))]) (w2 := fun (u22 : Nat × Nat) => (wB G a_s a_t a_ao a_bo a_uo a_go c_sort c_set ++ wT G a_t u22.1 u22.2 a_fr a_br a_e0 a_e1 a_e2 a_e3 a_lo a_ho r20.1 r20.2.1 c_mv c_ml r20.2.2.1 r20.2.2.2.1 r20.2.2.2.2.1 r20.2.2.2.2.2.1 r20.2.2.2.2.2.2.1 r20.2.2.2.2.2.2.2.1 r20.2.2.2.2.2.2.2.2.1 ++ wK G a_lo a_lq r20.2.2.2.2.2.2.2.2.2.1 r20.2.2.2.2.2.2.2.2.2.2.1 r20.2.2.2.2.2.2.2.2.2.2.2.1 ++ wK G a_ho a_hq r20.2.2.2.2.2.2.2.2.2.2.2.2.1 r20.2.2.2.2.2.2.2.2.2.2.2.2.2.1 r20.2.2.2.2.2.2.2.2.2.2.2.2.2.2 ++ wK G a_ao a_aq c_ab c_an c_at)) (zrunV (As := [.long r4, .long p_1, .int p_3, .long p_4]) (rest := []) ⟨hx, hb, hml, hown, hts⟩ hN hK (c_Tree_build l G H.size a_t a_c a_mv a_fr a_br a_e0 a_e1 a_e2 a_e3 a_lo a_ho a_lq a_hq c_c c_cl c_mv c_ml c_en c_rt c_fr c_br c_fi c_st c_vz c_lb c_ln c_lt c_hb c_hn c_ht r4 p_1 p_3 p_4 r20 dr20 hr20) ⟨rfl, rfl⟩ kv_Store_156 ⟨Nat.le_of_ble_eq_true rfl, Nat.le_of_ble_eq_true rfl⟩ 0 rfl rfl rfl hl.1 (Nat.le_of_ble_eq_true rfl) d_Store_load_107 ⟨by show _ ≤ rc; omega, by show _ ≤ 1024 * rc; omega⟩) hP hD hS hA [1, 2, 3, 4, 5, 6, 7, 8, 9, 10, 11, 12, 13] [0, 14, 15] [0, 3, 4, 5, 6, 7, 8, 9, 10, 11, 12, 13, 14, 15, 1, 2] rfl rfl rfl rfl (by decide) rfl (fun _ => rfl) (fun u22 H locs _ hP hD hS => ?_)
                  refine W.widen (k := 0 + dr20) (n := 1024 * (0 + dr20)) (by omega) (by omega) ?_
                  have ey := Option.some.inj h
                  rw [← ey] at hRa hRc
                  have hRa : r0 = (r20.1, r20.2.1, r20.2.2.1, r20.2.2.2.1, r20.2.2.2.2.1, r20.2.2.2.2.2.1, r20.2.2.2.2.2.2.1, r20.2.2.2.2.2.2.2.1, r20.2.2.2.2.2.2.2.2.1, r20.2.2.2.2.2.2.2.2.2.1, r20.2.2.2.2.2.2.2.2.2.2.1, r20.2.2.2.2.2.2.2.2.2.2.2.1, r20.2.2.2.2.2.2.2.2.2.2.2.2.1, r20.2.2.2.2.2.2.2.2.2.2.2.2.2.1, r20.2.2.2.2.2.2.2.2.2.2.2.2.2.2) := hRa
                  have hRc : rc = 0 + dr20 + 0 := hRc
                  subst hRa
                  exact zretv (u22.1, u22.2) hQ hS.2.2 hx hb hr hlocks hP hD hS trivial (by omega) (by omega) d_Store_load_110
              · have h := ie h q17
                have ey := Option.some.inj h
                rw [← ey] at hRa
                cases hRa
            · have h := ie h q16
              have ey := Option.some.inj h
              rw [← ey] at hRa
              cases hRa
    · have h := ie h q3
      have ey := Option.some.inj h
      rw [← ey] at hRa
      cases hRa

set_option maxHeartbeats 8000000 in
set_option maxRecDepth 100000 in
theorem c_Store_load_x (l : Launch) (G : zG) (hfl : l.flags = flags0) (sz : Nat) (a_s a_t a_ao a_bo a_uo a_go a_c a_mv a_fr a_br a_e0 a_e1 a_e2 a_e3 a_lo a_ho a_lq a_hq a_aq : Nat) (c_sort : Int32) (c_set : Int32) (c_c : (Nat → Int32)) (c_cl : Nat) (c_mv : (Nat → Int32)) (c_ml : Nat) (c_en : Int32) (c_rt : Int32) (c_fr : (Nat → Int32)) (c_br : (Nat → Int32)) (c_fi : Int64) (c_st : Int64) (c_vz : Int64) (c_lb : (Nat → Int32)) (c_ln : Int32) (c_lt : Int32) (c_hb : (Nat → Int32)) (c_hn : Int32) (c_ht : Int32) (c_ab : (Nat → Int32)) (c_an : Int32) (c_at : Int32) (p_1 : Int64) (p_3 : Int32) (p_4 : Int64) (k0 : Nat) (rc : Nat) (hf : f_Store_load c_sort c_c c_cl c_en c_rt c_fr c_br c_fi c_st c_vz c_lb c_ln c_lt c_hb c_hn c_ht c_ab p_1 p_3 p_4 = some (.inl k0, rc)) :
    MetX l y_Store_load (Cond.code y_Store_load prog_1_method_26_code 8 none :: lw_ok) { frames := 66, cells := rc, slots := 1024 * rc, locals := 1988 } (zPcX G sz [.ref a_s, .long p_1, .int p_3, .long p_4] (wB G a_s a_t a_ao a_bo a_uo a_go c_sort c_set ++ wT G a_t a_c a_mv a_fr a_br a_e0 a_e1 a_e2 a_e3 a_lo a_ho c_c c_cl c_mv c_ml c_en c_rt c_fr c_br c_fi c_st c_vz ++ wK G a_lo a_lq c_lb c_ln c_lt ++ wK G a_ho a_hq c_hb c_hn c_ht ++ wK G a_ao a_aq c_ab c_an c_at)) (zQx (zcls k0)) rc (1024 * rc) (fun q => sz ≤ q) := by
  refine zMetX hfl (by decide) (Nat.le_of_ble_eq_true rfl) (fun xp xe xs xm xb xme xc A ls Q H locs C htr hnh hTs hnA hN hK hP hD hS hL hA hl hQ => ?_)
  obtain ⟨hx, hb, hr, hts, hown, hlocks, hml, hin⟩ := C
  have hl : lv_has ls 8 [(0, .ref a_s), (1, .long p_1), (3, .int p_3), (4, .long p_4)] := hl
  have h := hf
  unfold f_Store_load at h
  have hRa : (Sum.inl k0 : Nat ⊕ ((Nat → Int32) × Nat × Int32 × Int32 × (Nat → Int32) × (Nat → Int32) × Int64 × Int64 × Int64 × (Nat → Int32) × Int32 × Int32 × (Nat → Int32) × Int32 × Int32)) = ((Sum.inl k0, rc) : (Nat ⊕ ((Nat → Int32) × Nat × Int32 × Int32 × (Nat → Int32) × (Nat → Int32) × Int64 × Int64 × Int64 × (Nat → Int32) × Int32 × Int32 × (Nat → Int32) × Int32 × Int32)) × Nat).1 := rfl
  have hRc : rc = 0 + ((Sum.inl k0, rc) : (Nat ⊕ ((Nat → Int32) × Nat × Int32 × Int32 × (Nat → Int32) × (Nat → Int32) × Int64 × Int64 × Int64 × (Nat → Int32) × Int32 × Int32 × (Nat → Int32) × Int32 × Int32)) × Nat).2 := (Nat.zero_add _).symm
  refine W.widen (k := 0) (n := 1024 * 0) (Nat.le_refl _) (Nat.le_refl _) ?_
  refine lv_aload_n hx hb d_Store_load_0 rfl (lv_at hl 0 rfl) ?_
  refine va_get (D := G.1) (ci := 5) (v := .int c_sort) (C := "BranchStore") (T := F_Store) (N := 7) hx hb hts i_Store hown hK hP 0 rfl rfl 0 (by decide) (hts _ k_172) (fun _ h9 => h9) rfl d_Store_load_1 ?_
  refine lv_if_ne (tgt := 17) hx hb d_Store_load_4 (by decide) (fun q1 => ?_) (fun q1 => ?_)
  · have h := ie h q1
    have ey := Option.some.inj h
    rw [← ey] at hRa hRc
    have hRc : rc = 0 + 1 := hRc
    obtain rfl := Sum.inl.inj hRa
    exact zthrow (ia := 64) (ic := 66) hQ hx hb hlocks htr hnh hts hN hTs hown (hml.trans hl.1.symm) hS hL k_433 k_434 k_12 kt_0 (by decide) (by show _ ≤ rc; omega) (by show _ ≤ 1024 * rc; omega) (by omega) (by omega) (Nat.le_of_ble_eq_true rfl) (Nat.le_of_ble_eq_true rfl) d_Store_load_17 d_Store_load_20 d_Store_load_21 d_Store_load_24
  · have h := it h q1
    refine lv_aload_n hx hb d_Store_load_7 rfl (lv_at hl 0 rfl) ?_
    refine va_get (D := G.1) (ci := 5) (v := .ref a_t) (C := "BranchStore") (T := F_Store) (N := 7) hx hb hts i_Store hown hK hP 0 rfl rfl 1 (by decide) (hts _ k_173) (fun _ h9 => h9) rfl d_Store_load_8 ?_
    obtain ⟨r2, hr2, h⟩ := ob h
    refine zpcalli (wr := [(a_s, .inr (5, [.int c_sort, .ref a_t, .ref a_ao, .ref a_bo, .ref a_uo, .int c_set, .ref a_go])), (a_lo, .inr (0, [.ref a_lq, .int c_ln, .int c_lt])), (a_lq, .inl (G.2.2.1, 50, .inl c_lb)), (a_ho, .inr (0, [.ref a_hq, .int c_hn, .int c_ht])), (a_hq, .inl (G.2.2.1, 50, .inl c_hb)), (a_ao, .inr (0, [.ref a_aq, .int c_an, .int c_at])), (a_aq, .inl (G.2.2.1, 50, .inl c_ab))]) (w2 := fun _ => (wB G a_s a_t a_ao a_bo a_uo a_go c_sort c_set ++ wT G a_t a_c a_mv a_fr a_br a_e0 a_e1 a_e2 a_e3 a_lo a_ho c_c c_cl c_mv c_ml c_en c_rt c_fr c_br c_fi c_st c_vz ++ wK G a_lo a_lq c_lb c_ln c_lt ++ wK G a_ho a_hq c_hb c_hn c_ht ++ wK G a_ao a_aq c_ab c_an c_at)) (zrunV (As := []) (rest := []) ⟨hx, hb, hml, hown, hts⟩ hN hK (c_Tree_keys l G H.size a_t a_c a_mv a_fr a_br a_e0 a_e1 a_e2 a_e3 a_lo a_ho c_c c_cl c_mv c_ml c_en c_rt c_fr c_br c_fi c_st c_vz r2 hr2) ⟨rfl, rfl⟩ kv_Store_27 ⟨Nat.le_of_ble_eq_true rfl, Nat.le_of_ble_eq_true rfl⟩ 0 rfl rfl rfl hl.1 (Nat.le_of_ble_eq_true rfl) d_Store_load_11 ⟨by show _ ≤ rc; omega, by show _ ≤ 1024 * rc; omega⟩) hP hD hS hA [1, 2, 3, 4, 5, 6, 7, 8, 9] [0, 10, 11, 12, 13, 14, 15] [0, 7, 8, 9, 10, 11, 12, 13, 14, 15, 1, 2, 3, 4, 5, 6] rfl rfl rfl rfl (by decide) rfl (fun _ => rfl) (fun rr _ H hw hP hD hS => ?_)
    have hw := hw.symm
    subst hw
    refine lv_if_le (tgt := 25) hx hb d_Store_load_14 (by decide) (fun q3 => ?_) (fun q3 => ?_)
    · have h := it h q3
      refine lv_aload_n hx hb d_Store_load_25 rfl (lv_at hl 0 rfl) ?_
      refine va_get (D := G.1) (ci := 5) (v := .ref a_ao) (C := "BranchStore") (T := F_Store) (N := 7) hx hb hts i_Store hown hK hP 0 rfl rfl 2 (by decide) (hts _ k_174) (fun _ h9 => h9) rfl d_Store_load_26 ?_
      refine lv_iconst (v := 0) hx hb d_Store_load_29 (by decide) ?_
      obtain ⟨r4, hr4, h⟩ := ob h
      refine zpcalll (wr := [(a_s, .inr (5, [.int c_sort, .ref a_t, .ref a_ao, .ref a_bo, .ref a_uo, .int c_set, .ref a_go])), (a_t, .inr (4, [.ref a_c, .ref a_mv, .int c_en, .int c_rt, .ref a_fr, .ref a_e0, .ref a_e1, .ref a_e2, .ref a_e3, .ref a_br, .ref a_lo, .ref a_ho, .long c_fi, .long c_st, .long c_vz])), (a_c, .inl (G.2.1, c_cl, .inl c_c)), (a_mv, .inl (G.2.1, c_ml, .inl c_mv)), (a_fr, .inl (G.2.1, 261, .inl c_fr)), (a_br, .inl (G.2.1, 4, .inl c_br)), (a_e0, .inr (1, [.int 0, .int 9, .int 4, .int 5])), (a_e1, .inr (1, [.int 1, .int 24, .int 16, .int 8])), (a_e2, .inr (2, [.int 2, .int 116, .int 48])), (a_e3, .inr (3, [.int 3, .int 260, .int 256])), (a_lo, .inr (0, [.ref a_lq, .int c_ln, .int c_lt])), (a_lq, .inl (G.2.2.1, 50, .inl c_lb)), (a_ho, .inr (0, [.ref a_hq, .int c_hn, .int c_ht])), (a_hq, .inl (G.2.2.1, 50, .inl c_hb))]) (w2 := fun _ => (wB G a_s a_t a_ao a_bo a_uo a_go c_sort c_set ++ wT G a_t a_c a_mv a_fr a_br a_e0 a_e1 a_e2 a_e3 a_lo a_ho c_c c_cl c_mv c_ml c_en c_rt c_fr c_br c_fi c_st c_vz ++ wK G a_lo a_lq c_lb c_ln c_lt ++ wK G a_ho a_hq c_hb c_hn c_ht ++ wK G a_ao a_aq c_ab c_an c_at)) (zrunV (As := [.int 0]) (rest := []) ⟨hx, hb, hml, hown, hts⟩ hN hK (c_Key_part l G H.size a_ao a_aq c_ab c_an c_at 0 r4 hr4) ⟨rfl, rfl⟩ kv_Store_122 ⟨Nat.le_of_ble_eq_true rfl, Nat.le_of_ble_eq_true rfl⟩ 0 rfl rfl rfl hl.1 (Nat.le_of_ble_eq_true rfl) d_Store_load_30 ⟨by show _ ≤ rc; omega, by show _ ≤ 1024 * rc; omega⟩) hP hD hS hA [14, 15] [0, 1, 2, 3, 4, 5, 6, 7, 8, 9, 10, 11, 12, 13] [0, 1, 2, 3, 4, 5, 6, 7, 8, 9, 10, 11, 12, 13, 14, 15] rfl rfl rfl rfl (by decide) rfl (fun _ => rfl) (fun rr _ H hw hP hD hS => ?_)
      have hw := hw.symm
      subst hw
      refine lv_lstore (lv' := [(6, .long r4), (0, .ref a_s), (1, .long p_1), (3, .int p_3), (4, .long p_4)]) hx hb d_Store_load_33 hl (by decide) rfl (fun ls hl => ?_)
      refine lv_lload_n hx hb d_Store_load_35 rfl (lv_at hl 2 rfl) ?_
      refine lv_lconst (v := 1) hx hb d_Store_load_36 (by decide) ?_
      refine W.lcmp hx hb d_Store_load_37 ?_
      refine lv_if_lt (tgt := 70) hx hb d_Store_load_38 (by decide) (fun q5 => ?_) (fun q5 => ?_)
      · have h := it h q5
        have ey := Option.some.inj h
        rw [← ey] at hRa hRc
        have hRc : rc = 0 + 1 := hRc
        obtain rfl := Sum.inl.inj hRa
        exact zthrow (ia := 74) (ic := 76) hQ hx hb hlocks htr hnh hts hN hTs hown (hml.trans hl.1.symm) hS hL k_516 k_517 k_13 kt_1 (by decide) (by show _ ≤ rc; omega) (by show _ ≤ 1024 * rc; omega) (by omega) (by omega) (Nat.le_of_ble_eq_true rfl) (Nat.le_of_ble_eq_true rfl) d_Store_load_70 d_Store_load_73 d_Store_load_74 d_Store_load_77
      · have h := ie h q5
        refine lv_iload_n hx hb d_Store_load_41 rfl (lv_at hl 3 rfl) ?_
        refine lv_if_lt (tgt := 70) hx hb d_Store_load_42 (by decide) (fun q6 => ?_) (fun q6 => ?_)
        · have h := it h q6
          have ey := Option.some.inj h
          rw [← ey] at hRa hRc
          have hRc : rc = 0 + 1 := hRc
          obtain rfl := Sum.inl.inj hRa
          exact zthrow (ia := 74) (ic := 76) hQ hx hb hlocks htr hnh hts hN hTs hown (hml.trans hl.1.symm) hS hL k_516 k_517 k_13 kt_1 (by decide) (by show _ ≤ rc; omega) (by show _ ≤ 1024 * rc; omega) (by omega) (by omega) (Nat.le_of_ble_eq_true rfl) (Nat.le_of_ble_eq_true rfl) d_Store_load_70 d_Store_load_73 d_Store_load_74 d_Store_load_77
        · have h := ie h q6
          refine lv_iload_n hx hb d_Store_load_45 rfl (lv_at hl 3 rfl) ?_
          refine lv_iconst (v := 1) hx hb d_Store_load_46 (by decide) ?_
          refine lv_icmp_le (tgt := 78) hx hb d_Store_load_47 (by decide) (fun q7 => ?_) (fun q7 => ?_)
          · have h := it h q7
            refine lv_iload_n hx hb d_Store_load_78 rfl (lv_at hl 3 rfl) ?_
            refine lv_sipush (v := 1500) hx hb d_Store_load_79 (by decide) ?_
            refine lv_icmp_le (tgt := 93) hx hb d_Store_load_82 (by decide) (fun q8 => ?_) (fun q8 => ?_)
            · have h := it h q8
              exact absurd h (fun h => nx_x h hRa)
            · have h := ie h q8
              have ey := Option.some.inj h
              rw [← ey] at hRa hRc
              have hRc : rc = 0 + 1 := hRc
              obtain rfl := Sum.inl.inj hRa
              exact zthrow (ia := 80) (ic := 82) hQ hx hb hlocks htr hnh hts hN hTs hown (hml.trans hl.1.symm) hS hL k_531 k_532 k_14 kt_2 (by decide) (by show _ ≤ rc; omega) (by show _ ≤ 1024 * rc; omega) (by omega) (by omega) (Nat.le_of_ble_eq_true rfl) (Nat.le_of_ble_eq_true rfl) d_Store_load_85 d_Store_load_88 d_Store_load_89 d_Store_load_92
          · have h := ie h q7
            refine lv_ldc2 (v := 9223372036854775807) hx hb hown (hts _ k_708) d_Store_load_50 ?_
            refine lv_lload hx hb d_Store_load_53 (lv_at hl 0 rfl) ?_
            refine lv_lsub hx hb d_Store_load_55 ?_
            refine lv_lload_n hx hb d_Store_load_56 rfl (lv_at hl 2 rfl) ?_
            obtain ⟨r9, hr9, h⟩ := ob h
            refine zpcalll (wr := (wB G a_s a_t a_ao a_bo a_uo a_go c_sort c_set ++ wT G a_t a_c a_mv a_fr a_br a_e0 a_e1 a_e2 a_e3 a_lo a_ho c_c c_cl c_mv c_ml c_en c_rt c_fr c_br c_fi c_st c_vz ++ wK G a_lo a_lq c_lb c_ln c_lt ++ wK G a_ho a_hq c_hb c_hn c_ht ++ wK G a_ao a_aq c_ab c_an c_at)) (w2 := fun _ => (wB G a_s a_t a_ao a_bo a_uo a_go c_sort c_set ++ wT G a_t a_c a_mv a_fr a_br a_e0 a_e1 a_e2 a_e3 a_lo a_ho c_c c_cl c_mv c_ml c_en c_rt c_fr c_br c_fi c_st c_vz ++ wK G a_lo a_lq c_lb c_ln c_lt ++ wK G a_ho a_hq c_hb c_hn c_ht ++ wK G a_ao a_aq c_ab c_an c_at)) (zrunS (As := [.long (9223372036854775807 - r4), .long p_1]) (rest := []) ⟨hx, hb, hml, hown, hts⟩ hN hK (c_Long_divideUnsigned l G H.size (9223372036854775807 - r4) p_1 r9 hr9) ⟨rfl, rfl⟩ kv_Store_148 ⟨Nat.le_of_ble_eq_true rfl, Nat.le_of_ble_eq_true rfl⟩ rfl hl.1 (Nat.le_of_ble_eq_true rfl) d_Store_load_57 ⟨by show _ ≤ rc; omega, by show _ ≤ 1024 * rc; omega⟩) hP hD hS hA [] [0, 1, 2, 3, 4, 5, 6, 7, 8, 9, 10, 11, 12, 13, 14, 15] [0, 1, 2, 3, 4, 5, 6, 7, 8, 9, 10, 11, 12, 13, 14, 15] rfl rfl rfl rfl (by decide) rfl (fun _ => rfl) (fun rr _ H hw hP hD hS => ?_)
            have hw := hw.symm
            subst hw
            refine lv_iload_n hx hb d_Store_load_60 rfl (lv_at hl 3 rfl) ?_
            refine lv_i2l (v := p_3.toInt64) hx hb d_Store_load_61 rfl ?_
            refine lv_lconst (v := 1) hx hb d_Store_load_62 (by decide) ?_
            refine lv_lsub hx hb d_Store_load_63 ?_
            obtain ⟨r10, hr10, h⟩ := ob h
            refine zpcalli (wr := (wB G a_s a_t a_ao a_bo a_uo a_go c_sort c_set ++ wT G a_t a_c a_mv a_fr a_br a_e0 a_e1 a_e2 a_e3 a_lo a_ho c_c c_cl c_mv c_ml c_en c_rt c_fr c_br c_fi c_st c_vz ++ wK G a_lo a_lq c_lb c_ln c_lt ++ wK G a_ho a_hq c_hb c_hn c_ht ++ wK G a_ao a_aq c_ab c_an c_at)) (w2 := fun _ => (wB G a_s a_t a_ao a_bo a_uo a_go c_sort c_set ++ wT G a_t a_c a_mv a_fr a_br a_e0 a_e1 a_e2 a_e3 a_lo a_ho c_c c_cl c_mv c_ml c_en c_rt c_fr c_br c_fi c_st c_vz ++ wK G a_lo a_lq c_lb c_ln c_lt ++ wK G a_ho a_hq c_hb c_hn c_ht ++ wK G a_ao a_aq c_ab c_an c_at)) (zrunS (As := [.long r9, .long (p_3.toInt64 - 1)]) (rest := []) ⟨hx, hb, hml, hown, hts⟩ hN hK (c_Long_compareUnsigned l G H.size r9 (p_3.toInt64 - 1) r10 hr10) ⟨rfl, rfl⟩ kv_Store_152 ⟨Nat.le_of_ble_eq_true rfl, Nat.le_of_ble_eq_true rfl⟩ rfl hl.1 (Nat.le_of_ble_eq_true rfl) d_Store_load_64 ⟨by show _ ≤ rc; omega, by show _ ≤ 1024 * rc; omega⟩) hP hD hS hA [] [0, 1, 2, 3, 4, 5, 6, 7, 8, 9, 10, 11, 12, 13, 14, 15] [0, 1, 2, 3, 4, 5, 6, 7, 8, 9, 10, 11, 12, 13, 14, 15] rfl rfl rfl rfl (by decide) rfl (fun _ => rfl) (fun rr _ H hw hP hD hS => ?_)
            have hw := hw.symm
            subst hw
            refine lv_if_ge (tgt := 78) hx hb d_Store_load_67 (by decide) (fun q11 => ?_) (fun q11 => ?_)
            · have h := it h q11
              refine lv_iload_n hx hb d_Store_load_78 rfl (lv_at hl 3 rfl) ?_
              refine lv_sipush (v := 1500) hx hb d_Store_load_79 (by decide) ?_
              refine lv_icmp_le (tgt := 93) hx hb d_Store_load_82 (by decide) (fun q12 => ?_) (fun q12 => ?_)
              · have h := it h q12
                exact absurd h (fun h => nx_x h hRa)
              · have h := ie h q12
                have ey := Option.some.inj h
                rw [← ey] at hRa hRc
                have hRc : rc = 0 + 1 := hRc
                obtain rfl := Sum.inl.inj hRa
                exact zthrow (ia := 80) (ic := 82) hQ hx hb hlocks htr hnh hts hN hTs hown (hml.trans hl.1.symm) hS hL k_531 k_532 k_14 kt_2 (by decide) (by show _ ≤ rc; omega) (by show _ ≤ 1024 * rc; omega) (by omega) (by omega) (Nat.le_of_ble_eq_true rfl) (Nat.le_of_ble_eq_true rfl) d_Store_load_85 d_Store_load_88 d_Store_load_89 d_Store_load_92
            · have h := ie h q11
              have ey := Option.some.inj h
              rw [← ey] at hRa hRc
              have hRc : rc = 0 + 1 := hRc
              obtain rfl := Sum.inl.inj hRa
              exact zthrow (ia := 74) (ic := 76) hQ hx hb hlocks htr hnh hts hN hTs hown (hml.trans hl.1.symm) hS hL k_516 k_517 k_13 kt_1 (by decide) (by show _ ≤ rc; omega) (by show _ ≤ 1024 * rc; omega) (by omega) (by omega) (Nat.le_of_ble_eq_true rfl) (Nat.le_of_ble_eq_true rfl) d_Store_load_70 d_Store_load_73 d_Store_load_74 d_Store_load_77
    · have h := ie h q3
      have ey := Option.some.inj h
      rw [← ey] at hRa hRc
      have hRc : rc = 0 + 1 := hRc
      obtain rfl := Sum.inl.inj hRa
      exact zthrow (ia := 64) (ic := 66) hQ hx hb hlocks htr hnh hts hN hTs hown (hml.trans hl.1.symm) hS hL k_433 k_434 k_12 kt_0 (by decide) (by show _ ≤ rc; omega) (by show _ ≤ 1024 * rc; omega) (by omega) (by omega) (Nat.le_of_ble_eq_true rfl) (Nat.le_of_ble_eq_true rfl) d_Store_load_17 d_Store_load_20 d_Store_load_21 d_Store_load_24

theorem kv_Store_160 : zKV "BranchStore" 160 y_Tree_compact prog_7_method_33_code 4 (some .int) 0 := ⟨k_402, k_403, k_404, k_2, k_405, by decide +kernel⟩
noncomputable def f_Store_compact (c_c : (Nat → Int32)) (c_cl : Nat) (c_mv : (Nat → Int32)) (c_ml : Nat) (c_en : Int32) (c_rt : Int32) (c_fr : (Nat → Int32))  : Option ((Int32 × (Nat → Int32) × Nat × (Nat → Int32) × Nat × Int32 × Int32 × (Nat → Int32)) × Nat) :=
bd (f_Tree_compact c_c c_cl c_mv c_ml c_en c_rt c_fr) fun r1 =>
some ((r1.1, r1.2.1, r1.2.2.1, r1.2.2.2.1, r1.2.2.2.2.1, r1.2.2.2.2.2.1, r1.2.2.2.2.2.2.1, r1.2.2.2.2.2.2.2), 0)
set_option maxHeartbeats 8000000 in
set_option maxRecDepth 100000 in
theorem c_Store_compact (l : Launch) (G : zG) (sz : Nat) (a_s a_t a_ao a_bo a_uo a_go a_c a_mv a_fr a_br a_e0 a_e1 a_e2 a_e3 a_lo a_ho : Nat) (c_sort : Int32) (c_set : Int32) (c_c : (Nat → Int32)) (c_cl : Nat) (c_mv : (Nat → Int32)) (c_ml : Nat) (c_en : Int32) (c_rt : Int32) (c_fr : (Nat → Int32)) (c_br : (Nat → Int32)) (c_fi : Int64) (c_st : Int64) (c_vz : Int64) (r0 : (Int32 × (Nat → Int32) × Nat × (Nat → Int32) × Nat × Int32 × Int32 × (Nat → Int32))) (rc : Nat) (hf : f_Store_compact c_c c_cl c_mv c_ml c_en c_rt c_fr = some (r0, rc)) :
    Met l y_Store_compact (Cond.code y_Store_compact prog_1_method_27_code 1 (some .int) :: lw_ok) { frames := 65, cells := rc, slots := 1024 * rc, locals := 1802 } (zPc G sz [.ref a_s] (wB G a_s a_t a_ao a_bo a_uo a_go c_sort c_set ++ wT G a_t a_c a_mv a_fr a_br a_e0 a_e1 a_e2 a_e3 a_lo a_ho c_c c_cl c_mv c_ml c_en c_rt c_fr c_br c_fi c_st c_vz))
      ((fun (A : Nat → Prop) => va_Qi (fun (r : Int32) (u : Nat × Nat) => r = r0.1) (fun u t => zB G A (wB G a_s a_t a_ao a_bo a_uo a_go c_sort c_set ++ wT G a_t u.1 u.2 a_fr a_br a_e0 a_e1 a_e2 a_e3 a_lo a_ho r0.2.1 r0.2.2.1 r0.2.2.2.1 r0.2.2.2.2.1 r0.2.2.2.2.2.1 r0.2.2.2.2.2.2.1 r0.2.2.2.2.2.2.2 c_br c_fi c_st c_vz) t) A) (va_A (wB G a_s a_t a_ao a_bo a_uo a_go c_sort c_set ++ wT G a_t a_c a_mv a_fr a_br a_e0 a_e1 a_e2 a_e3 a_lo a_ho c_c c_cl c_mv c_ml c_en c_rt c_fr c_br c_fi c_st c_vz) sz)) rc (1024 * rc) (va_A (wB G a_s a_t a_ao a_bo a_uo a_go c_sort c_set ++ wT G a_t a_c a_mv a_fr a_br a_e0 a_e1 a_e2 a_e3 a_lo a_ho c_c c_cl c_mv c_ml c_en c_rt c_fr c_br c_fi c_st c_vz) sz) := by
  refine zMet (Qc := fun (A : Nat → Prop) => va_Qi (fun (r : Int32) (u : Nat × Nat) => r = r0.1) (fun u t => zB G A (wB G a_s a_t a_ao a_bo a_uo a_go c_sort c_set ++ wT G a_t u.1 u.2 a_fr a_br a_e0 a_e1 a_e2 a_e3 a_lo a_ho r0.2.1 r0.2.2.1 r0.2.2.2.1 r0.2.2.2.2.1 r0.2.2.2.2.2.1 r0.2.2.2.2.2.2.1 r0.2.2.2.2.2.2.2 c_br c_fi c_st c_vz) t) A) (by decide) (Nat.le_of_ble_eq_true rfl) (fun xp xe xs xm xb xme xc A ls Q H locs C hN hK hP hD hS hA hl hQ => ?_)
  obtain ⟨hx, hb, hr, hts, hown, hlocks, hml, hin⟩ := C
  have hl : lv_has ls 1 [(0, .ref a_s)] := hl
  have h := hf
  unfold f_Store_compact at h
  have hRa : r0 = (r0, rc).1 := rfl
  have hRc : rc = 0 + (r0, rc).2 := (Nat.zero_add _).symm
  refine W.widen (k := 0) (n := 1024 * 0) (Nat.le_refl _) (Nat.le_refl _) ?_
  refine lv_aload_n hx hb d_Store_compact_0 rfl (lv_at hl 0 rfl) ?_
  refine va_get (D := G.1) (ci := 5) (v := .ref a_t) (C := "BranchStore") (T := F_Store) (N := 7) hx hb hts i_Store hown hK hP 0 rfl rfl 1 (by decide) (hts _ k_173) (fun _ h9 => h9) rfl d_Store_compact_1 ?_
  obtain ⟨r1, dr1, y2, hr1, h, hRa, hRc⟩ := bd_k h hRa hRc
  refine zcalli (wr := [(a_s, .inr (5, [.int c_sort, .ref a_t, .ref a_ao, .ref a_bo, .ref a_uo, .int c_set, .ref a_go]))]) (w2 := fun (u3 : Nat × Nat) => (wB G a_s a_t a_ao a_bo a_uo a_go c_sort c_set ++ wT G a_t u3.1 u3.2 a_fr a_br a_e0 a_e1 a_e2 a_e3 a_lo a_ho r1.2.1 r1.2.2.1 r1.2.2.2.1 r1.2.2.2.2.1 r1.2.2.2.2.2.1 r1.2.2.2.2.2.2.1 r1.2.2.2.2.2.2.2 c_br c_fi c_st c_vz)) (zrunV (As := []) (rest := []) ⟨hx, hb, hml, hown, hts⟩ hN hK (c_Tree_compact l G H.size a_t a_c a_mv a_fr a_br a_e0 a_e1 a_e2 a_e3 a_lo a_ho c_c c_cl c_mv c_ml c_en c_rt c_fr c_br c_fi c_st c_vz r1 dr1 hr1) ⟨rfl, rfl⟩ kv_Store_160 ⟨Nat.le_of_ble_eq_true rfl, Nat.le_of_ble_eq_true rfl⟩ 0 rfl rfl rfl hl.1 (Nat.le_of_ble_eq_true rfl) d_Store_compact_4 ⟨by show _ ≤ rc; omega, by show _ ≤ 1024 * rc; omega⟩) hP hD hS hA [1, 2, 3, 4, 5, 6, 7, 8, 9] [0] [0, 1, 2, 3, 4, 5, 6, 7, 8, 9] rfl rfl rfl rfl (by decide) rfl (fun _ => rfl) (fun rr u3 H locs hw hP hD hS => ?_)
  refine W.widen (k := 0 + dr1) (n := 1024 * (0 + dr1)) (by omega) (by omega) ?_
  have hw := hw.symm
  subst hw
  have ey := Option.some.inj h
  rw [← ey] at hRa hRc
  have hRa : r0 = (r1.1, r1.2.1, r1.2.2.1, r1.2.2.2.1, r1.2.2.2.2.1, r1.2.2.2.2.2.1, r1.2.2.2.2.2.2.1, r1.2.2.2.2.2.2.2) := hRa
  have hRc : rc = 0 + dr1 + 0 := hRc
  subst hRa
  exact zreti (u3.1, u3.2) hQ hS.2.2 hx hb hr hlocks hP hD hS rfl (by omega) (by omega) d_Store_compact_7

theorem kv_Store_167 : zKV "BranchStore" 167 y_Tree_deepest prog_7_method_36_code 1 (some .int) 0 := ⟨k_745, k_746, k_747, k_2, k_748, by decide +kernel⟩
theorem kv_Store_170 : zKV "BranchStore" 170 y_Tree_deep prog_7_method_35_code 4 (some .int) 1 := ⟨k_754, k_755, k_756, k_2, k_757, by decide +kernel⟩
theorem kv_Store_173 : zKV "BranchStore" 173 y_Tree_first prog_7_method_38_code 1 (some .int) 0 := ⟨k_759, k_760, k_761, k_2, k_762, by decide +kernel⟩
noncomputable def f_Store_about (c_c : (Nat → Int32)) (c_cl : Nat) (c_rt : Int32) (c_br : (Nat → Int32)) (c_ab : (Nat → Int32)) (c_an : Int32) (p_1 : Int32) : Option ((Nat ⊕ Int32) × Nat) :=
if p_1 = 0 then
(nx <|
(f_Tree_keys c_c c_cl c_rt).bind fun r3 =>
some (r3, 0))
else
(if p_1 = 1 then
(nx <|
gi (p_1 - 1) 4 <|
some ((c_br (p_1 - 1).toNatClampNeg), 0))
else
(if p_1 = 2 then
(nx <|
gi (p_1 - 1) 4 <|
some ((c_br (p_1 - 1).toNatClampNeg), 0))
else
(if p_1 = 3 then
(nx <|
gi (p_1 - 1) 4 <|
some ((c_br (p_1 - 1).toNatClampNeg), 0))
else
(if p_1 = 4 then
(nx <|
gi (p_1 - 1) 4 <|
some ((c_br (p_1 - 1).toNatClampNeg), 0))
else
(if p_1 = 5 then
(nx <|
(f_Tree_deepest c_c c_cl c_rt).bind fun r18 =>
some (r18, 0))
else
(if p_1 = 6 then
(nx <|
(f_Tree_deep c_c c_cl c_rt c_ab c_an).bind fun r21 =>
some (r21, 0))
else
(if p_1 = 7 then
(nx <|
(f_Tree_first c_c c_cl c_rt).bind fun r24 =>
some (r24, 0))
else
(some (.inl 1, 1)))))))))
set_option maxHeartbeats 8000000 in
set_option maxRecDepth 100000 in
theorem c_Store_about (l : Launch) (G : zG) (sz : Nat) (a_s a_t a_ao a_bo a_uo a_go a_c a_mv a_fr a_br a_e0 a_e1 a_e2 a_e3 a_lo a_ho a_aq : Nat) (c_sort : Int32) (c_set : Int32) (c_c : (Nat → Int32)) (c_cl : Nat) (c_mv : (Nat → Int32)) (c_ml : Nat) (c_en : Int32) (c_rt : Int32) (c_fr : (Nat → Int32)) (c_br : (Nat → Int32)) (c_fi : Int64) (c_st : Int64) (c_vz : Int64) (c_ab : (Nat → Int32)) (c_an : Int32) (c_at : Int32) (p_1 : Int32) (r0 : Int32) (rc : Nat) (hf : f_Store_about c_c c_cl c_rt c_br c_ab c_an p_1 = some (.inr r0, rc)) :
    Met l y_Store_about (Cond.code y_Store_about prog_1_method_28_code 2 (some .int) :: lw_ok) { frames := 66, cells := rc, slots := 1024 * rc, locals := 1578 } (zPc G sz [.ref a_s, .int p_1] (wB G a_s a_t a_ao a_bo a_uo a_go c_sort c_set ++ wT G a_t a_c a_mv a_fr a_br a_e0 a_e1 a_e2 a_e3 a_lo a_ho c_c c_cl c_mv c_ml c_en c_rt c_fr c_br c_fi c_st c_vz ++ wK G a_ao a_aq c_ab c_an c_at))
      ((fun (A : Nat → Prop) => va_Qi (fun (r : Int32) (u : Nat × Nat) => r = r0) (fun u t => zB G A (wB G a_s a_t a_ao a_bo a_uo a_go c_sort c_set ++ wT G a_t u.1 u.2 a_fr a_br a_e0 a_e1 a_e2 a_e3 a_lo a_ho c_c c_cl c_mv c_ml c_en c_rt c_fr c_br c_fi c_st c_vz ++ wK G a_ao a_aq c_ab c_an c_at) t) A) (va_A (wB G a_s a_t a_ao a_bo a_uo a_go c_sort c_set ++ wT G a_t a_c a_mv a_fr a_br a_e0 a_e1 a_e2 a_e3 a_lo a_ho c_c c_cl c_mv c_ml c_en c_rt c_fr c_br c_fi c_st c_vz ++ wK G a_ao a_aq c_ab c_an c_at) sz)) rc (1024 * rc) (va_A (wB G a_s a_t a_ao a_bo a_uo a_go c_sort c_set ++ wT G a_t a_c a_mv a_fr a_br a_e0 a_e1 a_e2 a_e3 a_lo a_ho c_c c_cl c_mv c_ml c_en c_rt c_fr c_br c_fi c_st c_vz ++ wK G a_ao a_aq c_ab c_an c_at) sz) := by
  refine zMet (Qc := fun (A : Nat → Prop) => va_Qi (fun (r : Int32) (u : Nat × Nat) => r = r0) (fun u t => zB G A (wB G a_s a_t a_ao a_bo a_uo a_go c_sort c_set ++ wT G a_t u.1 u.2 a_fr a_br a_e0 a_e1 a_e2 a_e3 a_lo a_ho c_c c_cl c_mv c_ml c_en c_rt c_fr c_br c_fi c_st c_vz ++ wK G a_ao a_aq c_ab c_an c_at) t) A) (by decide) (Nat.le_of_ble_eq_true rfl) (fun xp xe xs xm xb xme xc A ls Q H locs C hN hK hP hD hS hA hl hQ => ?_)
  obtain ⟨hx, hb, hr, hts, hown, hlocks, hml, hin⟩ := C
  have hl : lv_has ls 2 [(0, .ref a_s), (1, .int p_1)] := hl
  have h := hf
  unfold f_Store_about at h
  have hRa : (Sum.inr r0 : Nat ⊕ Int32) = ((Sum.inr r0, rc) : (Nat ⊕ Int32) × Nat).1 := rfl
  have hRc : rc = 0 + ((Sum.inr r0, rc) : (Nat ⊕ Int32) × Nat).2 := (Nat.zero_add _).symm
  refine W.widen (k := 0) (n := 1024 * 0) (Nat.le_refl _) (Nat.le_refl _) ?_
  refine lv_iload_n hx hb d_Store_about_0 rfl (lv_at hl 1 rfl) ?_
  by_cases q1 : p_1 = 0
  · have h := it h q1
    refine lv_tableIn (tgt := 48) hx hb d_Store_about_1 (by rw [q1]; decide) (by rw [q1]; decide) (by rw [q1]; rfl) (by decide) ?_
    obtain ⟨y2, h, hRa, hRc⟩ := nx_n h hRa hRc
    refine lv_aload_n hx hb d_Store_about_48 rfl (lv_at hl 0 rfl) ?_
    refine va_get (D := G.1) (ci := 5) (v := .ref a_t) (C := "BranchStore") (T := F_Store) (N := 7) hx hb hts i_Store hown hK hP 0 rfl rfl 1 (by decide) (hts _ k_173) (fun _ h9 => h9) rfl d_Store_about_49 ?_
    obtain ⟨r3, hr3, h⟩ := ob h
    refine zpcalli (wr := [(a_s, .inr (5, [.int c_sort, .ref a_t, .ref a_ao, .ref a_bo, .ref a_uo, .int c_set, .ref a_go])), (a_ao, .inr (0, [.ref a_aq, .int c_an, .int c_at])), (a_aq, .inl (G.2.2.1, 50, .inl c_ab))]) (w2 := fun _ => (wB G a_s a_t a_ao a_bo a_uo a_go c_sort c_set ++ wT G a_t a_c a_mv a_fr a_br a_e0 a_e1 a_e2 a_e3 a_lo a_ho c_c c_cl c_mv c_ml c_en c_rt c_fr c_br c_fi c_st c_vz ++ wK G a_ao a_aq c_ab c_an c_at)) (zrunV (As := []) (rest := []) ⟨hx, hb, hml, hown, hts⟩ hN hK (c_Tree_keys l G H.size a_t a_c a_mv a_fr a_br a_e0 a_e1 a_e2 a_e3 a_lo a_ho c_c c_cl c_mv c_ml c_en c_rt c_fr c_br c_fi c_st c_vz r3 hr3) ⟨rfl, rfl⟩ kv_Store_27 ⟨Nat.le_of_ble_eq_true rfl, Nat.le_of_ble_eq_true rfl⟩ 0 rfl rfl rfl hl.1 (Nat.le_of_ble_eq_true rfl) d_Store_about_52 ⟨by show _ ≤ rc; omega, by show _ ≤ 1024 * rc; omega⟩) hP hD hS hA [1, 2, 3, 4, 5, 6, 7, 8, 9] [0, 10, 11] [0, 3, 4, 5, 6, 7, 8, 9, 10, 11, 1, 2] rfl rfl rfl rfl (by decide) rfl (fun _ => rfl) (fun rr _ H hw hP hD hS => ?_)
    have hw := hw.symm
    subst hw
    have ey := Option.some.inj h
    rw [← ey] at hRa hRc
    have hRa : r0 = r3 := hRa
    have hRc : rc = 0 + 0 := hRc
    subst hRa
    exact zreti (a_c, a_mv) hQ hS.2.2 hx hb hr hlocks hP hD hS rfl (by omega) (by omega) d_Store_about_55
  have h := ie h q1
  by_cases q4 : p_1 = 1
  · have h := it h q4
    refine lv_tableIn (tgt := 56) hx hb d_Store_about_1 (by rw [q4]; decide) (by rw [q4]; decide) (by rw [q4]; rfl) (by decide) ?_
    obtain ⟨y5, h, hRa, hRc⟩ := nx_n h hRa hRc
    refine lv_aload_n hx hb d_Store_about_56 rfl (lv_at hl 0 rfl) ?_
    refine va_get (D := G.1) (ci := 5) (v := .ref a_t) (C := "BranchStore") (T := F_Store) (N := 7) hx hb hts i_Store hown hK hP 0 rfl rfl 1 (by decide) (hts _ k_173) (fun _ h9 => h9) rfl d_Store_about_57 ?_
    refine va_get (D := G.1) (ci := 4) (v := .ref a_br) (C := "BranchStore$Tree") (T := F_Tree) (N := 15) hx hb hts i_Tree hown hK hP 1 rfl rfl 9 (by decide) (hts _ k_133) (fun _ h9 => h9) rfl d_Store_about_60 ?_
    refine lv_iload_n hx hb d_Store_about_63 rfl (lv_at hl 1 rfl) ?_
    refine lv_iconst (v := 1) hx hb d_Store_about_64 (by decide) ?_
    refine lv_isub hx hb d_Store_about_65 ?_
    obtain ⟨h6, h⟩ := gi_k h
    refine va_iald hx hb hK hP 5 0 rfl rfl h6 d_Store_about_66 ?_
    have ey := Option.some.inj h
    rw [← ey] at hRa hRc
    have hRa : r0 = (c_br (p_1 - 1).toNatClampNeg) := hRa
    have hRc : rc = 0 + 0 := hRc
    subst hRa
    exact zreti (a_c, a_mv) hQ hS.2.2 hx hb hr hlocks hP hD hS rfl (by omega) (by omega) d_Store_about_67
  have h := ie h q4
  by_cases q7 : p_1 = 2
  · have h := it h q7
    refine lv_tableIn (tgt := 56) hx hb d_Store_about_1 (by rw [q7]; decide) (by rw [q7]; decide) (by rw [q7]; rfl) (by decide) ?_
    obtain ⟨y8, h, hRa, hRc⟩ := nx_n h hRa hRc
    refine lv_aload_n hx hb d_Store_about_56 rfl (lv_at hl 0 rfl) ?_
    refine va_get (D := G.1) (ci := 5) (v := .ref a_t) (C := "BranchStore") (T := F_Store) (N := 7) hx hb hts i_Store hown hK hP 0 rfl rfl 1 (by decide) (hts _ k_173) (fun _ h9 => h9) rfl d_Store_about_57 ?_
    refine va_get (D := G.1) (ci := 4) (v := .ref a_br) (C := "BranchStore$Tree") (T := F_Tree) (N := 15) hx hb hts i_Tree hown hK hP 1 rfl rfl 9 (by decide) (hts _ k_133) (fun _ h9 => h9) rfl d_Store_about_60 ?_
    refine lv_iload_n hx hb d_Store_about_63 rfl (lv_at hl 1 rfl) ?_
    refine lv_iconst (v := 1) hx hb d_Store_about_64 (by decide) ?_
    refine lv_isub hx hb d_Store_about_65 ?_
    obtain ⟨h9, h⟩ := gi_k h
    refine va_iald hx hb hK hP 5 0 rfl rfl h9 d_Store_about_66 ?_
    have ey := Option.some.inj h
    rw [← ey] at hRa hRc
    have hRa : r0 = (c_br (p_1 - 1).toNatClampNeg) := hRa
    have hRc : rc = 0 + 0 := hRc
    subst hRa
    exact zreti (a_c, a_mv) hQ hS.2.2 hx hb hr hlocks hP hD hS rfl (by omega) (by omega) d_Store_about_67
  have h := ie h q7
  by_cases q10 : p_1 = 3
  · have h := it h q10
    refine lv_tableIn (tgt := 56) hx hb d_Store_about_1 (by rw [q10]; decide) (by rw [q10]; decide) (by rw [q10]; rfl) (by decide) ?_
    obtain ⟨y11, h, hRa, hRc⟩ := nx_n h hRa hRc
    refine lv_aload_n hx hb d_Store_about_56 rfl (lv_at hl 0 rfl) ?_
    refine va_get (D := G.1) (ci := 5) (v := .ref a_t) (C := "BranchStore") (T := F_Store) (N := 7) hx hb hts i_Store hown hK hP 0 rfl rfl 1 (by decide) (hts _ k_173) (fun _ h9 => h9) rfl d_Store_about_57 ?_
    refine va_get (D := G.1) (ci := 4) (v := .ref a_br) (C := "BranchStore$Tree") (T := F_Tree) (N := 15) hx hb hts i_Tree hown hK hP 1 rfl rfl 9 (by decide) (hts _ k_133) (fun _ h9 => h9) rfl d_Store_about_60 ?_
    refine lv_iload_n hx hb d_Store_about_63 rfl (lv_at hl 1 rfl) ?_
    refine lv_iconst (v := 1) hx hb d_Store_about_64 (by decide) ?_
    refine lv_isub hx hb d_Store_about_65 ?_
    obtain ⟨h12, h⟩ := gi_k h
    refine va_iald hx hb hK hP 5 0 rfl rfl h12 d_Store_about_66 ?_
    have ey := Option.some.inj h
    rw [← ey] at hRa hRc
    have hRa : r0 = (c_br (p_1 - 1).toNatClampNeg) := hRa
    have hRc : rc = 0 + 0 := hRc
    subst hRa
    exact zreti (a_c, a_mv) hQ hS.2.2 hx hb hr hlocks hP hD hS rfl (by omega) (by omega) d_Store_about_67
  have h := ie h q10
  by_cases q13 : p_1 = 4
  · have h := it h q13
    refine lv_tableIn (tgt := 56) hx hb d_Store_about_1 (by rw [q13]; decide) (by rw [q13]; decide) (by rw [q13]; rfl) (by decide) ?_
    obtain ⟨y14, h, hRa, hRc⟩ := nx_n h hRa hRc
    refine lv_aload_n hx hb d_Store_about_56 rfl (lv_at hl 0 rfl) ?_
    refine va_get (D := G.1) (ci := 5) (v := .ref a_t) (C := "BranchStore") (T := F_Store) (N := 7) hx hb hts i_Store hown hK hP 0 rfl rfl 1 (by decide) (hts _ k_173) (fun _ h9 => h9) rfl d_Store_about_57 ?_
    refine va_get (D := G.1) (ci := 4) (v := .ref a_br) (C := "BranchStore$Tree") (T := F_Tree) (N := 15) hx hb hts i_Tree hown hK hP 1 rfl rfl 9 (by decide) (hts _ k_133) (fun _ h9 => h9) rfl d_Store_about_60 ?_
    refine lv_iload_n hx hb d_Store_about_63 rfl (lv_at hl 1 rfl) ?_
    refine lv_iconst (v := 1) hx hb d_Store_about_64 (by decide) ?_
    refine lv_isub hx hb d_Store_about_65 ?_
    obtain ⟨h15, h⟩ := gi_k h
    refine va_iald hx hb hK hP 5 0 rfl rfl h15 d_Store_about_66 ?_
    have ey := Option.some.inj h
    rw [← ey] at hRa hRc
    have hRa : r0 = (c_br (p_1 - 1).toNatClampNeg) := hRa
    have hRc : rc = 0 + 0 := hRc
    subst hRa
    exact zreti (a_c, a_mv) hQ hS.2.2 hx hb hr hlocks hP hD hS rfl (by omega) (by omega) d_Store_about_67
  have h := ie h q13
  by_cases q16 : p_1 = 5
  · have h := it h q16
    refine lv_tableIn (tgt := 68) hx hb d_Store_about_1 (by rw [q16]; decide) (by rw [q16]; decide) (by rw [q16]; rfl) (by decide) ?_
    obtain ⟨y17, h, hRa, hRc⟩ := nx_n h hRa hRc
    refine lv_aload_n hx hb d_Store_about_68 rfl (lv_at hl 0 rfl) ?_
    refine va_get (D := G.1) (ci := 5) (v := .ref a_t) (C := "BranchStore") (T := F_Store) (N := 7) hx hb hts i_Store hown hK hP 0 rfl rfl 1 (by decide) (hts _ k_173) (fun _ h9 => h9) rfl d_Store_about_69 ?_
    obtain ⟨r18, hr18, h⟩ := ob h
    refine zpcalli (wr := [(a_s, .inr (5, [.int c_sort, .ref a_t, .ref a_ao, .ref a_bo, .ref a_uo, .int c_set, .ref a_go])), (a_ao, .inr (0, [.ref a_aq, .int c_an, .int c_at])), (a_aq, .inl (G.2.2.1, 50, .inl c_ab))]) (w2 := fun _ => (wB G a_s a_t a_ao a_bo a_uo a_go c_sort c_set ++ wT G a_t a_c a_mv a_fr a_br a_e0 a_e1 a_e2 a_e3 a_lo a_ho c_c c_cl c_mv c_ml c_en c_rt c_fr c_br c_fi c_st c_vz ++ wK G a_ao a_aq c_ab c_an c_at)) (zrunV (As := []) (rest := []) ⟨hx, hb, hml, hown, hts⟩ hN hK (c_Tree_deepest l G H.size a_t a_c a_mv a_fr a_br a_e0 a_e1 a_e2 a_e3 a_lo a_ho c_c c_cl c_mv c_ml c_en c_rt c_fr c_br c_fi c_st c_vz r18 hr18) ⟨rfl, rfl⟩ kv_Store_167 ⟨Nat.le_of_ble_eq_true rfl, Nat.le_of_ble_eq_true rfl⟩ 0 rfl rfl rfl hl.1 (Nat.le_of_ble_eq_true rfl) d_Store_about_72 ⟨by show _ ≤ rc; omega, by show _ ≤ 1024 * rc; omega⟩) hP hD hS hA [1, 2, 3, 4, 5, 6, 7, 8, 9] [0, 10, 11] [0, 3, 4, 5, 6, 7, 8, 9, 10, 11, 1, 2] rfl rfl rfl rfl (by decide) rfl (fun _ => rfl) (fun rr _ H hw hP hD hS => ?_)
    have hw := hw.symm
    subst hw
    have ey := Option.some.inj h
    rw [← ey] at hRa hRc
    have hRa : r0 = r18 := hRa
    have hRc : rc = 0 + 0 := hRc
    subst hRa
    exact zreti (a_c, a_mv) hQ hS.2.2 hx hb hr hlocks hP hD hS rfl (by omega) (by omega) d_Store_about_75
  have h := ie h q16
  by_cases q19 : p_1 = 6
  · have h := it h q19
    refine lv_tableIn (tgt := 76) hx hb d_Store_about_1 (by rw [q19]; decide) (by rw [q19]; decide) (by rw [q19]; rfl) (by decide) ?_
    obtain ⟨y20, h, hRa, hRc⟩ := nx_n h hRa hRc
    refine lv_aload_n hx hb d_Store_about_76 rfl (lv_at hl 0 rfl) ?_
    refine va_get (D := G.1) (ci := 5) (v := .ref a_t) (C := "BranchStore") (T := F_Store) (N := 7) hx hb hts i_Store hown hK hP 0 rfl rfl 1 (by decide) (hts _ k_173) (fun _ h9 => h9) rfl d_Store_about_77 ?_
    refine lv_aload_n hx hb d_Store_about_80 rfl (lv_at hl 0 rfl) ?_
    refine va_get (D := G.1) (ci := 5) (v := .ref a_ao) (C := "BranchStore") (T := F_Store) (N := 7) hx hb hts i_Store hown hK hP 0 rfl rfl 2 (by decide) (hts _ k_174) (fun _ h9 => h9) rfl d_Store_about_81 ?_
    obtain ⟨r21, hr21, h⟩ := ob h
    refine zpcalli (wr := [(a_s, .inr (5, [.int c_sort, .ref a_t, .ref a_ao, .ref a_bo, .ref a_uo, .int c_set, .ref a_go]))]) (w2 := fun _ => (wB G a_s a_t a_ao a_bo a_uo a_go c_sort c_set ++ wT G a_t a_c a_mv a_fr a_br a_e0 a_e1 a_e2 a_e3 a_lo a_ho c_c c_cl c_mv c_ml c_en c_rt c_fr c_br c_fi c_st c_vz ++ wK G a_ao a_aq c_ab c_an c_at)) (zrunV (As := [.ref a_ao]) (rest := []) ⟨hx, hb, hml, hown, hts⟩ hN hK (c_Tree_deep l G H.size a_t a_c a_mv a_fr a_br a_e0 a_e1 a_e2 a_e3 a_lo a_ho a_ao a_aq c_c c_cl c_mv c_ml c_en c_rt c_fr c_br c_fi c_st c_vz c_ab c_an c_at r21 hr21) ⟨rfl, rfl⟩ kv_Store_170 ⟨Nat.le_of_ble_eq_true rfl, Nat.le_of_ble_eq_true rfl⟩ 0 rfl rfl rfl hl.1 (Nat.le_of_ble_eq_true rfl) d_Store_about_84 ⟨by show _ ≤ rc; omega, by show _ ≤ 1024 * rc; omega⟩) hP hD hS hA [1, 2, 3, 4, 5, 6, 7, 8, 9, 10, 11] [0] [0, 1, 2, 3, 4, 5, 6, 7, 8, 9, 10, 11] rfl rfl rfl rfl (by decide) rfl (fun _ => rfl) (fun rr _ H hw hP hD hS => ?_)
    have hw := hw.symm
    subst hw
    have ey := Option.some.inj h
    rw [← ey] at hRa hRc
    have hRa : r0 = r21 := hRa
    have hRc : rc = 0 + 0 := hRc
    subst hRa
    exact zreti (a_c, a_mv) hQ hS.2.2 hx hb hr hlocks hP hD hS rfl (by omega) (by omega) d_Store_about_87
  have h := ie h q19
  by_cases q22 : p_1 = 7
  · have h := it h q22
    refine lv_tableIn (tgt := 88) hx hb d_Store_about_1 (by rw [q22]; decide) (by rw [q22]; decide) (by rw [q22]; rfl) (by decide) ?_
    obtain ⟨y23, h, hRa, hRc⟩ := nx_n h hRa hRc
    refine lv_aload_n hx hb d_Store_about_88 rfl (lv_at hl 0 rfl) ?_
    refine va_get (D := G.1) (ci := 5) (v := .ref a_t) (C := "BranchStore") (T := F_Store) (N := 7) hx hb hts i_Store hown hK hP 0 rfl rfl 1 (by decide) (hts _ k_173) (fun _ h9 => h9) rfl d_Store_about_89 ?_
    obtain ⟨r24, hr24, h⟩ := ob h
    refine zpcalli (wr := [(a_s, .inr (5, [.int c_sort, .ref a_t, .ref a_ao, .ref a_bo, .ref a_uo, .int c_set, .ref a_go])), (a_ao, .inr (0, [.ref a_aq, .int c_an, .int c_at])), (a_aq, .inl (G.2.2.1, 50, .inl c_ab))]) (w2 := fun _ => (wB G a_s a_t a_ao a_bo a_uo a_go c_sort c_set ++ wT G a_t a_c a_mv a_fr a_br a_e0 a_e1 a_e2 a_e3 a_lo a_ho c_c c_cl c_mv c_ml c_en c_rt c_fr c_br c_fi c_st c_vz ++ wK G a_ao a_aq c_ab c_an c_at)) (zrunV (As := []) (rest := []) ⟨hx, hb, hml, hown, hts⟩ hN hK (c_Tree_first l G H.size a_t a_c a_mv a_fr a_br a_e0 a_e1 a_e2 a_e3 a_lo a_ho c_c c_cl c_mv c_ml c_en c_rt c_fr c_br c_fi c_st c_vz r24 hr24) ⟨rfl, rfl⟩ kv_Store_173 ⟨Nat.le_of_ble_eq_true rfl, Nat.le_of_ble_eq_true rfl⟩ 0 rfl rfl rfl hl.1 (Nat.le_of_ble_eq_true rfl) d_Store_about_92 ⟨by show _ ≤ rc; omega, by show _ ≤ 1024 * rc; omega⟩) hP hD hS hA [1, 2, 3, 4, 5, 6, 7, 8, 9] [0, 10, 11] [0, 3, 4, 5, 6, 7, 8, 9, 10, 11, 1, 2] rfl rfl rfl rfl (by decide) rfl (fun _ => rfl) (fun rr _ H hw hP hD hS => ?_)
    have hw := hw.symm
    subst hw
    have ey := Option.some.inj h
    rw [← ey] at hRa hRc
    have hRa : r0 = r24 := hRa
    have hRc : rc = 0 + 0 := hRc
    subst hRa
    exact zreti (a_c, a_mv) hQ hS.2.2 hx hb hr hlocks hP hD hS rfl (by omega) (by omega) d_Store_about_95
  have h := ie h q22
  refine lv_tableOut (tgt := 96) hx hb d_Store_about_1 (zsw_out 0 7 (by decide) (by decide) (by decide) (fun j h1 h2 => by rcases (show j = 0 ∨ j = 1 ∨ j = 2 ∨ j = 3 ∨ j = 4 ∨ j = 5 ∨ j = 6 ∨ j = 7 by omega) with rfl | rfl | rfl | rfl | rfl | rfl | rfl | rfl <;> assumption)) (by decide) ?_
  have ey := Option.some.inj h
  rw [← ey] at hRa
  cases hRa

set_option maxHeartbeats 8000000 in
set_option maxRecDepth 100000 in
theorem c_Store_about_x (l : Launch) (G : zG) (hfl : l.flags = flags0) (sz : Nat) (a_s a_t a_ao a_bo a_uo a_go a_c a_mv a_fr a_br a_e0 a_e1 a_e2 a_e3 a_lo a_ho a_aq : Nat) (c_sort : Int32) (c_set : Int32) (c_c : (Nat → Int32)) (c_cl : Nat) (c_mv : (Nat → Int32)) (c_ml : Nat) (c_en : Int32) (c_rt : Int32) (c_fr : (Nat → Int32)) (c_br : (Nat → Int32)) (c_fi : Int64) (c_st : Int64) (c_vz : Int64) (c_ab : (Nat → Int32)) (c_an : Int32) (c_at : Int32) (p_1 : Int32) (k0 : Nat) (rc : Nat) (hf : f_Store_about c_c c_cl c_rt c_br c_ab c_an p_1 = some (.inl k0, rc)) :
    MetX l y_Store_about (Cond.code y_Store_about prog_1_method_28_code 2 (some .int) :: lw_ok) { frames := 66, cells := rc, slots := 1024 * rc, locals := 1578 } (zPcX G sz [.ref a_s, .int p_1] (wB G a_s a_t a_ao a_bo a_uo a_go c_sort c_set ++ wT G a_t a_c a_mv a_fr a_br a_e0 a_e1 a_e2 a_e3 a_lo a_ho c_c c_cl c_mv c_ml c_en c_rt c_fr c_br c_fi c_st c_vz ++ wK G a_ao a_aq c_ab c_an c_at)) (zQx (zcls k0)) rc (1024 * rc) (fun q => sz ≤ q) := by
  refine zMetX hfl (by decide) (Nat.le_of_ble_eq_true rfl) (fun xp xe xs xm xb xme xc A ls Q H locs C htr hnh hTs hnA hN hK hP hD hS hL hA hl hQ => ?_)
  obtain ⟨hx, hb, hr, hts, hown, hlocks, hml, hin⟩ := C
  have hl : lv_has ls 2 [(0, .ref a_s), (1, .int p_1)] := hl
  have h := hf
  unfold f_Store_about at h
  have hRa : (Sum.inl k0 : Nat ⊕ Int32) = ((Sum.inl k0, rc) : (Nat ⊕ Int32) × Nat).1 := rfl
  have hRc : rc = 0 + ((Sum.inl k0, rc) : (Nat ⊕ Int32) × Nat).2 := (Nat.zero_add _).symm
  refine W.widen (k := 0) (n := 1024 * 0) (Nat.le_refl _) (Nat.le_refl _) ?_
  refine lv_iload_n hx hb d_Store_about_0 rfl (lv_at hl 1 rfl) ?_
  by_cases q1 : p_1 = 0
  · have h := it h q1
    refine lv_tableIn (tgt := 48) hx hb d_Store_about_1 (by rw [q1]; decide) (by rw [q1]; decide) (by rw [q1]; rfl) (by decide) ?_
    exact absurd h (fun h => nx_x h hRa)
  have h := ie h q1
  by_cases q2 : p_1 = 1
  · have h := it h q2
    refine lv_tableIn (tgt := 56) hx hb d_Store_about_1 (by rw [q2]; decide) (by rw [q2]; decide) (by rw [q2]; rfl) (by decide) ?_
    exact absurd h (fun h => nx_x h hRa)
  have h := ie h q2
  by_cases q3 : p_1 = 2
  · have h := it h q3
    refine lv_tableIn (tgt := 56) hx hb d_Store_about_1 (by rw [q3]; decide) (by rw [q3]; decide) (by rw [q3]; rfl) (by decide) ?_
    exact absurd h (fun h => nx_x h hRa)
  have h := ie h q3
  by_cases q4 : p_1 = 3
  · have h := it h q4
    refine lv_tableIn (tgt := 56) hx hb d_Store_about_1 (by rw [q4]; decide) (by rw [q4]; decide) (by rw [q4]; rfl) (by decide) ?_
    exact absurd h (fun h => nx_x h hRa)
  have h := ie h q4
  by_cases q5 : p_1 = 4
  · have h := it h q5
    refine lv_tableIn (tgt := 56) hx hb d_Store_about_1 (by rw [q5]; decide) (by rw [q5]; decide) (by rw [q5]; rfl) (by decide) ?_
    exact absurd h (fun h => nx_x h hRa)
  have h := ie h q5
  by_cases q6 : p_1 = 5
  · have h := it h q6
    refine lv_tableIn (tgt := 68) hx hb d_Store_about_1 (by rw [q6]; decide) (by rw [q6]; decide) (by rw [q6]; rfl) (by decide) ?_
    exact absurd h (fun h => nx_x h hRa)
  have h := ie h q6
  by_cases q7 : p_1 = 6
  · have h := it h q7
    refine lv_tableIn (tgt := 76) hx hb d_Store_about_1 (by rw [q7]; decide) (by rw [q7]; decide) (by rw [q7]; rfl) (by decide) ?_
    exact absurd h (fun h => nx_x h hRa)
  have h := ie h q7
  by_cases q8 : p_1 = 7
  · have h := it h q8
    refine lv_tableIn (tgt := 88) hx hb d_Store_about_1 (by rw [q8]; decide) (by rw [q8]; decide) (by rw [q8]; rfl) (by decide) ?_
    exact absurd h (fun h => nx_x h hRa)
  have h := ie h q8
  refine lv_tableOut (tgt := 96) hx hb d_Store_about_1 (zsw_out 0 7 (by decide) (by decide) (by decide) (fun j h1 h2 => by rcases (show j = 0 ∨ j = 1 ∨ j = 2 ∨ j = 3 ∨ j = 4 ∨ j = 5 ∨ j = 6 ∨ j = 7 by omega) with rfl | rfl | rfl | rfl | rfl | rfl | rfl | rfl <;> assumption)) (by decide) ?_
  have ey := Option.some.inj h
  rw [← ey] at hRa hRc
  have hRc : rc = 0 + 1 := hRc
  obtain rfl := Sum.inl.inj hRa
  exact zthrow (ia := 74) (ic := 76) hQ hx hb hlocks htr hnh hts hN hTs hown (hml.trans hl.1.symm) hS hL k_516 k_517 k_13 kt_1 (by decide) (by show _ ≤ rc; omega) (by show _ ≤ 1024 * rc; omega) (by omega) (by omega) (Nat.le_of_ble_eq_true rfl) (Nat.le_of_ble_eq_true rfl) d_Store_about_96 d_Store_about_99 d_Store_about_100 d_Store_about_103

theorem kv_Store_175 : zKV "BranchStore" 175 y_Tree_clear prog_7_method_4_code 2 none 0 := ⟨k_418, k_419, k_420, k_2, k_421, by decide +kernel⟩
noncomputable def f_Store_clear (c_c : (Nat → Int32)) (c_cl : Nat) (c_en : Int32) (c_rt : Int32) (c_fr : (Nat → Int32)) (c_br : (Nat → Int32))  : Option (Int32 × Int32 × Int32 × (Nat → Int32) × (Nat → Int32)) :=
(f_Tree_keys c_c c_cl c_rt).bind fun r1 =>
(f_Tree_clear c_en c_rt c_fr c_br).bind fun r2 =>
some (r1, r2.1, r2.2.1, r2.2.2.1, r2.2.2.2)
set_option maxHeartbeats 8000000 in
set_option maxRecDepth 100000 in
theorem c_Store_clear (l : Launch) (G : zG) (sz : Nat) (a_s a_t a_ao a_bo a_uo a_go a_c a_mv a_fr a_br a_e0 a_e1 a_e2 a_e3 a_lo a_ho : Nat) (c_sort : Int32) (c_set : Int32) (c_c : (Nat → Int32)) (c_cl : Nat) (c_mv : (Nat → Int32)) (c_ml : Nat) (c_en : Int32) (c_rt : Int32) (c_fr : (Nat → Int32)) (c_br : (Nat → Int32)) (c_fi : Int64) (c_st : Int64) (c_vz : Int64) (r0 : (Int32 × Int32 × Int32 × (Nat → Int32) × (Nat → Int32))) (hf : f_Store_clear c_c c_cl c_en c_rt c_fr c_br = some r0) :
    Met l y_Store_clear (Cond.code y_Store_clear prog_1_method_29_code 2 (some .int) :: lw_ok) { frames := 2, cells := 0, slots := 0, locals := 41 } (zPc G sz [.ref a_s] (wB G a_s a_t a_ao a_bo a_uo a_go c_sort c_set ++ wT G a_t a_c a_mv a_fr a_br a_e0 a_e1 a_e2 a_e3 a_lo a_ho c_c c_cl c_mv c_ml c_en c_rt c_fr c_br c_fi c_st c_vz))
      ((fun (A : Nat → Prop) => va_Qi (fun (r : Int32) (_ : Unit) => r = r0.1) (fun _ t => zB G A (wB G a_s a_t a_ao a_bo a_uo a_go c_sort c_set ++ wT G a_t a_c a_mv a_fr a_br a_e0 a_e1 a_e2 a_e3 a_lo a_ho c_c c_cl c_mv c_ml r0.2.1 r0.2.2.1 r0.2.2.2.1 r0.2.2.2.2 c_fi c_st c_vz) t) A) (va_A (wB G a_s a_t a_ao a_bo a_uo a_go c_sort c_set ++ wT G a_t a_c a_mv a_fr a_br a_e0 a_e1 a_e2 a_e3 a_lo a_ho c_c c_cl c_mv c_ml c_en c_rt c_fr c_br c_fi c_st c_vz) sz)) 0 0 (va_A (wB G a_s a_t a_ao a_bo a_uo a_go c_sort c_set ++ wT G a_t a_c a_mv a_fr a_br a_e0 a_e1 a_e2 a_e3 a_lo a_ho c_c c_cl c_mv c_ml c_en c_rt c_fr c_br c_fi c_st c_vz) sz) := by
  refine zMet (Qc := fun (A : Nat → Prop) => va_Qi (fun (r : Int32) (_ : Unit) => r = r0.1) (fun _ t => zB G A (wB G a_s a_t a_ao a_bo a_uo a_go c_sort c_set ++ wT G a_t a_c a_mv a_fr a_br a_e0 a_e1 a_e2 a_e3 a_lo a_ho c_c c_cl c_mv c_ml r0.2.1 r0.2.2.1 r0.2.2.2.1 r0.2.2.2.2 c_fi c_st c_vz) t) A) (by decide) (Nat.le_of_ble_eq_true rfl) (fun xp xe xs xm xb xme xc A ls Q H locs C hN hK hP hD hS hA hl hQ => ?_)
  obtain ⟨hx, hb, hr, hts, hown, hlocks, hml, hin⟩ := C
  have hl : lv_has ls 2 [(0, .ref a_s)] := hl
  have h := hf
  unfold f_Store_clear at h
  refine lv_aload_n hx hb d_Store_clear_0 rfl (lv_at hl 0 rfl) ?_
  refine va_get (D := G.1) (ci := 5) (v := .ref a_t) (C := "BranchStore") (T := F_Store) (N := 7) hx hb hts i_Store hown hK hP 0 rfl rfl 1 (by decide) (hts _ k_173) (fun _ h9 => h9) rfl d_Store_clear_1 ?_
  obtain ⟨r1, hr1, h⟩ := ob h
  refine zpcalli (wr := [(a_s, .inr (5, [.int c_sort, .ref a_t, .ref a_ao, .ref a_bo, .ref a_uo, .int c_set, .ref a_go]))]) (w2 := fun _ => (wB G a_s a_t a_ao a_bo a_uo a_go c_sort c_set ++ wT G a_t a_c a_mv a_fr a_br a_e0 a_e1 a_e2 a_e3 a_lo a_ho c_c c_cl c_mv c_ml c_en c_rt c_fr c_br c_fi c_st c_vz)) (zrunV (As := []) (rest := []) ⟨hx, hb, hml, hown, hts⟩ hN hK (c_Tree_keys l G H.size a_t a_c a_mv a_fr a_br a_e0 a_e1 a_e2 a_e3 a_lo a_ho c_c c_cl c_mv c_ml c_en c_rt c_fr c_br c_fi c_st c_vz r1 hr1) ⟨rfl, rfl⟩ kv_Store_27 ⟨Nat.le_of_ble_eq_true rfl, Nat.le_of_ble_eq_true rfl⟩ 0 rfl rfl rfl hl.1 (Nat.le_of_ble_eq_true rfl) d_Store_clear_4 ⟨Nat.le_of_ble_eq_true rfl, Nat.le_of_ble_eq_true rfl⟩) hP hD hS hA [1, 2, 3, 4, 5, 6, 7, 8, 9] [0] [0, 1, 2, 3, 4, 5, 6, 7, 8, 9] rfl rfl rfl rfl (by decide) rfl (fun _ => rfl) (fun rr _ H hw hP hD hS => ?_)
  have hw := hw.symm
  subst hw
  refine lv_istore_n (lv' := [(1, .int r1), (0, .ref a_s)]) hx hb d_Store_clear_7 rfl hl (by decide) rfl (fun ls hl => ?_)
  refine lv_aload_n hx hb d_Store_clear_8 rfl (lv_at hl 1 rfl) ?_
  refine va_get (D := G.1) (ci := 5) (v := .ref a_t) (C := "BranchStore") (T := F_Store) (N := 7) hx hb hts i_Store hown hK hP 0 rfl rfl 1 (by decide) (hts _ k_173) (fun _ h9 => h9) rfl d_Store_clear_9 ?_
  obtain ⟨r2, hr2, h⟩ := ob h
  refine zcallv (wr := [(a_s, .inr (5, [.int c_sort, .ref a_t, .ref a_ao, .ref a_bo, .ref a_uo, .int c_set, .ref a_go]))]) (w2 := fun _ => (wB G a_s a_t a_ao a_bo a_uo a_go c_sort c_set ++ wT G a_t a_c a_mv a_fr a_br a_e0 a_e1 a_e2 a_e3 a_lo a_ho c_c c_cl c_mv c_ml r2.1 r2.2.1 r2.2.2.1 r2.2.2.2 c_fi c_st c_vz)) (zrunV (As := []) (rest := []) ⟨hx, hb, hml, hown, hts⟩ hN hK (c_Tree_clear l G H.size a_t a_c a_mv a_fr a_br a_e0 a_e1 a_e2 a_e3 a_lo a_ho c_c c_cl c_mv c_ml c_en c_rt c_fr c_br c_fi c_st c_vz r2 hr2) ⟨rfl, rfl⟩ kv_Store_175 ⟨Nat.le_of_ble_eq_true rfl, Nat.le_of_ble_eq_true rfl⟩ 0 rfl rfl rfl hl.1 (Nat.le_of_ble_eq_true rfl) d_Store_clear_12 ⟨Nat.le_of_ble_eq_true rfl, Nat.le_of_ble_eq_true rfl⟩) hP hD hS hA [1, 2, 3, 4, 5, 6, 7, 8, 9] [0] [0, 1, 2, 3, 4, 5, 6, 7, 8, 9] rfl rfl rfl rfl (by decide) rfl (fun _ => rfl) (fun _ H locs _ hP hD hS => ?_)
  refine lv_iload_n hx hb d_Store_clear_15 rfl (lv_at hl 0 rfl) ?_
  obtain rfl := Option.some.inj h
  exact zreti () hQ hS.2.2 hx hb hr hlocks hP hD hS rfl (Nat.le_refl _) (Nat.le_refl _) d_Store_clear_16
