noncomputable def f_All_place (c_cl : Nat) (c_c : (Nat → Int32)) (p_2 : Int32) (p_3 : Int32) : Option Int32 :=
gi ((p_2 + 4) + p_3) c_cl <|
if (c_c ((p_2 + 4) + p_3).toNatClampNeg) = 0 then
(some 0)
else
(some ((p_2 + 4) + p_3))
set_option maxHeartbeats 8000000 in
set_option maxRecDepth 100000 in
theorem c_All_place (l : Launch) (G : zG) (sz : Nat) (a_f a_c : Nat) (c_fs : Int32) (c_fc : Int32) (c_fm : Int32) (c_cl : Nat) (c_c : (Nat → Int32)) (p_2 : Int32) (p_3 : Int32) (r0 : Int32) (hf : f_All_place c_cl c_c p_2 p_3 = some r0) :
    Met l y_All_place (Cond.code y_All_place prog_2_method_2_code 4 (some .int) :: lw_ok) { frames := 0, cells := 0, slots := 0, locals := 0 } (zPc G sz [.ref a_f, .ref a_c, .int p_2, .int p_3] (wAll G a_f c_fs c_fc c_fm ++ wI G a_c c_cl c_c))
      ((fun (A : Nat → Prop) => va_Qi (fun (r : Int32) (_ : Unit) => r = r0) (fun _ t => zB G A (wAll G a_f c_fs c_fc c_fm ++ wI G a_c c_cl c_c) t) A) (va_A (wAll G a_f c_fs c_fc c_fm ++ wI G a_c c_cl c_c) sz)) 0 0 (fun q => sz ≤ q) := by
  refine zMetR (Qc := fun (A : Nat → Prop) => va_Qi (fun (r : Int32) (_ : Unit) => r = r0) (fun _ t => zB G A (wAll G a_f c_fs c_fc c_fm ++ wI G a_c c_cl c_c) t) A) (by decide) (Nat.le_of_ble_eq_true rfl) (fun xp xe xs xm xb xme xc A ls Q H locs C hN hK hP hD hS hL hA hl hQ => ?_)
  obtain ⟨hx, hb, hr, hts, hown, hlocks, hml, hin⟩ := C
  have hl : lv_has ls 4 [(0, .ref a_f), (1, .ref a_c), (2, .int p_2), (3, .int p_3)] := hl
  have h := hf
  unfold f_All_place at h
  refine lv_aload_n hx hb d_All_place_0 rfl (lv_at hl 1 rfl) ?_
  refine lv_iload_n hx hb d_All_place_1 rfl (lv_at hl 2 rfl) ?_
  refine lv_iconst (v := 4) hx hb d_All_place_2 (by decide) ?_
  refine lv_iadd hx hb d_All_place_3 ?_
  refine lv_iload_n hx hb d_All_place_4 rfl (lv_at hl 3 rfl) ?_
  refine lv_iadd hx hb d_All_place_5 ?_
  obtain ⟨h1, h⟩ := gi_k h
  refine va_iald hx hb hK hP 1 0 rfl rfl h1 d_All_place_6 ?_
  refine lv_if_ne (tgt := 14) hx hb d_All_place_7 (by decide) (fun q2 => ?_) (fun q2 => ?_)
  · have h := ie h q2
    refine lv_iload_n hx hb d_All_place_14 rfl (lv_at hl 2 rfl) ?_
    refine lv_iconst (v := 4) hx hb d_All_place_15 (by decide) ?_
    refine lv_iadd hx hb d_All_place_16 ?_
    refine lv_iload_n hx hb d_All_place_17 rfl (lv_at hl 3 rfl) ?_
    refine lv_iadd hx hb d_All_place_18 ?_
    obtain rfl := Option.some.inj h
    exact zreti () hQ hL hx hb hr hlocks hP hD hS rfl (Nat.le_refl _) (Nat.le_refl _) d_All_place_19
  · have h := it h q2
    refine lv_iconst (v := 0) hx hb d_All_place_10 (by decide) ?_
    refine lv_goto (tgt := 19) hx hb d_All_place_11 (by decide) ?_
    obtain rfl := Option.some.inj h
    exact zreti () hQ hL hx hb hr hlocks hP hD hS rfl (Nat.le_refl _) (Nat.le_refl _) d_All_place_19

noncomputable def f_All_add (c_cl : Nat) (c_c : (Nat → Int32)) (p_2 : Int32) (p_3 : Int32) (p_4 : Int32) : Option (Nat → Int32) :=
gi ((p_2 + 4) + p_3) c_cl <|
nm (upd c_c ((p_2 + 4) + p_3).toNatClampNeg p_4) fun c2 =>
gi (p_2 + 1) c_cl <|
gi (p_2 + 1) c_cl <|
nm (upd c2 (p_2 + 1).toNatClampNeg ((c2 (p_2 + 1).toNatClampNeg) + 1)) fun c5 =>
some c5
set_option maxHeartbeats 8000000 in
set_option maxRecDepth 100000 in
theorem c_All_add (l : Launch) (G : zG) (sz : Nat) (a_f a_c : Nat) (c_fs : Int32) (c_fc : Int32) (c_fm : Int32) (c_cl : Nat) (c_c : (Nat → Int32)) (p_2 : Int32) (p_3 : Int32) (p_4 : Int32) (r0 : (Nat → Int32)) (hf : f_All_add c_cl c_c p_2 p_3 p_4 = some r0) :
    Met l y_All_add (Cond.code y_All_add prog_2_method_3_code 5 none :: lw_ok) { frames := 0, cells := 0, slots := 0, locals := 0 } (zPc G sz [.ref a_f, .ref a_c, .int p_2, .int p_3, .int p_4] (wAll G a_f c_fs c_fc c_fm ++ wI G a_c c_cl c_c))
      ((fun (A : Nat → Prop) => va_Qv (fun (_ : Unit) => True) (fun _ t => zB G A (wAll G a_f c_fs c_fc c_fm ++ wI G a_c c_cl r0) t) A) (va_A (wAll G a_f c_fs c_fc c_fm ++ wI G a_c c_cl c_c) sz)) 0 0 (va_A (wAll G a_f c_fs c_fc c_fm ++ wI G a_c c_cl c_c) sz) := by
  refine zMet (Qc := fun (A : Nat → Prop) => va_Qv (fun (_ : Unit) => True) (fun _ t => zB G A (wAll G a_f c_fs c_fc c_fm ++ wI G a_c c_cl r0) t) A) (by decide) (Nat.le_of_ble_eq_true rfl) (fun xp xe xs xm xb xme xc A ls Q H locs C hN hK hP hD hS hA hl hQ => ?_)
  obtain ⟨hx, hb, hr, hts, hown, hlocks, hml, hin⟩ := C
  have hl : lv_has ls 5 [(0, .ref a_f), (1, .ref a_c), (2, .int p_2), (3, .int p_3), (4, .int p_4)] := hl
  have h := hf
  unfold f_All_add at h
  refine lv_aload_n hx hb d_All_add_0 rfl (lv_at hl 1 rfl) ?_
  refine lv_iload_n hx hb d_All_add_1 rfl (lv_at hl 2 rfl) ?_
  refine lv_iconst (v := 4) hx hb d_All_add_2 (by decide) ?_
  refine lv_iadd hx hb d_All_add_3 ?_
  refine lv_iload_n hx hb d_All_add_4 rfl (lv_at hl 3 rfl) ?_
  refine lv_iadd hx hb d_All_add_5 ?_
  refine lv_iload hx hb d_All_add_6 (lv_at hl 4 rfl) ?_
  obtain ⟨h1, h⟩ := gi_k h
  refine va_iast hx hb hK hP hD hS 1 0 rfl rfl h1 d_All_add_8 (fun H locs hP hD hS => ?_)
  obtain ⟨c2, ec2⟩ : ∃ y, y = upd c_c ((p_2 + 4) + p_3).toNatClampNeg p_4 := ⟨_, rfl⟩
  have h := nm_k h c2 ec2
  have hP : va_P G.1 classes (wAll G a_f c_fs c_fc c_fm ++ wI G a_c c_cl c2) H := by rw [ec2]; exact hP
  have hD : va_D A (wAll G a_f c_fs c_fc c_fm ++ wI G a_c c_cl c2) := by rw [ec2]; exact hD
  refine lv_aload_n hx hb d_All_add_9 rfl (lv_at hl 1 rfl) ?_
  refine lv_iload_n hx hb d_All_add_10 rfl (lv_at hl 2 rfl) ?_
  refine lv_iconst (v := 1) hx hb d_All_add_11 (by decide) ?_
  refine lv_iadd hx hb d_All_add_12 ?_
  refine lv_dup2_11 hx hb d_All_add_13 rfl rfl ?_
  obtain ⟨h3, h⟩ := gi_k h
  refine va_iald hx hb hK hP 1 0 rfl rfl h3 d_All_add_14 ?_
  refine lv_iconst (v := 1) hx hb d_All_add_15 (by decide) ?_
  refine lv_iadd hx hb d_All_add_16 ?_
  obtain ⟨h4, h⟩ := gi_k h
  refine va_iast hx hb hK hP hD hS 1 0 rfl rfl h4 d_All_add_17 (fun H locs hP hD hS => ?_)
  obtain ⟨c5, ec5⟩ : ∃ y, y = upd c2 (p_2 + 1).toNatClampNeg ((c2 (p_2 + 1).toNatClampNeg) + 1) := ⟨_, rfl⟩
  have h := nm_k h c5 ec5
  have hP : va_P G.1 classes (wAll G a_f c_fs c_fc c_fm ++ wI G a_c c_cl c5) H := by rw [ec5]; exact hP
  have hD : va_D A (wAll G a_f c_fs c_fc c_fm ++ wI G a_c c_cl c5) := by rw [ec5]; exact hD
  obtain rfl := Option.some.inj h
  exact zretv () hQ hS.2.2 hx hb hr hlocks hP hD hS trivial (Nat.le_refl _) (Nat.le_refl _) d_All_add_18

noncomputable def f_All_drop (c_cl : Nat) (c_c : (Nat → Int32)) (p_2 : Int32) (p_3 : Int32) : Option (Nat → Int32) :=
gi ((p_2 + 4) + p_3) c_cl <|
nm (upd c_c ((p_2 + 4) + p_3).toNatClampNeg 0) fun c2 =>
gi (p_2 + 1) c_cl <|
gi (p_2 + 1) c_cl <|
nm (upd c2 (p_2 + 1).toNatClampNeg ((c2 (p_2 + 1).toNatClampNeg) - 1)) fun c5 =>
some c5
set_option maxHeartbeats 8000000 in
set_option maxRecDepth 100000 in
theorem c_All_drop (l : Launch) (G : zG) (sz : Nat) (a_f a_c : Nat) (c_fs : Int32) (c_fc : Int32) (c_fm : Int32) (c_cl : Nat) (c_c : (Nat → Int32)) (p_2 : Int32) (p_3 : Int32) (r0 : (Nat → Int32)) (hf : f_All_drop c_cl c_c p_2 p_3 = some r0) :
    Met l y_All_drop (Cond.code y_All_drop prog_2_method_4_code 4 none :: lw_ok) { frames := 0, cells := 0, slots := 0, locals := 0 } (zPc G sz [.ref a_f, .ref a_c, .int p_2, .int p_3] (wAll G a_f c_fs c_fc c_fm ++ wI G a_c c_cl c_c))
      ((fun (A : Nat → Prop) => va_Qv (fun (_ : Unit) => True) (fun _ t => zB G A (wAll G a_f c_fs c_fc c_fm ++ wI G a_c c_cl r0) t) A) (va_A (wAll G a_f c_fs c_fc c_fm ++ wI G a_c c_cl c_c) sz)) 0 0 (va_A (wAll G a_f c_fs c_fc c_fm ++ wI G a_c c_cl c_c) sz) := by
  refine zMet (Qc := fun (A : Nat → Prop) => va_Qv (fun (_ : Unit) => True) (fun _ t => zB G A (wAll G a_f c_fs c_fc c_fm ++ wI G a_c c_cl r0) t) A) (by decide) (Nat.le_of_ble_eq_true rfl) (fun xp xe xs xm xb xme xc A ls Q H locs C hN hK hP hD hS hA hl hQ => ?_)
  obtain ⟨hx, hb, hr, hts, hown, hlocks, hml, hin⟩ := C
  have hl : lv_has ls 4 [(0, .ref a_f), (1, .ref a_c), (2, .int p_2), (3, .int p_3)] := hl
  have h := hf
  unfold f_All_drop at h
  refine lv_aload_n hx hb d_All_drop_0 rfl (lv_at hl 1 rfl) ?_
  refine lv_iload_n hx hb d_All_drop_1 rfl (lv_at hl 2 rfl) ?_
  refine lv_iconst (v := 4) hx hb d_All_drop_2 (by decide) ?_
  refine lv_iadd hx hb d_All_drop_3 ?_
  refine lv_iload_n hx hb d_All_drop_4 rfl (lv_at hl 3 rfl) ?_
  refine lv_iadd hx hb d_All_drop_5 ?_
  refine lv_iconst (v := 0) hx hb d_All_drop_6 (by decide) ?_
  obtain ⟨h1, h⟩ := gi_k h
  refine va_iast hx hb hK hP hD hS 1 0 rfl rfl h1 d_All_drop_7 (fun H locs hP hD hS => ?_)
  obtain ⟨c2, ec2⟩ : ∃ y, y = upd c_c ((p_2 + 4) + p_3).toNatClampNeg 0 := ⟨_, rfl⟩
  have h := nm_k h c2 ec2
  have hP : va_P G.1 classes (wAll G a_f c_fs c_fc c_fm ++ wI G a_c c_cl c2) H := by rw [ec2]; exact hP
  have hD : va_D A (wAll G a_f c_fs c_fc c_fm ++ wI G a_c c_cl c2) := by rw [ec2]; exact hD
  refine lv_aload_n hx hb d_All_drop_8 rfl (lv_at hl 1 rfl) ?_
  refine lv_iload_n hx hb d_All_drop_9 rfl (lv_at hl 2 rfl) ?_
  refine lv_iconst (v := 1) hx hb d_All_drop_10 (by decide) ?_
  refine lv_iadd hx hb d_All_drop_11 ?_
  refine lv_dup2_11 hx hb d_All_drop_12 rfl rfl ?_
  obtain ⟨h3, h⟩ := gi_k h
  refine va_iald hx hb hK hP 1 0 rfl rfl h3 d_All_drop_13 ?_
  refine lv_iconst (v := 1) hx hb d_All_drop_14 (by decide) ?_
  refine lv_isub hx hb d_All_drop_15 ?_
  obtain ⟨h4, h⟩ := gi_k h
  refine va_iast hx hb hK hP hD hS 1 0 rfl rfl h4 d_All_drop_16 (fun H locs hP hD hS => ?_)
  obtain ⟨c5, ec5⟩ : ∃ y, y = upd c2 (p_2 + 1).toNatClampNeg ((c2 (p_2 + 1).toNatClampNeg) - 1) := ⟨_, rfl⟩
  have h := nm_k h c5 ec5
  have hP : va_P G.1 classes (wAll G a_f c_fs c_fc c_fm ++ wI G a_c c_cl c5) H := by rw [ec5]; exact hP
  have hD : va_D A (wAll G a_f c_fs c_fc c_fm ++ wI G a_c c_cl c5) := by rw [ec5]; exact hD
  obtain rfl := Option.some.inj h
  exact zretv () hQ hS.2.2 hx hb hr hlocks hP hD hS trivial (Nat.le_refl _) (Nat.le_refl _) d_All_drop_17

noncomputable def s_All_from_3 (c_cl : Nat) (c_c : (Nat → Int32)) (x2 : Int32) (x4 : Int32) : Option (Int32 ⊕ Int32) :=
if 256 ≤ x4 then
(some (.inr x4))
else
(gi ((x2 + 4) + x4) c_cl <|
if (c_c ((x2 + 4) + x4).toNatClampNeg) = 0 then
(nm (x4 + 1) fun v6 =>
some (.inl v6))
else
(some (.inr x4)))
noncomputable def f_All_from (c_cl : Nat) (c_c : (Nat → Int32)) (p_2 : Int32) (p_3 : Int32) : Option Int32 :=
(lp (fun v => s_All_from_3 c_cl c_c p_2 v) p_3).bind fun y8 =>
if 256 ≤ y8 then
(some (-1))
else
(some y8)
set_option maxHeartbeats 8000000 in
set_option maxRecDepth 100000 in
theorem c_All_from (l : Launch) (G : zG) (sz : Nat) (a_f a_c : Nat) (c_fs : Int32) (c_fc : Int32) (c_fm : Int32) (c_cl : Nat) (c_c : (Nat → Int32)) (p_2 : Int32) (p_3 : Int32) (r0 : Int32) (hf : f_All_from c_cl c_c p_2 p_3 = some r0) :
    Met l y_All_from (Cond.code y_All_from prog_2_method_5_code 5 (some .int) :: lw_ok) { frames := 0, cells := 0, slots := 0, locals := 0 } (zPc G sz [.ref a_f, .ref a_c, .int p_2, .int p_3] (wAll G a_f c_fs c_fc c_fm ++ wI G a_c c_cl c_c))
      ((fun (A : Nat → Prop) => va_Qi (fun (r : Int32) (_ : Unit) => r = r0) (fun _ t => zB G A (wAll G a_f c_fs c_fc c_fm ++ wI G a_c c_cl c_c) t) A) (va_A (wAll G a_f c_fs c_fc c_fm ++ wI G a_c c_cl c_c) sz)) 0 0 (fun q => sz ≤ q) := by
  refine zMetR (Qc := fun (A : Nat → Prop) => va_Qi (fun (r : Int32) (_ : Unit) => r = r0) (fun _ t => zB G A (wAll G a_f c_fs c_fc c_fm ++ wI G a_c c_cl c_c) t) A) (by decide) (Nat.le_of_ble_eq_true rfl) (fun xp xe xs xm xb xme xc A ls Q H locs C hN hK hP hD hS hL hA hl hQ => ?_)
  obtain ⟨hx, hb, hr, hts, hown, hlocks, hml, hin⟩ := C
  have hl : lv_has ls 5 [(0, .ref a_f), (1, .ref a_c), (2, .int p_2), (3, .int p_3)] := hl
  have h := hf
  unfold f_All_from at h
  refine lv_iload_n hx hb d_All_from_0 rfl (lv_at hl 3 rfl) ?_
  refine lv_istore (lv' := [(4, .int p_3), (0, .ref a_f), (1, .ref a_c), (2, .int p_2), (3, .int p_3)]) hx hb d_All_from_1 hl (by decide) rfl (fun ls hl => ?_)
  obtain ⟨y2, hy2, h⟩ := ob h
  have E3 : ∀ (z7 : Int32), z7 = y2 → ∀ (H : Heap) (locs : List Loc) (ls : Array Slot), va_P G.1 classes (wAll G a_f c_fs c_fc c_fm ++ wI G a_c c_cl c_c) H → va_D A (wAll G a_f c_fs c_fc c_fm ++ wI G a_c c_cl c_c) → va_S A xs.heap H locs → (∀ q ∈ locs, xs.heap.size ≤ q.base) → lv_has ls 5 [(4, .int z7)] → W xp l xe { frames := 0, cells := 0, slots := 0, locals := 0 } xs xm ([.ref a_f, .ref a_c, .int p_2, .int p_3] : List Value).toArray xb xme xc H locs 0 0 Q (F0 xm 28 ls []) := by
    intro z7 ey H locs ls hP hD hS hL hl
    subst ey
    try dsimp only at h
    refine lv_iload hx hb d_All_from_28 (lv_at hl 0 rfl) ?_
    refine lv_sipush (v := 256) hx hb d_All_from_30 (by decide) ?_
    refine lv_icmp_ge (tgt := 41) hx hb d_All_from_33 (by decide) (fun q9 => ?_) (fun q9 => ?_)
    · have h := it h q9
      refine lv_iconst (v := (-1)) hx hb d_All_from_41 (by decide) ?_
      obtain rfl := Option.some.inj h
      exact zreti () hQ hL hx hb hr hlocks hP hD hS rfl (Nat.le_refl _) (Nat.le_refl _) d_All_from_42
    · have h := ie h q9
      refine lv_iload hx hb d_All_from_36 (lv_at hl 0 rfl) ?_
      refine lv_goto (tgt := 42) hx hb d_All_from_38 (by decide) ?_
      obtain rfl := Option.some.inj h
      exact zreti () hQ hL hx hb hr hlocks hP hD hS rfl (Nat.le_refl _) (Nat.le_refl _) d_All_from_42
  have L3 : ∀ v : Int32, lp (fun v => s_All_from_3 c_cl c_c p_2 v) v = some y2 → ∀ (H : Heap) (locs : List Loc) (ls : Array Slot), va_P G.1 classes (wAll G a_f c_fs c_fc c_fm ++ wI G a_c c_cl c_c) H → va_D A (wAll G a_f c_fs c_fc c_fm ++ wI G a_c c_cl c_c) → va_S A xs.heap H locs → (∀ q ∈ locs, xs.heap.size ≤ q.base) → lv_has ls 5 [(1, .ref a_c), (2, .int p_2), (4, .int v)] → W xp l xe { frames := 0, cells := 0, slots := 0, locals := 0 } xs xm ([.ref a_f, .ref a_c, .int p_2, .int p_3] : List Value).toArray xb xme xc H locs 0 0 Q (F0 xm 3 ls []) := by
    refine lp_walk _ (fun v x h hc he => ?_)
    obtain ⟨x4_1, rfl⟩ : ∃ z, z = v := ⟨_, rfl⟩
    intro H locs ls hP hD hS hL hl
    have h : s_All_from_3 c_cl c_c p_2 x4_1 = some x := h
    unfold s_All_from_3 at h
    refine lv_iload hx hb d_All_from_3 (lv_at hl 2 rfl) ?_
    refine lv_sipush (v := 256) hx hb d_All_from_5 (by decide) ?_
    refine lv_icmp_ge (tgt := 28) hx hb d_All_from_8 (by decide) (fun q3 => ?_) (fun q3 => ?_)
    · have h := it h q3
      exact E3 x4_1 (he _ (Option.some.inj h).symm) H locs ls hP hD hS hL (lv_sub hl [2] rfl)
    · have h := ie h q3
      refine lv_aload_n hx hb d_All_from_11 rfl (lv_at hl 0 rfl) ?_
      refine lv_iload_n hx hb d_All_from_12 rfl (lv_at hl 1 rfl) ?_
      refine lv_iconst (v := 4) hx hb d_All_from_13 (by decide) ?_
      refine lv_iadd hx hb d_All_from_14 ?_
      refine lv_iload hx hb d_All_from_15 (lv_at hl 2 rfl) ?_
      refine lv_iadd hx hb d_All_from_17 ?_
      obtain ⟨h4, h⟩ := gi_k h
      refine va_iald hx hb hK hP 1 0 rfl rfl h4 d_All_from_18 ?_
      refine lv_if_ne (tgt := 28) hx hb d_All_from_19 (by decide) (fun q5 => ?_) (fun q5 => ?_)
      · have h := ie h q5
        exact E3 x4_1 (he _ (Option.some.inj h).symm) H locs ls hP hD hS hL (lv_sub hl [2] rfl)
      · have h := it h q5
        obtain ⟨v6, ev6⟩ : ∃ y : Int32, y = x4_1 + 1 := ⟨_, rfl⟩
        have h := nm_k h v6 ev6
        refine lv_iinc (v := v6) (lv' := [(4, .int v6), (1, .ref a_c), (2, .int p_2)]) hx hb d_All_from_22 hl (k := 2) rfl (by rw [ev6]; rfl) (by decide) rfl (fun ls hl => ?_)
        refine lv_goto (tgt := 3) hx hb d_All_from_25 (by decide) ?_
        exact hc _ (Option.some.inj h).symm H locs ls hP hD hS hL (lv_sub hl [1, 2, 0] rfl)
  exact L3 _ hy2 _ _ ls hP hD hS hL (lv_sub hl [2, 3, 0] rfl)

noncomputable def f_Few_byteAt (c_cl : Nat) (c_c : (Nat → Int32)) (p_1 : Int32) (p_2 : Int32) : Option Int32 :=
gi ((p_1 + 4) + (p_2 / 4)) c_cl <|
some ((ziushr (c_c ((p_1 + 4) + (p_2 / 4)).toNatClampNeg) (24 - (8 * (p_2 - p_2 / 4 * 4)))) &&& 255)
set_option maxHeartbeats 8000000 in
set_option maxRecDepth 100000 in
theorem c_Few_byteAt (l : Launch) (G : zG) (sz : Nat) (a_c : Nat) (c_cl : Nat) (c_c : (Nat → Int32)) (p_1 : Int32) (p_2 : Int32) (r0 : Int32) (hf : f_Few_byteAt c_cl c_c p_1 p_2 = some r0) :
    Met l y_Few_byteAt (Cond.code y_Few_byteAt prog_3_method_2_code 3 (some .int) :: lw_ok) { frames := 0, cells := 0, slots := 0, locals := 0 } (zPc G sz [.ref a_c, .int p_1, .int p_2] (wI G a_c c_cl c_c))
      ((fun (A : Nat → Prop) => va_Qi (fun (r : Int32) (_ : Unit) => r = r0) (fun _ t => zB G A (wI G a_c c_cl c_c) t) A) (va_A (wI G a_c c_cl c_c) sz)) 0 0 (fun q => sz ≤ q) := by
  refine zMetR (Qc := fun (A : Nat → Prop) => va_Qi (fun (r : Int32) (_ : Unit) => r = r0) (fun _ t => zB G A (wI G a_c c_cl c_c) t) A) (by decide) (Nat.le_of_ble_eq_true rfl) (fun xp xe xs xm xb xme xc A ls Q H locs C hN hK hP hD hS hL hA hl hQ => ?_)
  obtain ⟨hx, hb, hr, hts, hown, hlocks, hml, hin⟩ := C
  have hl : lv_has ls 3 [(0, .ref a_c), (1, .int p_1), (2, .int p_2)] := hl
  have h := hf
  unfold f_Few_byteAt at h
  refine lv_aload_n hx hb d_Few_byteAt_0 rfl (lv_at hl 0 rfl) ?_
  refine lv_iload_n hx hb d_Few_byteAt_1 rfl (lv_at hl 1 rfl) ?_
  refine lv_iconst (v := 4) hx hb d_Few_byteAt_2 (by decide) ?_
  refine lv_iadd hx hb d_Few_byteAt_3 ?_
  refine lv_iload_n hx hb d_Few_byteAt_4 rfl (lv_at hl 2 rfl) ?_
  refine lv_iconst (v := 4) hx hb d_Few_byteAt_5 (by decide) ?_
  refine lv_idiv hx hb d_Few_byteAt_6 (by decide) ?_
  refine lv_iadd hx hb d_Few_byteAt_7 ?_
  obtain ⟨h1, h⟩ := gi_k h
  refine va_iald hx hb hK hP 0 0 rfl rfl h1 d_Few_byteAt_8 ?_
  refine lv_bipush (v := 24) hx hb d_Few_byteAt_9 (by decide) ?_
  refine lv_bipush (v := 8) hx hb d_Few_byteAt_11 (by decide) ?_
  refine lv_iload_n hx hb d_Few_byteAt_13 rfl (lv_at hl 2 rfl) ?_
  refine lv_iconst (v := 4) hx hb d_Few_byteAt_14 (by decide) ?_
  refine lv_irem hx hb d_Few_byteAt_15 (by decide) ?_
  refine lv_imul hx hb d_Few_byteAt_16 ?_
  refine lv_isub hx hb d_Few_byteAt_17 ?_
  refine lv_iushr (v := ziushr (c_c ((p_1 + 4) + (p_2 / 4)).toNatClampNeg) (24 - (8 * (p_2 - p_2 / 4 * 4)))) hx hb d_Few_byteAt_18 rfl ?_
  refine lv_sipush (v := 255) hx hb d_Few_byteAt_19 (by decide) ?_
  refine lv_iand hx hb d_Few_byteAt_22 ?_
  obtain rfl := Option.some.inj h
  exact zreti () hQ hL hx hb hr hlocks hP hD hS rfl (Nat.le_refl _) (Nat.le_refl _) d_Few_byteAt_23

noncomputable def f_Few_setByte (c_cl : Nat) (c_c : (Nat → Int32)) (p_1 : Int32) (p_2 : Int32) (p_3 : Int32) : Option (Nat → Int32) :=
nm ((p_1 + 4) + (p_2 / 4)) fun v1 =>
nm (24 - (8 * (p_2 - p_2 / 4 * 4))) fun v2 =>
gi v1 c_cl <|
gi v1 c_cl <|
nm (upd c_c v1.toNatClampNeg (((c_c v1.toNatClampNeg) &&& ((255 <<< (v2 &&& 31)) ^^^ (-1))) ||| (p_3 <<< (v2 &&& 31)))) fun c5 =>
some c5
set_option maxHeartbeats 8000000 in
set_option maxRecDepth 100000 in
theorem c_Few_setByte (l : Launch) (G : zG) (sz : Nat) (a_c : Nat) (c_cl : Nat) (c_c : (Nat → Int32)) (p_1 : Int32) (p_2 : Int32) (p_3 : Int32) (r0 : (Nat → Int32)) (hf : f_Few_setByte c_cl c_c p_1 p_2 p_3 = some r0) :
    Met l y_Few_setByte (Cond.code y_Few_setByte prog_3_method_3_code 6 none :: lw_ok) { frames := 0, cells := 0, slots := 0, locals := 0 } (zPc G sz [.ref a_c, .int p_1, .int p_2, .int p_3] (wI G a_c c_cl c_c))
      ((fun (A : Nat → Prop) => va_Qv (fun (_ : Unit) => True) (fun _ t => zB G A (wI G a_c c_cl r0) t) A) (va_A (wI G a_c c_cl c_c) sz)) 0 0 (va_A (wI G a_c c_cl c_c) sz) := by
  refine zMet (Qc := fun (A : Nat → Prop) => va_Qv (fun (_ : Unit) => True) (fun _ t => zB G A (wI G a_c c_cl r0) t) A) (by decide) (Nat.le_of_ble_eq_true rfl) (fun xp xe xs xm xb xme xc A ls Q H locs C hN hK hP hD hS hA hl hQ => ?_)
  obtain ⟨hx, hb, hr, hts, hown, hlocks, hml, hin⟩ := C
  have hl : lv_has ls 6 [(0, .ref a_c), (1, .int p_1), (2, .int p_2), (3, .int p_3)] := hl
  have h := hf
  unfold f_Few_setByte at h
  refine lv_iload_n hx hb d_Few_setByte_0 rfl (lv_at hl 1 rfl) ?_
  refine lv_iconst (v := 4) hx hb d_Few_setByte_1 (by decide) ?_
  refine lv_iadd hx hb d_Few_setByte_2 ?_
  refine lv_iload_n hx hb d_Few_setByte_3 rfl (lv_at hl 2 rfl) ?_
  refine lv_iconst (v := 4) hx hb d_Few_setByte_4 (by decide) ?_
  refine lv_idiv hx hb d_Few_setByte_5 (by decide) ?_
  refine lv_iadd hx hb d_Few_setByte_6 ?_
  refine lv_topi (fun v1 ev1 => ?_)
  have h := nm_k h v1 ev1
  refine lv_istore (lv' := [(4, .int v1), (0, .ref a_c), (1, .int p_1), (2, .int p_2), (3, .int p_3)]) hx hb d_Few_setByte_7 hl (by decide) rfl (fun ls hl => ?_)
  refine lv_bipush (v := 24) hx hb d_Few_setByte_9 (by decide) ?_
  refine lv_bipush (v := 8) hx hb d_Few_setByte_11 (by decide) ?_
  refine lv_iload_n hx hb d_Few_setByte_13 rfl (lv_at hl 3 rfl) ?_
  refine lv_iconst (v := 4) hx hb d_Few_setByte_14 (by decide) ?_
  refine lv_irem hx hb d_Few_setByte_15 (by decide) ?_
  refine lv_imul hx hb d_Few_setByte_16 ?_
  refine lv_isub hx hb d_Few_setByte_17 ?_
  refine lv_topi (fun v2 ev2 => ?_)
  have h := nm_k h v2 ev2
  refine lv_istore (lv' := [(5, .int v2), (4, .int v1), (0, .ref a_c), (1, .int p_1), (2, .int p_2), (3, .int p_3)]) hx hb d_Few_setByte_18 hl (by decide) rfl (fun ls hl => ?_)
  refine lv_aload_n hx hb d_Few_setByte_20 rfl (lv_at hl 2 rfl) ?_
  refine lv_iload hx hb d_Few_setByte_21 (lv_at hl 1 rfl) ?_
  refine lv_aload_n hx hb d_Few_setByte_23 rfl (lv_at hl 2 rfl) ?_
  refine lv_iload hx hb d_Few_setByte_24 (lv_at hl 1 rfl) ?_
  obtain ⟨h3, h⟩ := gi_k h
  refine va_iald hx hb hK hP 0 0 rfl rfl h3 d_Few_setByte_26 ?_
  refine lv_sipush (v := 255) hx hb d_Few_setByte_27 (by decide) ?_
  refine lv_iload hx hb d_Few_setByte_30 (lv_at hl 0 rfl) ?_
  refine lv_ishl hx hb d_Few_setByte_32 ?_
  refine lv_iconst (v := (-1)) hx hb d_Few_setByte_33 (by decide) ?_
  refine lv_ixor hx hb d_Few_setByte_34 ?_
  refine lv_iand hx hb d_Few_setByte_35 ?_
  refine lv_iload_n hx hb d_Few_setByte_36 rfl (lv_at hl 5 rfl) ?_
  refine lv_iload hx hb d_Few_setByte_37 (lv_at hl 0 rfl) ?_
  refine lv_ishl hx hb d_Few_setByte_39 ?_
  refine lv_ior hx hb d_Few_setByte_40 ?_
  obtain ⟨h4, h⟩ := gi_k h
  refine va_iast hx hb hK hP hD hS 0 0 rfl rfl h4 d_Few_setByte_41 (fun H locs hP hD hS => ?_)
  obtain ⟨c5, ec5⟩ : ∃ y, y = upd c_c v1.toNatClampNeg (((c_c v1.toNatClampNeg) &&& ((255 <<< (v2 &&& 31)) ^^^ (-1))) ||| (p_3 <<< (v2 &&& 31))) := ⟨_, rfl⟩
  have h := nm_k h c5 ec5
  have hP : va_P G.1 classes (wI G a_c c_cl c5) H := by rw [ec5]; exact hP
  have hD : va_D A (wI G a_c c_cl c5) := by rw [ec5]; exact hD
  obtain rfl := Option.some.inj h
  exact zretv () hQ hS.2.2 hx hb hr hlocks hP hD hS trivial (Nat.le_refl _) (Nat.le_refl _) d_Few_setByte_42

theorem kv_Few_15 : zKS "BranchStore$Few" 15 y_Few_byteAt prog_3_method_2_code 3 (some .int) 3 := ⟨k_243, k_244, k_4, k_245, by decide +kernel⟩
noncomputable def s_Few_index_9 (c_cl : Nat) (c_c : (Nat → Int32)) (x1 : Int32) (x2 : Int32) (x3 : Int32) (x4 : Int32) : Option ((Int32 × Int32) ⊕ Int32) :=
if x4 ≤ x3 then
(some (.inr x3))
else
(nm (ziushr (x3 + x4) 1) fun v7 =>
(f_Few_byteAt c_cl c_c x1 v7).bind fun r8 =>
if x2 ≤ r8 then
(some (.inl (x3, v7)))
else
(nm (v7 + 1) fun v10 =>
some (.inl (v10, x4))))
noncomputable def f_Few_index (c_cl : Nat) (c_c : (Nat → Int32)) (p_1 : Int32) (p_2 : Int32) : Option Int32 :=
gi (p_1 + 1) c_cl <|
nm (c_c (p_1 + 1).toNatClampNeg) fun v2 =>
(lp (fun v => s_Few_index_9 c_cl c_c p_1 p_2 v.1 v.2) (0, v2)).bind fun y12 =>
some y12
set_option maxHeartbeats 8000000 in
set_option maxRecDepth 100000 in
theorem c_Few_index (l : Launch) (G : zG) (sz : Nat) (a_c : Nat) (c_cl : Nat) (c_c : (Nat → Int32)) (p_1 : Int32) (p_2 : Int32) (r0 : Int32) (hf : f_Few_index c_cl c_c p_1 p_2 = some r0) :
    Met l y_Few_index (Cond.code y_Few_index prog_3_method_4_code 6 (some .int) :: lw_ok) { frames := 1, cells := 0, slots := 0, locals := 22 } (zPc G sz [.ref a_c, .int p_1, .int p_2] (wI G a_c c_cl c_c))
      ((fun (A : Nat → Prop) => va_Qi (fun (r : Int32) (_ : Unit) => r = r0) (fun _ t => zB G A (wI G a_c c_cl c_c) t) A) (va_A (wI G a_c c_cl c_c) sz)) 0 0 (fun q => sz ≤ q) := by
  refine zMetR (Qc := fun (A : Nat → Prop) => va_Qi (fun (r : Int32) (_ : Unit) => r = r0) (fun _ t => zB G A (wI G a_c c_cl c_c) t) A) (by decide) (Nat.le_of_ble_eq_true rfl) (fun xp xe xs xm xb xme xc A ls Q H locs C hN hK hP hD hS hL hA hl hQ => ?_)
  obtain ⟨hx, hb, hr, hts, hown, hlocks, hml, hin⟩ := C
  have hl : lv_has ls 6 [(0, .ref a_c), (1, .int p_1), (2, .int p_2)] := hl
  have h := hf
  unfold f_Few_index at h
  refine lv_iconst (v := 0) hx hb d_Few_index_0 (by decide) ?_
  refine lv_istore_n (lv' := [(3, .int 0), (0, .ref a_c), (1, .int p_1), (2, .int p_2)]) hx hb d_Few_index_1 rfl hl (by decide) rfl (fun ls hl => ?_)
  refine lv_aload_n hx hb d_Few_index_2 rfl (lv_at hl 1 rfl) ?_
  refine lv_iload_n hx hb d_Few_index_3 rfl (lv_at hl 2 rfl) ?_
  refine lv_iconst (v := 1) hx hb d_Few_index_4 (by decide) ?_
  refine lv_iadd hx hb d_Few_index_5 ?_
  obtain ⟨h1, h⟩ := gi_k h
  refine va_iald hx hb hK hP 0 0 rfl rfl h1 d_Few_index_6 ?_
  refine lv_topi (fun v2 ev2 => ?_)
  have h := nm_k h v2 ev2
  refine lv_istore (lv' := [(4, .int v2), (3, .int 0), (0, .ref a_c), (1, .int p_1), (2, .int p_2)]) hx hb d_Few_index_7 hl (by decide) rfl (fun ls hl => ?_)
  obtain ⟨y5, hy5, h⟩ := ob h
  have E9 : ∀ (z11 : Int32), z11 = y5 → ∀ (H : Heap) (locs : List Loc) (ls : Array Slot), va_P G.1 classes (wI G a_c c_cl c_c) H → va_D A (wI G a_c c_cl c_c) → va_S A xs.heap H locs → (∀ q ∈ locs, xs.heap.size ≤ q.base) → lv_has ls 6 [(3, .int z11)] → W xp l xe { frames := 1, cells := 0, slots := 0, locals := 22 } xs xm ([.ref a_c, .int p_1, .int p_2] : List Value).toArray xb xme xc H locs 0 0 Q (F0 xm 49 ls []) := by
    intro z11 ey H locs ls hP hD hS hL hl
    subst ey
    try dsimp only at h
    refine lv_iload_n hx hb d_Few_index_49 rfl (lv_at hl 0 rfl) ?_
    obtain rfl := Option.some.inj h
    exact zreti () hQ hL hx hb hr hlocks hP hD hS rfl (Nat.le_refl _) (Nat.le_refl _) d_Few_index_50
  have L9 : ∀ v : (Int32 × Int32), lp (fun v => s_Few_index_9 c_cl c_c p_1 p_2 v.1 v.2) v = some y5 → ∀ (H : Heap) (locs : List Loc) (ls : Array Slot), va_P G.1 classes (wI G a_c c_cl c_c) H → va_D A (wI G a_c c_cl c_c) → va_S A xs.heap H locs → (∀ q ∈ locs, xs.heap.size ≤ q.base) → lv_has ls 6 [(0, .ref a_c), (1, .int p_1), (2, .int p_2), (3, .int v.1), (4, .int v.2)] → W xp l xe { frames := 1, cells := 0, slots := 0, locals := 22 } xs xm ([.ref a_c, .int p_1, .int p_2] : List Value).toArray xb xme xc H locs 0 0 Q (F0 xm 9 ls []) := by
    refine lp_walk _ (fun v x h hc he => ?_)
    obtain ⟨x3_3, x4_4⟩ := v
    intro H locs ls hP hD hS hL hl
    have h : s_Few_index_9 c_cl c_c p_1 p_2 x3_3 x4_4 = some x := h
    unfold s_Few_index_9 at h
    refine lv_iload_n hx hb d_Few_index_9 rfl (lv_at hl 3 rfl) ?_
    refine lv_iload hx hb d_Few_index_10 (lv_at hl 4 rfl) ?_
    refine lv_icmp_ge (tgt := 49) hx hb d_Few_index_12 (by decide) (fun q6 => ?_) (fun q6 => ?_)
    · have h := it h q6
      exact E9 x3_3 (he _ (Option.some.inj h).symm) H locs ls hP hD hS hL (lv_sub hl [3] rfl)
    · have h := ie h q6
      refine lv_iload_n hx hb d_Few_index_15 rfl (lv_at hl 3 rfl) ?_
      refine lv_iload hx hb d_Few_index_16 (lv_at hl 4 rfl) ?_
      refine lv_iadd hx hb d_Few_index_18 ?_
      refine lv_iconst (v := 1) hx hb d_Few_index_19 (by decide) ?_
      refine lv_iushr (v := ziushr (x3_3 + x4_4) 1) hx hb d_Few_index_20 rfl ?_
      refine lv_topi (fun v7 ev7 => ?_)
      have h := nm_k h v7 ev7
      refine lv_istore (lv' := [(5, .int v7), (0, .ref a_c), (1, .int p_1), (2, .int p_2), (3, .int x3_3), (4, .int x4_4)]) hx hb d_Few_index_21 hl (by decide) rfl (fun ls hl => ?_)
      refine lv_aload_n hx hb d_Few_index_23 rfl (lv_at hl 1 rfl) ?_
      refine lv_iload_n hx hb d_Few_index_24 rfl (lv_at hl 2 rfl) ?_
      refine lv_iload hx hb d_Few_index_25 (lv_at hl 0 rfl) ?_
      obtain ⟨r8, hr8, h⟩ := ob h
      refine zpcalli (wr := []) (w2 := fun _ => (wI G a_c c_cl c_c)) (zrunS (As := [.ref a_c, .int p_1, .int v7]) (rest := []) ⟨hx, hb, hml, hown, hts⟩ hN hK (c_Few_byteAt l G H.size a_c c_cl c_c p_1 v7 r8 hr8) ⟨rfl, rfl⟩ kv_Few_15 ⟨Nat.le_of_ble_eq_true rfl, Nat.le_of_ble_eq_true rfl⟩ rfl hl.1 (Nat.le_of_ble_eq_true rfl) d_Few_index_27 ⟨Nat.le_of_ble_eq_true rfl, Nat.le_of_ble_eq_true rfl⟩) hP hD hS hA [0] [] [0] rfl rfl rfl rfl (by decide) rfl (fun _ => rfl) (fun rr _ H hw hP hD hS => ?_)
      have hw := hw.symm
      subst hw
      refine lv_iload_n hx hb d_Few_index_30 rfl (lv_at hl 3 rfl) ?_
      refine lv_icmp_ge (tgt := 42) hx hb d_Few_index_31 (by decide) (fun q9 => ?_) (fun q9 => ?_)
      · have h := it h q9
        refine lv_iload hx hb d_Few_index_42 (lv_at hl 0 rfl) ?_
        refine lv_istore (lv' := [(4, .int v7), (5, .int v7), (0, .ref a_c), (1, .int p_1), (2, .int p_2), (3, .int x3_3)]) hx hb d_Few_index_44 hl (by decide) rfl (fun ls hl => ?_)
        refine lv_goto (tgt := 9) hx hb d_Few_index_46 (by decide) ?_
        exact hc _ (Option.some.inj h).symm H locs ls hP hD hS hL (lv_sub hl [2, 3, 4, 5, 0] rfl)
      · have h := ie h q9
        refine lv_iload hx hb d_Few_index_34 (lv_at hl 0 rfl) ?_
        refine lv_iconst (v := 1) hx hb d_Few_index_36 (by decide) ?_
        refine lv_iadd hx hb d_Few_index_37 ?_
        refine lv_topi (fun v10 ev10 => ?_)
        have h := nm_k h v10 ev10
        refine lv_istore_n (lv' := [(3, .int v10), (5, .int v7), (0, .ref a_c), (1, .int p_1), (2, .int p_2), (4, .int x4_4)]) hx hb d_Few_index_38 rfl hl (by decide) rfl (fun ls hl => ?_)
        refine lv_goto (tgt := 46) hx hb d_Few_index_39 (by decide) ?_
        refine lv_goto (tgt := 9) hx hb d_Few_index_46 (by decide) ?_
        exact hc _ (Option.some.inj h).symm H locs ls hP hD hS hL (lv_sub hl [2, 3, 4, 0, 5] rfl)
  exact L9 _ hy5 _ _ ls hP hD hS hL (lv_sub hl [2, 3, 4, 1, 0] rfl)

theorem kv_Few_19 : zKS "BranchStore$Few" 19 y_Few_index prog_3_method_4_code 6 (some .int) 3 := ⟨k_240, k_241, k_4, k_242, by decide +kernel⟩
noncomputable def f_Few_place (c_fl : Int32) (c_cl : Nat) (c_c : (Nat → Int32)) (p_2 : Int32) (p_3 : Int32) : Option Int32 :=
(f_Few_index c_cl c_c p_2 p_3).bind fun r1 =>
gi (p_2 + 1) c_cl <|
if (c_c (p_2 + 1).toNatClampNeg) ≤ r1 then
(some 0)
else
((f_Few_byteAt c_cl c_c p_2 r1).bind fun r4 =>
if r4 = p_3 then
(some ((p_2 + c_fl) + r1))
else
(some 0))
set_option maxHeartbeats 8000000 in
set_option maxRecDepth 100000 in
theorem c_Few_place (l : Launch) (G : zG) (sz : Nat) (a_f a_c : Nat) (c_fs : Int32) (c_fc : Int32) (c_fm : Int32) (c_fl : Int32) (c_cl : Nat) (c_c : (Nat → Int32)) (p_2 : Int32) (p_3 : Int32) (r0 : Int32) (hf : f_Few_place c_fl c_cl c_c p_2 p_3 = some r0) :
    Met l y_Few_place (Cond.code y_Few_place prog_3_method_5_code 5 (some .int) :: lw_ok) { frames := 2, cells := 0, slots := 0, locals := 47 } (zPc G sz [.ref a_f, .ref a_c, .int p_2, .int p_3] (wFew G a_f c_fs c_fc c_fm c_fl ++ wI G a_c c_cl c_c))
      ((fun (A : Nat → Prop) => va_Qi (fun (r : Int32) (_ : Unit) => r = r0) (fun _ t => zB G A (wFew G a_f c_fs c_fc c_fm c_fl ++ wI G a_c c_cl c_c) t) A) (va_A (wFew G a_f c_fs c_fc c_fm c_fl ++ wI G a_c c_cl c_c) sz)) 0 0 (fun q => sz ≤ q) := by
  refine zMetR (Qc := fun (A : Nat → Prop) => va_Qi (fun (r : Int32) (_ : Unit) => r = r0) (fun _ t => zB G A (wFew G a_f c_fs c_fc c_fm c_fl ++ wI G a_c c_cl c_c) t) A) (by decide) (Nat.le_of_ble_eq_true rfl) (fun xp xe xs xm xb xme xc A ls Q H locs C hN hK hP hD hS hL hA hl hQ => ?_)
  obtain ⟨hx, hb, hr, hts, hown, hlocks, hml, hin⟩ := C
  have hl : lv_has ls 5 [(0, .ref a_f), (1, .ref a_c), (2, .int p_2), (3, .int p_3)] := hl
  have h := hf
  unfold f_Few_place at h
  refine lv_aload_n hx hb d_Few_place_0 rfl (lv_at hl 1 rfl) ?_
  refine lv_iload_n hx hb d_Few_place_1 rfl (lv_at hl 2 rfl) ?_
  refine lv_iload_n hx hb d_Few_place_2 rfl (lv_at hl 3 rfl) ?_
  obtain ⟨r1, hr1, h⟩ := ob h
  refine zpcalli (wr := [(a_f, .inr (1, [.int c_fs, .int c_fc, .int c_fm, .int c_fl]))]) (w2 := fun _ => (wFew G a_f c_fs c_fc c_fm c_fl ++ wI G a_c c_cl c_c)) (zrunS (As := [.ref a_c, .int p_2, .int p_3]) (rest := []) ⟨hx, hb, hml, hown, hts⟩ hN hK (c_Few_index l G H.size a_c c_cl c_c p_2 p_3 r1 hr1) ⟨rfl, rfl⟩ kv_Few_19 ⟨Nat.le_of_ble_eq_true rfl, Nat.le_of_ble_eq_true rfl⟩ rfl hl.1 (Nat.le_of_ble_eq_true rfl) d_Few_place_3 ⟨Nat.le_of_ble_eq_true rfl, Nat.le_of_ble_eq_true rfl⟩) hP hD hS hA [1] [0] [0, 1] rfl rfl rfl rfl (by decide) rfl (fun _ => rfl) (fun rr _ H hw hP hD hS => ?_)
  have hw := hw.symm
  subst hw
  refine lv_istore (lv' := [(4, .int r1), (0, .ref a_f), (1, .ref a_c), (2, .int p_2), (3, .int p_3)]) hx hb d_Few_place_6 hl (by decide) rfl (fun ls hl => ?_)
  refine lv_iload hx hb d_Few_place_8 (lv_at hl 0 rfl) ?_
  refine lv_aload_n hx hb d_Few_place_10 rfl (lv_at hl 2 rfl) ?_
  refine lv_iload_n hx hb d_Few_place_11 rfl (lv_at hl 3 rfl) ?_
  refine lv_iconst (v := 1) hx hb d_Few_place_12 (by decide) ?_
  refine lv_iadd hx hb d_Few_place_13 ?_
  obtain ⟨h2, h⟩ := gi_k h
  refine va_iald hx hb hK hP 1 0 rfl rfl h2 d_Few_place_14 ?_
  refine lv_icmp_ge (tgt := 41) hx hb d_Few_place_15 (by decide) (fun q3 => ?_) (fun q3 => ?_)
  · have h := it h q3
    refine lv_iconst (v := 0) hx hb d_Few_place_41 (by decide) ?_
    obtain rfl := Option.some.inj h
    exact zreti () hQ hL hx hb hr hlocks hP hD hS rfl (Nat.le_refl _) (Nat.le_refl _) d_Few_place_42
  · have h := ie h q3
    refine lv_aload_n hx hb d_Few_place_18 rfl (lv_at hl 2 rfl) ?_
    refine lv_iload_n hx hb d_Few_place_19 rfl (lv_at hl 3 rfl) ?_
    refine lv_iload hx hb d_Few_place_20 (lv_at hl 0 rfl) ?_
    obtain ⟨r4, hr4, h⟩ := ob h
    refine zpcalli (wr := [(a_f, .inr (1, [.int c_fs, .int c_fc, .int c_fm, .int c_fl]))]) (w2 := fun _ => (wFew G a_f c_fs c_fc c_fm c_fl ++ wI G a_c c_cl c_c)) (zrunS (As := [.ref a_c, .int p_2, .int r1]) (rest := []) ⟨hx, hb, hml, hown, hts⟩ hN hK (c_Few_byteAt l G H.size a_c c_cl c_c p_2 r1 r4 hr4) ⟨rfl, rfl⟩ kv_Few_15 ⟨Nat.le_of_ble_eq_true rfl, Nat.le_of_ble_eq_true rfl⟩ rfl hl.1 (Nat.le_of_ble_eq_true rfl) d_Few_place_22 ⟨Nat.le_of_ble_eq_true rfl, Nat.le_of_ble_eq_true rfl⟩) hP hD hS hA [1] [0] [0, 1] rfl rfl rfl rfl (by decide) rfl (fun _ => rfl) (fun rr _ H hw hP hD hS => ?_)
    have hw := hw.symm
    subst hw
    refine lv_iload_n hx hb d_Few_place_25 rfl (lv_at hl 4 rfl) ?_
    refine lv_icmp_ne (tgt := 41) hx hb d_Few_place_26 (by decide) (fun q5 => ?_) (fun q5 => ?_)
    · have h := ie h q5
      refine lv_iconst (v := 0) hx hb d_Few_place_41 (by decide) ?_
      obtain rfl := Option.some.inj h
      exact zreti () hQ hL hx hb hr hlocks hP hD hS rfl (Nat.le_refl _) (Nat.le_refl _) d_Few_place_42
    · have h := it h q5
      refine lv_iload_n hx hb d_Few_place_29 rfl (lv_at hl 3 rfl) ?_
      refine lv_aload_n hx hb d_Few_place_30 rfl (lv_at hl 1 rfl) ?_
      refine va_get (D := G.1) (ci := 1) (v := .int c_fl) (C := "BranchStore$Few") (T := F_Few) (N := 4) hx hb hts i_Few hown hK hP 0 rfl rfl 3 (by decide) (hts _ k_44) (fun _ h9 => h9) rfl d_Few_place_31 ?_
      refine lv_iadd hx hb d_Few_place_34 ?_
      refine lv_iload hx hb d_Few_place_35 (lv_at hl 0 rfl) ?_
      refine lv_iadd hx hb d_Few_place_37 ?_
      refine lv_goto (tgt := 42) hx hb d_Few_place_38 (by decide) ?_
      obtain rfl := Option.some.inj h
      exact zreti () hQ hL hx hb hr hlocks hP hD hS rfl (Nat.le_refl _) (Nat.le_refl _) d_Few_place_42

theorem kv_Few_22 : zKS "BranchStore$Few" 22 y_Few_setByte prog_3_method_3_code 6 none 4 := ⟨k_347, k_348, k_4, k_349, by decide +kernel⟩
noncomputable def s_Few_add_15 (c_fl : Int32) (c_cl : Nat) (x2 : Int32) (x5 : Int32) (x6 : Int32) (c_c : (Nat → Int32)) : Option ((Int32 × (Nat → Int32)) ⊕ (Nat → Int32)) :=
if x6 ≤ x5 then
(some (.inr c_c))
else
((f_Few_byteAt c_cl c_c x2 (x6 - 1)).bind fun r8 =>
(f_Few_setByte c_cl c_c x2 x6 r8).bind fun r9 =>
gi (((x2 + c_fl) + x6) - 1) c_cl <|
gi ((x2 + c_fl) + x6) c_cl <|
nm (upd r9 ((x2 + c_fl) + x6).toNatClampNeg (r9 (((x2 + c_fl) + x6) - 1).toNatClampNeg)) fun c12 =>
nm (x6 + (-1)) fun v13 =>
some (.inl (v13, c12)))
noncomputable def f_Few_add (c_fl : Int32) (c_cl : Nat) (c_c : (Nat → Int32)) (p_2 : Int32) (p_3 : Int32) (p_4 : Int32) : Option (Nat → Int32) :=
(f_Few_index c_cl c_c p_2 p_3).bind fun r1 =>
gi (p_2 + 1) c_cl <|
nm (c_c (p_2 + 1).toNatClampNeg) fun v3 =>
(lp (fun v => s_Few_add_15 c_fl c_cl p_2 r1 v.1 v.2) (v3, c_c)).bind fun y15 =>
(f_Few_setByte c_cl y15 p_2 r1 p_3).bind fun r16 =>
gi ((p_2 + c_fl) + r1) c_cl <|
nm (upd r16 ((p_2 + c_fl) + r1).toNatClampNeg p_4) fun c18 =>
gi (p_2 + 1) c_cl <|
gi (p_2 + 1) c_cl <|
nm (upd c18 (p_2 + 1).toNatClampNeg ((c18 (p_2 + 1).toNatClampNeg) + 1)) fun c21 =>
some c21
set_option maxHeartbeats 8000000 in
set_option maxRecDepth 100000 in
theorem c_Few_add (l : Launch) (G : zG) (sz : Nat) (a_f a_c : Nat) (c_fs : Int32) (c_fc : Int32) (c_fm : Int32) (c_fl : Int32) (c_cl : Nat) (c_c : (Nat → Int32)) (p_2 : Int32) (p_3 : Int32) (p_4 : Int32) (r0 : (Nat → Int32)) (hf : f_Few_add c_fl c_cl c_c p_2 p_3 p_4 = some r0) :
    Met l y_Few_add (Cond.code y_Few_add prog_3_method_6_code 7 none :: lw_ok) { frames := 2, cells := 0, slots := 0, locals := 47 } (zPc G sz [.ref a_f, .ref a_c, .int p_2, .int p_3, .int p_4] (wFew G a_f c_fs c_fc c_fm c_fl ++ wI G a_c c_cl c_c))
      ((fun (A : Nat → Prop) => va_Qv (fun (_ : Unit) => True) (fun _ t => zB G A (wFew G a_f c_fs c_fc c_fm c_fl ++ wI G a_c c_cl r0) t) A) (va_A (wFew G a_f c_fs c_fc c_fm c_fl ++ wI G a_c c_cl c_c) sz)) 0 0 (va_A (wFew G a_f c_fs c_fc c_fm c_fl ++ wI G a_c c_cl c_c) sz) := by
  refine zMet (Qc := fun (A : Nat → Prop) => va_Qv (fun (_ : Unit) => True) (fun _ t => zB G A (wFew G a_f c_fs c_fc c_fm c_fl ++ wI G a_c c_cl r0) t) A) (by decide) (Nat.le_of_ble_eq_true rfl) (fun xp xe xs xm xb xme xc A ls Q H locs C hN hK hP hD hS hA hl hQ => ?_)
  obtain ⟨hx, hb, hr, hts, hown, hlocks, hml, hin⟩ := C
  have hl : lv_has ls 7 [(0, .ref a_f), (1, .ref a_c), (2, .int p_2), (3, .int p_3), (4, .int p_4)] := hl
  have h := hf
  unfold f_Few_add at h
  refine lv_aload_n hx hb d_Few_add_0 rfl (lv_at hl 1 rfl) ?_
  refine lv_iload_n hx hb d_Few_add_1 rfl (lv_at hl 2 rfl) ?_
  refine lv_iload_n hx hb d_Few_add_2 rfl (lv_at hl 3 rfl) ?_
  obtain ⟨r1, hr1, h⟩ := ob h
  refine zpcalli (wr := [(a_f, .inr (1, [.int c_fs, .int c_fc, .int c_fm, .int c_fl]))]) (w2 := fun _ => (wFew G a_f c_fs c_fc c_fm c_fl ++ wI G a_c c_cl c_c)) (zrunS (As := [.ref a_c, .int p_2, .int p_3]) (rest := []) ⟨hx, hb, hml, hown, hts⟩ hN hK (c_Few_index l G H.size a_c c_cl c_c p_2 p_3 r1 hr1) ⟨rfl, rfl⟩ kv_Few_19 ⟨Nat.le_of_ble_eq_true rfl, Nat.le_of_ble_eq_true rfl⟩ rfl hl.1 (Nat.le_of_ble_eq_true rfl) d_Few_add_3 ⟨Nat.le_of_ble_eq_true rfl, Nat.le_of_ble_eq_true rfl⟩) hP hD hS hA [1] [0] [0, 1] rfl rfl rfl rfl (by decide) rfl (fun _ => rfl) (fun rr _ H hw hP hD hS => ?_)
  have hw := hw.symm
  subst hw
  refine lv_istore (lv' := [(5, .int r1), (0, .ref a_f), (1, .ref a_c), (2, .int p_2), (3, .int p_3), (4, .int p_4)]) hx hb d_Few_add_6 hl (by decide) rfl (fun ls hl => ?_)
  refine lv_aload_n hx hb d_Few_add_8 rfl (lv_at hl 2 rfl) ?_
  refine lv_iload_n hx hb d_Few_add_9 rfl (lv_at hl 3 rfl) ?_
  refine lv_iconst (v := 1) hx hb d_Few_add_10 (by decide) ?_
  refine lv_iadd hx hb d_Few_add_11 ?_
  obtain ⟨h2, h⟩ := gi_k h
  refine va_iald hx hb hK hP 1 0 rfl rfl h2 d_Few_add_12 ?_
  refine lv_topi (fun v3 ev3 => ?_)
  have h := nm_k h v3 ev3
  refine lv_istore (lv' := [(6, .int v3), (5, .int r1), (0, .ref a_f), (1, .ref a_c), (2, .int p_2), (3, .int p_3), (4, .int p_4)]) hx hb d_Few_add_13 hl (by decide) rfl (fun ls hl => ?_)
  obtain ⟨y6, hy6, h⟩ := ob h
  have E15 : ∀ (z14 : (Nat → Int32)), z14 = y6 → ∀ (H : Heap) (locs : List Loc) (ls : Array Slot), va_P G.1 classes (wFew G a_f c_fs c_fc c_fm c_fl ++ wI G a_c c_cl z14) H → va_D A (wFew G a_f c_fs c_fc c_fm c_fl ++ wI G a_c c_cl z14) → va_S A xs.heap H locs → lv_has ls 7 [(0, .ref a_f), (1, .ref a_c), (2, .int p_2), (3, .int p_3), (4, .int p_4), (5, .int r1)] → W xp l xe { frames := 2, cells := 0, slots := 0, locals := 47 } xs xm ([.ref a_f, .ref a_c, .int p_2, .int p_3, .int p_4] : List Value).toArray xb xme xc H locs 0 0 Q (F0 xm 68 ls []) := by
    intro z14 ey H locs ls hP hD hS hl
    subst ey
    try dsimp only at h
    refine lv_aload_n hx hb d_Few_add_68 rfl (lv_at hl 1 rfl) ?_
    refine lv_iload_n hx hb d_Few_add_69 rfl (lv_at hl 2 rfl) ?_
    refine lv_iload hx hb d_Few_add_70 (lv_at hl 5 rfl) ?_
    refine lv_iload_n hx hb d_Few_add_72 rfl (lv_at hl 3 rfl) ?_
    obtain ⟨r16, hr16, h⟩ := ob h
    refine zcallv (wr := [(a_f, .inr (1, [.int c_fs, .int c_fc, .int c_fm, .int c_fl]))]) (w2 := fun _ => (wFew G a_f c_fs c_fc c_fm c_fl ++ wI G a_c c_cl r16)) (zrunS (As := [.ref a_c, .int p_2, .int r1, .int p_3]) (rest := []) ⟨hx, hb, hml, hown, hts⟩ hN hK (c_Few_setByte l G H.size a_c c_cl z14 p_2 r1 p_3 r16 hr16) ⟨rfl, rfl⟩ kv_Few_22 ⟨Nat.le_of_ble_eq_true rfl, Nat.le_of_ble_eq_true rfl⟩ rfl hl.1 (Nat.le_of_ble_eq_true rfl) d_Few_add_73 ⟨Nat.le_of_ble_eq_true rfl, Nat.le_of_ble_eq_true rfl⟩) hP hD hS hA [1] [0] [0, 1] rfl rfl rfl rfl (by decide) rfl (fun _ => rfl) (fun _ H locs _ hP hD hS => ?_)
    refine lv_aload_n hx hb d_Few_add_76 rfl (lv_at hl 1 rfl) ?_
    refine lv_iload_n hx hb d_Few_add_77 rfl (lv_at hl 2 rfl) ?_
    refine lv_aload_n hx hb d_Few_add_78 rfl (lv_at hl 0 rfl) ?_
    refine va_get (D := G.1) (ci := 1) (v := .int c_fl) (C := "BranchStore$Few") (T := F_Few) (N := 4) hx hb hts i_Few hown hK hP 0 rfl rfl 3 (by decide) (hts _ k_44) (fun _ h9 => h9) rfl d_Few_add_79 ?_
    refine lv_iadd hx hb d_Few_add_82 ?_
    refine lv_iload hx hb d_Few_add_83 (lv_at hl 5 rfl) ?_
    refine lv_iadd hx hb d_Few_add_85 ?_
    refine lv_iload hx hb d_Few_add_86 (lv_at hl 4 rfl) ?_
    obtain ⟨h17, h⟩ := gi_k h
    refine va_iast hx hb hK hP hD hS 1 0 rfl rfl h17 d_Few_add_88 (fun H locs hP hD hS => ?_)
    obtain ⟨c18, ec18⟩ : ∃ y, y = upd r16 ((p_2 + c_fl) + r1).toNatClampNeg p_4 := ⟨_, rfl⟩
    have h := nm_k h c18 ec18
    have hP : va_P G.1 classes (wFew G a_f c_fs c_fc c_fm c_fl ++ wI G a_c c_cl c18) H := by rw [ec18]; exact hP
    have hD : va_D A (wFew G a_f c_fs c_fc c_fm c_fl ++ wI G a_c c_cl c18) := by rw [ec18]; exact hD
    refine lv_aload_n hx hb d_Few_add_89 rfl (lv_at hl 1 rfl) ?_
    refine lv_iload_n hx hb d_Few_add_90 rfl (lv_at hl 2 rfl) ?_
    refine lv_iconst (v := 1) hx hb d_Few_add_91 (by decide) ?_
    refine lv_iadd hx hb d_Few_add_92 ?_
    refine lv_dup2_11 hx hb d_Few_add_93 rfl rfl ?_
    obtain ⟨h19, h⟩ := gi_k h
    refine va_iald hx hb hK hP 1 0 rfl rfl h19 d_Few_add_94 ?_
    refine lv_iconst (v := 1) hx hb d_Few_add_95 (by decide) ?_
    refine lv_iadd hx hb d_Few_add_96 ?_
    obtain ⟨h20, h⟩ := gi_k h
    refine va_iast hx hb hK hP hD hS 1 0 rfl rfl h20 d_Few_add_97 (fun H locs hP hD hS => ?_)
    obtain ⟨c21, ec21⟩ : ∃ y, y = upd c18 (p_2 + 1).toNatClampNeg ((c18 (p_2 + 1).toNatClampNeg) + 1) := ⟨_, rfl⟩
    have h := nm_k h c21 ec21
    have hP : va_P G.1 classes (wFew G a_f c_fs c_fc c_fm c_fl ++ wI G a_c c_cl c21) H := by rw [ec21]; exact hP
    have hD : va_D A (wFew G a_f c_fs c_fc c_fm c_fl ++ wI G a_c c_cl c21) := by rw [ec21]; exact hD
    obtain rfl := Option.some.inj h
    exact zretv () hQ hS.2.2 hx hb hr hlocks hP hD hS trivial (Nat.le_refl _) (Nat.le_refl _) d_Few_add_98
  have L15 : ∀ v : (Int32 × (Nat → Int32)), lp (fun v => s_Few_add_15 c_fl c_cl p_2 r1 v.1 v.2) v = some y6 → ∀ (H : Heap) (locs : List Loc) (ls : Array Slot), va_P G.1 classes (wFew G a_f c_fs c_fc c_fm c_fl ++ wI G a_c c_cl v.2) H → va_D A (wFew G a_f c_fs c_fc c_fm c_fl ++ wI G a_c c_cl v.2) → va_S A xs.heap H locs → lv_has ls 7 [(0, .ref a_f), (1, .ref a_c), (2, .int p_2), (3, .int p_3), (4, .int p_4), (5, .int r1), (6, .int v.1)] → W xp l xe { frames := 2, cells := 0, slots := 0, locals := 47 } xs xm ([.ref a_f, .ref a_c, .int p_2, .int p_3, .int p_4] : List Value).toArray xb xme xc H locs 0 0 Q (F0 xm 15 ls []) := by
    refine lp_walk _ (fun v x h hc he => ?_)
    obtain ⟨x6_4, c5⟩ := v
    intro H locs ls hP hD hS hl
    have h : s_Few_add_15 c_fl c_cl p_2 r1 x6_4 c5 = some x := h
    unfold s_Few_add_15 at h
    refine lv_iload hx hb d_Few_add_15 (lv_at hl 6 rfl) ?_
    refine lv_iload hx hb d_Few_add_17 (lv_at hl 5 rfl) ?_
    refine lv_icmp_le (tgt := 68) hx hb d_Few_add_19 (by decide) (fun q7 => ?_) (fun q7 => ?_)
    · have h := it h q7
      exact E15 c5 (he _ (Option.some.inj h).symm) H locs ls hP hD hS (lv_sub hl [0, 1, 2, 3, 4, 5] rfl)
    · have h := ie h q7
      refine lv_aload_n hx hb d_Few_add_22 rfl (lv_at hl 1 rfl) ?_
      refine lv_iload_n hx hb d_Few_add_23 rfl (lv_at hl 2 rfl) ?_
      refine lv_iload hx hb d_Few_add_24 (lv_at hl 6 rfl) ?_
      refine lv_aload_n hx hb d_Few_add_26 rfl (lv_at hl 1 rfl) ?_
      refine lv_iload_n hx hb d_Few_add_27 rfl (lv_at hl 2 rfl) ?_
      refine lv_iload hx hb d_Few_add_28 (lv_at hl 6 rfl) ?_
      refine lv_iconst (v := 1) hx hb d_Few_add_30 (by decide) ?_
      refine lv_isub hx hb d_Few_add_31 ?_
      obtain ⟨r8, hr8, h⟩ := ob h
      refine zpcalli (wr := [(a_f, .inr (1, [.int c_fs, .int c_fc, .int c_fm, .int c_fl]))]) (w2 := fun _ => (wFew G a_f c_fs c_fc c_fm c_fl ++ wI G a_c c_cl c5)) (zrunS (As := [.ref a_c, .int p_2, .int (x6_4 - 1)]) (rest := [.int x6_4, .int p_2, .ref a_c]) ⟨hx, hb, hml, hown, hts⟩ hN hK (c_Few_byteAt l G H.size a_c c_cl c5 p_2 (x6_4 - 1) r8 hr8) ⟨rfl, rfl⟩ kv_Few_15 ⟨Nat.le_of_ble_eq_true rfl, Nat.le_of_ble_eq_true rfl⟩ rfl hl.1 (Nat.le_of_ble_eq_true rfl) d_Few_add_32 ⟨Nat.le_of_ble_eq_true rfl, Nat.le_of_ble_eq_true rfl⟩) hP hD hS hA [1] [0] [0, 1] rfl rfl rfl rfl (by decide) rfl (fun _ => rfl) (fun rr _ H hw hP hD hS => ?_)
      have hw := hw.symm
      subst hw
      obtain ⟨r9, hr9, h⟩ := ob h
      refine zcallv (wr := [(a_f, .inr (1, [.int c_fs, .int c_fc, .int c_fm, .int c_fl]))]) (w2 := fun _ => (wFew G a_f c_fs c_fc c_fm c_fl ++ wI G a_c c_cl r9)) (zrunS (As := [.ref a_c, .int p_2, .int x6_4, .int r8]) (rest := []) ⟨hx, hb, hml, hown, hts⟩ hN hK (c_Few_setByte l G H.size a_c c_cl c5 p_2 x6_4 r8 r9 hr9) ⟨rfl, rfl⟩ kv_Few_22 ⟨Nat.le_of_ble_eq_true rfl, Nat.le_of_ble_eq_true rfl⟩ rfl hl.1 (Nat.le_of_ble_eq_true rfl) d_Few_add_35 ⟨Nat.le_of_ble_eq_true rfl, Nat.le_of_ble_eq_true rfl⟩) hP hD hS hA [1] [0] [0, 1] rfl rfl rfl rfl (by decide) rfl (fun _ => rfl) (fun _ H locs _ hP hD hS => ?_)
      refine lv_aload_n hx hb d_Few_add_38 rfl (lv_at hl 1 rfl) ?_
      refine lv_iload_n hx hb d_Few_add_39 rfl (lv_at hl 2 rfl) ?_
      refine lv_aload_n hx hb d_Few_add_40 rfl (lv_at hl 0 rfl) ?_
      refine va_get (D := G.1) (ci := 1) (v := .int c_fl) (C := "BranchStore$Few") (T := F_Few) (N := 4) hx hb hts i_Few hown hK hP 0 rfl rfl 3 (by decide) (hts _ k_44) (fun _ h9 => h9) rfl d_Few_add_41 ?_
      refine lv_iadd hx hb d_Few_add_44 ?_
      refine lv_iload hx hb d_Few_add_45 (lv_at hl 6 rfl) ?_
      refine lv_iadd hx hb d_Few_add_47 ?_
      refine lv_aload_n hx hb d_Few_add_48 rfl (lv_at hl 1 rfl) ?_
      refine lv_iload_n hx hb d_Few_add_49 rfl (lv_at hl 2 rfl) ?_
      refine lv_aload_n hx hb d_Few_add_50 rfl (lv_at hl 0 rfl) ?_
      refine va_get (D := G.1) (ci := 1) (v := .int c_fl) (C := "BranchStore$Few") (T := F_Few) (N := 4) hx hb hts i_Few hown hK hP 0 rfl rfl 3 (by decide) (hts _ k_44) (fun _ h9 => h9) rfl d_Few_add_51 ?_
      refine lv_iadd hx hb d_Few_add_54 ?_
      refine lv_iload hx hb d_Few_add_55 (lv_at hl 6 rfl) ?_
      refine lv_iadd hx hb d_Few_add_57 ?_
      refine lv_iconst (v := 1) hx hb d_Few_add_58 (by decide) ?_
      refine lv_isub hx hb d_Few_add_59 ?_
      obtain ⟨h10, h⟩ := gi_k h
      refine va_iald hx hb hK hP 1 0 rfl rfl h10 d_Few_add_60 ?_
      obtain ⟨h11, h⟩ := gi_k h
      refine va_iast hx hb hK hP hD hS 1 0 rfl rfl h11 d_Few_add_61 (fun H locs hP hD hS => ?_)
      obtain ⟨c12, ec12⟩ : ∃ y, y = upd r9 ((p_2 + c_fl) + x6_4).toNatClampNeg (r9 (((p_2 + c_fl) + x6_4) - 1).toNatClampNeg) := ⟨_, rfl⟩
      have h := nm_k h c12 ec12
      have hP : va_P G.1 classes (wFew G a_f c_fs c_fc c_fm c_fl ++ wI G a_c c_cl c12) H := by rw [ec12]; exact hP
      have hD : va_D A (wFew G a_f c_fs c_fc c_fm c_fl ++ wI G a_c c_cl c12) := by rw [ec12]; exact hD
      obtain ⟨v13, ev13⟩ : ∃ y : Int32, y = x6_4 + (-1) := ⟨_, rfl⟩
      have h := nm_k h v13 ev13
      refine lv_iinc (v := v13) (lv' := [(6, .int v13), (0, .ref a_f), (1, .ref a_c), (2, .int p_2), (3, .int p_3), (4, .int p_4), (5, .int r1)]) hx hb d_Few_add_62 hl (k := 6) rfl (by rw [ev13]; rfl) (by decide) rfl (fun ls hl => ?_)
      refine lv_goto (tgt := 15) hx hb d_Few_add_65 (by decide) ?_
      exact hc _ (Option.some.inj h).symm H locs ls hP hD hS (lv_sub hl [1, 2, 3, 4, 5, 6, 0] rfl)
  exact L15 _ hy6 _ _ ls hP hD hS (lv_sub hl [2, 3, 4, 5, 6, 1, 0] rfl)

noncomputable def s_Few_drop_17 (c_fl : Int32) (c_cl : Nat) (x2 : Int32) (x4 : Int32) (c_c : (Nat → Int32)) : Option ((Int32 × (Nat → Int32)) ⊕ (Nat → Int32)) :=
gi (x2 + 1) c_cl <|
if (c_c (x2 + 1).toNatClampNeg) ≤ x4 then
(some (.inr c_c))
else
((f_Few_byteAt c_cl c_c x2 (x4 + 1)).bind fun r10 =>
(f_Few_setByte c_cl c_c x2 x4 r10).bind fun r11 =>
gi (((x2 + c_fl) + x4) + 1) c_cl <|
gi ((x2 + c_fl) + x4) c_cl <|
nm (upd r11 ((x2 + c_fl) + x4).toNatClampNeg (r11 (((x2 + c_fl) + x4) + 1).toNatClampNeg)) fun c14 =>
nm (x4 + 1) fun v15 =>
some (.inl (v15, c14)))
noncomputable def f_Few_drop (c_fl : Int32) (c_cl : Nat) (c_c : (Nat → Int32)) (p_2 : Int32) (p_3 : Int32) : Option (Nat → Int32) :=
gi (p_2 + 1) c_cl <|
gi (p_2 + 1) c_cl <|
nm (upd c_c (p_2 + 1).toNatClampNeg ((c_c (p_2 + 1).toNatClampNeg) - 1)) fun c3 =>
(f_Few_index c_cl c3 p_2 p_3).bind fun r4 =>
(lp (fun v => s_Few_drop_17 c_fl c_cl p_2 v.1 v.2) (r4, c3)).bind fun y17 =>
some y17
set_option maxHeartbeats 8000000 in
set_option maxRecDepth 100000 in
theorem c_Few_drop (l : Launch) (G : zG) (sz : Nat) (a_f a_c : Nat) (c_fs : Int32) (c_fc : Int32) (c_fm : Int32) (c_fl : Int32) (c_cl : Nat) (c_c : (Nat → Int32)) (p_2 : Int32) (p_3 : Int32) (r0 : (Nat → Int32)) (hf : f_Few_drop c_fl c_cl c_c p_2 p_3 = some r0) :
    Met l y_Few_drop (Cond.code y_Few_drop prog_3_method_7_code 5 none :: lw_ok) { frames := 2, cells := 0, slots := 0, locals := 47 } (zPc G sz [.ref a_f, .ref a_c, .int p_2, .int p_3] (wFew G a_f c_fs c_fc c_fm c_fl ++ wI G a_c c_cl c_c))
      ((fun (A : Nat → Prop) => va_Qv (fun (_ : Unit) => True) (fun _ t => zB G A (wFew G a_f c_fs c_fc c_fm c_fl ++ wI G a_c c_cl r0) t) A) (va_A (wFew G a_f c_fs c_fc c_fm c_fl ++ wI G a_c c_cl c_c) sz)) 0 0 (va_A (wFew G a_f c_fs c_fc c_fm c_fl ++ wI G a_c c_cl c_c) sz) := by
  refine zMet (Qc := fun (A : Nat → Prop) => va_Qv (fun (_ : Unit) => True) (fun _ t => zB G A (wFew G a_f c_fs c_fc c_fm c_fl ++ wI G a_c c_cl r0) t) A) (by decide) (Nat.le_of_ble_eq_true rfl) (fun xp xe xs xm xb xme xc A ls Q H locs C hN hK hP hD hS hA hl hQ => ?_)
  obtain ⟨hx, hb, hr, hts, hown, hlocks, hml, hin⟩ := C
  have hl : lv_has ls 5 [(0, .ref a_f), (1, .ref a_c), (2, .int p_2), (3, .int p_3)] := hl
  have h := hf
  unfold f_Few_drop at h
  refine lv_aload_n hx hb d_Few_drop_0 rfl (lv_at hl 1 rfl) ?_
  refine lv_iload_n hx hb d_Few_drop_1 rfl (lv_at hl 2 rfl) ?_
  refine lv_iconst (v := 1) hx hb d_Few_drop_2 (by decide) ?_
  refine lv_iadd hx hb d_Few_drop_3 ?_
  refine lv_dup2_11 hx hb d_Few_drop_4 rfl rfl ?_
  obtain ⟨h1, h⟩ := gi_k h
  refine va_iald hx hb hK hP 1 0 rfl rfl h1 d_Few_drop_5 ?_
  refine lv_iconst (v := 1) hx hb d_Few_drop_6 (by decide) ?_
  refine lv_isub hx hb d_Few_drop_7 ?_
  obtain ⟨h2, h⟩ := gi_k h
  refine va_iast hx hb hK hP hD hS 1 0 rfl rfl h2 d_Few_drop_8 (fun H locs hP hD hS => ?_)
  obtain ⟨c3, ec3⟩ : ∃ y, y = upd c_c (p_2 + 1).toNatClampNeg ((c_c (p_2 + 1).toNatClampNeg) - 1) := ⟨_, rfl⟩
  have h := nm_k h c3 ec3
  have hP : va_P G.1 classes (wFew G a_f c_fs c_fc c_fm c_fl ++ wI G a_c c_cl c3) H := by rw [ec3]; exact hP
  have hD : va_D A (wFew G a_f c_fs c_fc c_fm c_fl ++ wI G a_c c_cl c3) := by rw [ec3]; exact hD
  refine lv_aload_n hx hb d_Few_drop_9 rfl (lv_at hl 1 rfl) ?_
  refine lv_iload_n hx hb d_Few_drop_10 rfl (lv_at hl 2 rfl) ?_
  refine lv_iload_n hx hb d_Few_drop_11 rfl (lv_at hl 3 rfl) ?_
  obtain ⟨r4, hr4, h⟩ := ob h
  refine zpcalli (wr := [(a_f, .inr (1, [.int c_fs, .int c_fc, .int c_fm, .int c_fl]))]) (w2 := fun _ => (wFew G a_f c_fs c_fc c_fm c_fl ++ wI G a_c c_cl c3)) (zrunS (As := [.ref a_c, .int p_2, .int p_3]) (rest := []) ⟨hx, hb, hml, hown, hts⟩ hN hK (c_Few_index l G H.size a_c c_cl c3 p_2 p_3 r4 hr4) ⟨rfl, rfl⟩ kv_Few_19 ⟨Nat.le_of_ble_eq_true rfl, Nat.le_of_ble_eq_true rfl⟩ rfl hl.1 (Nat.le_of_ble_eq_true rfl) d_Few_drop_12 ⟨Nat.le_of_ble_eq_true rfl, Nat.le_of_ble_eq_true rfl⟩) hP hD hS hA [1] [0] [0, 1] rfl rfl rfl rfl (by decide) rfl (fun _ => rfl) (fun rr _ H hw hP hD hS => ?_)
  have hw := hw.symm
  subst hw
  refine lv_istore (lv' := [(4, .int r4), (0, .ref a_f), (1, .ref a_c), (2, .int p_2), (3, .int p_3)]) hx hb d_Few_drop_15 hl (by decide) rfl (fun ls hl => ?_)
  obtain ⟨y7, hy7, h⟩ := ob h
  have E17 : ∀ (z16 : (Nat → Int32)), z16 = y7 → ∀ (H : Heap) (locs : List Loc) (ls : Array Slot), va_P G.1 classes (wFew G a_f c_fs c_fc c_fm c_fl ++ wI G a_c c_cl z16) H → va_D A (wFew G a_f c_fs c_fc c_fm c_fl ++ wI G a_c c_cl z16) → va_S A xs.heap H locs → lv_has ls 5 [] → W xp l xe { frames := 2, cells := 0, slots := 0, locals := 47 } xs xm ([.ref a_f, .ref a_c, .int p_2, .int p_3] : List Value).toArray xb xme xc H locs 0 0 Q (F0 xm 73 ls []) := by
    intro z16 ey H locs ls hP hD hS hl
    subst ey
    try dsimp only at h
    obtain rfl := Option.some.inj h
    exact zretv () hQ hS.2.2 hx hb hr hlocks hP hD hS trivial (Nat.le_refl _) (Nat.le_refl _) d_Few_drop_73
  have L17 : ∀ v : (Int32 × (Nat → Int32)), lp (fun v => s_Few_drop_17 c_fl c_cl p_2 v.1 v.2) v = some y7 → ∀ (H : Heap) (locs : List Loc) (ls : Array Slot), va_P G.1 classes (wFew G a_f c_fs c_fc c_fm c_fl ++ wI G a_c c_cl v.2) H → va_D A (wFew G a_f c_fs c_fc c_fm c_fl ++ wI G a_c c_cl v.2) → va_S A xs.heap H locs → lv_has ls 5 [(0, .ref a_f), (1, .ref a_c), (2, .int p_2), (4, .int v.1)] → W xp l xe { frames := 2, cells := 0, slots := 0, locals := 47 } xs xm ([.ref a_f, .ref a_c, .int p_2, .int p_3] : List Value).toArray xb xme xc H locs 0 0 Q (F0 xm 17 ls []) := by
    refine lp_walk _ (fun v x h hc he => ?_)
    obtain ⟨x4_5, c6⟩ := v
    intro H locs ls hP hD hS hl
    have h : s_Few_drop_17 c_fl c_cl p_2 x4_5 c6 = some x := h
    unfold s_Few_drop_17 at h
    refine lv_iload hx hb d_Few_drop_17 (lv_at hl 3 rfl) ?_
    refine lv_aload_n hx hb d_Few_drop_19 rfl (lv_at hl 1 rfl) ?_
    refine lv_iload_n hx hb d_Few_drop_20 rfl (lv_at hl 2 rfl) ?_
    refine lv_iconst (v := 1) hx hb d_Few_drop_21 (by decide) ?_
    refine lv_iadd hx hb d_Few_drop_22 ?_
    obtain ⟨h8, h⟩ := gi_k h
    refine va_iald hx hb hK hP 1 0 rfl rfl h8 d_Few_drop_23 ?_
    refine lv_icmp_ge (tgt := 73) hx hb d_Few_drop_24 (by decide) (fun q9 => ?_) (fun q9 => ?_)
    · have h := it h q9
      exact E17 c6 (he _ (Option.some.inj h).symm) H locs ls hP hD hS (lv_sub hl [] rfl)
    · have h := ie h q9
      refine lv_aload_n hx hb d_Few_drop_27 rfl (lv_at hl 1 rfl) ?_
      refine lv_iload_n hx hb d_Few_drop_28 rfl (lv_at hl 2 rfl) ?_
      refine lv_iload hx hb d_Few_drop_29 (lv_at hl 3 rfl) ?_
      refine lv_aload_n hx hb d_Few_drop_31 rfl (lv_at hl 1 rfl) ?_
      refine lv_iload_n hx hb d_Few_drop_32 rfl (lv_at hl 2 rfl) ?_
      refine lv_iload hx hb d_Few_drop_33 (lv_at hl 3 rfl) ?_
      refine lv_iconst (v := 1) hx hb d_Few_drop_35 (by decide) ?_
      refine lv_iadd hx hb d_Few_drop_36 ?_
      obtain ⟨r10, hr10, h⟩ := ob h
      refine zpcalli (wr := [(a_f, .inr (1, [.int c_fs, .int c_fc, .int c_fm, .int c_fl]))]) (w2 := fun _ => (wFew G a_f c_fs c_fc c_fm c_fl ++ wI G a_c c_cl c6)) (zrunS (As := [.ref a_c, .int p_2, .int (x4_5 + 1)]) (rest := [.int x4_5, .int p_2, .ref a_c]) ⟨hx, hb, hml, hown, hts⟩ hN hK (c_Few_byteAt l G H.size a_c c_cl c6 p_2 (x4_5 + 1) r10 hr10) ⟨rfl, rfl⟩ kv_Few_15 ⟨Nat.le_of_ble_eq_true rfl, Nat.le_of_ble_eq_true rfl⟩ rfl hl.1 (Nat.le_of_ble_eq_true rfl) d_Few_drop_37 ⟨Nat.le_of_ble_eq_true rfl, Nat.le_of_ble_eq_true rfl⟩) hP hD hS hA [1] [0] [0, 1] rfl rfl rfl rfl (by decide) rfl (fun _ => rfl) (fun rr _ H hw hP hD hS => ?_)
      have hw := hw.symm
      subst hw
      obtain ⟨r11, hr11, h⟩ := ob h
      refine zcallv (wr := [(a_f, .inr (1, [.int c_fs, .int c_fc, .int c_fm, .int c_fl]))]) (w2 := fun _ => (wFew G a_f c_fs c_fc c_fm c_fl ++ wI G a_c c_cl r11)) (zrunS (As := [.ref a_c, .int p_2, .int x4_5, .int r10]) (rest := []) ⟨hx, hb, hml, hown, hts⟩ hN hK (c_Few_setByte l G H.size a_c c_cl c6 p_2 x4_5 r10 r11 hr11) ⟨rfl, rfl⟩ kv_Few_22 ⟨Nat.le_of_ble_eq_true rfl, Nat.le_of_ble_eq_true rfl⟩ rfl hl.1 (Nat.le_of_ble_eq_true rfl) d_Few_drop_40 ⟨Nat.le_of_ble_eq_true rfl, Nat.le_of_ble_eq_true rfl⟩) hP hD hS hA [1] [0] [0, 1] rfl rfl rfl rfl (by decide) rfl (fun _ => rfl) (fun _ H locs _ hP hD hS => ?_)
      refine lv_aload_n hx hb d_Few_drop_43 rfl (lv_at hl 1 rfl) ?_
      refine lv_iload_n hx hb d_Few_drop_44 rfl (lv_at hl 2 rfl) ?_
      refine lv_aload_n hx hb d_Few_drop_45 rfl (lv_at hl 0 rfl) ?_
      refine va_get (D := G.1) (ci := 1) (v := .int c_fl) (C := "BranchStore$Few") (T := F_Few) (N := 4) hx hb hts i_Few hown hK hP 0 rfl rfl 3 (by decide) (hts _ k_44) (fun _ h9 => h9) rfl d_Few_drop_46 ?_
      refine lv_iadd hx hb d_Few_drop_49 ?_
      refine lv_iload hx hb d_Few_drop_50 (lv_at hl 3 rfl) ?_
      refine lv_iadd hx hb d_Few_drop_52 ?_
      refine lv_aload_n hx hb d_Few_drop_53 rfl (lv_at hl 1 rfl) ?_
      refine lv_iload_n hx hb d_Few_drop_54 rfl (lv_at hl 2 rfl) ?_
      refine lv_aload_n hx hb d_Few_drop_55 rfl (lv_at hl 0 rfl) ?_
      refine va_get (D := G.1) (ci := 1) (v := .int c_fl) (C := "BranchStore$Few") (T := F_Few) (N := 4) hx hb hts i_Few hown hK hP 0 rfl rfl 3 (by decide) (hts _ k_44) (fun _ h9 => h9) rfl d_Few_drop_56 ?_
      refine lv_iadd hx hb d_Few_drop_59 ?_
      refine lv_iload hx hb d_Few_drop_60 (lv_at hl 3 rfl) ?_
      refine lv_iadd hx hb d_Few_drop_62 ?_
      refine lv_iconst (v := 1) hx hb d_Few_drop_63 (by decide) ?_
      refine lv_iadd hx hb d_Few_drop_64 ?_
      obtain ⟨h12, h⟩ := gi_k h
      refine va_iald hx hb hK hP 1 0 rfl rfl h12 d_Few_drop_65 ?_
      obtain ⟨h13, h⟩ := gi_k h
      refine va_iast hx hb hK hP hD hS 1 0 rfl rfl h13 d_Few_drop_66 (fun H locs hP hD hS => ?_)
      obtain ⟨c14, ec14⟩ : ∃ y, y = upd r11 ((p_2 + c_fl) + x4_5).toNatClampNeg (r11 (((p_2 + c_fl) + x4_5) + 1).toNatClampNeg) := ⟨_, rfl⟩
      have h := nm_k h c14 ec14
      have hP : va_P G.1 classes (wFew G a_f c_fs c_fc c_fm c_fl ++ wI G a_c c_cl c14) H := by rw [ec14]; exact hP
      have hD : va_D A (wFew G a_f c_fs c_fc c_fm c_fl ++ wI G a_c c_cl c14) := by rw [ec14]; exact hD
      obtain ⟨v15, ev15⟩ : ∃ y : Int32, y = x4_5 + 1 := ⟨_, rfl⟩
      have h := nm_k h v15 ev15
      refine lv_iinc (v := v15) (lv' := [(4, .int v15), (0, .ref a_f), (1, .ref a_c), (2, .int p_2)]) hx hb d_Few_drop_67 hl (k := 3) rfl (by rw [ev15]; rfl) (by decide) rfl (fun ls hl => ?_)
      refine lv_goto (tgt := 17) hx hb d_Few_drop_70 (by decide) ?_
      exact hc _ (Option.some.inj h).symm H locs ls hP hD hS (lv_sub hl [1, 2, 3, 0] rfl)
  exact L17 _ hy7 _ _ ls hP hD hS (lv_sub hl [1, 2, 3, 0] rfl)

noncomputable def f_Few_from (c_cl : Nat) (c_c : (Nat → Int32)) (p_2 : Int32) (p_3 : Int32) : Option Int32 :=
(f_Few_index c_cl c_c p_2 p_3).bind fun r1 =>
gi (p_2 + 1) c_cl <|
if (c_c (p_2 + 1).toNatClampNeg) ≤ r1 then
(some (-1))
else
((f_Few_byteAt c_cl c_c p_2 r1).bind fun r4 =>
some r4)
set_option maxHeartbeats 8000000 in
set_option maxRecDepth 100000 in
theorem c_Few_from (l : Launch) (G : zG) (sz : Nat) (a_f a_c : Nat) (c_fs : Int32) (c_fc : Int32) (c_fm : Int32) (c_fl : Int32) (c_cl : Nat) (c_c : (Nat → Int32)) (p_2 : Int32) (p_3 : Int32) (r0 : Int32) (hf : f_Few_from c_cl c_c p_2 p_3 = some r0) :
    Met l y_Few_from (Cond.code y_Few_from prog_3_method_8_code 5 (some .int) :: lw_ok) { frames := 2, cells := 0, slots := 0, locals := 47 } (zPc G sz [.ref a_f, .ref a_c, .int p_2, .int p_3] (wFew G a_f c_fs c_fc c_fm c_fl ++ wI G a_c c_cl c_c))
      ((fun (A : Nat → Prop) => va_Qi (fun (r : Int32) (_ : Unit) => r = r0) (fun _ t => zB G A (wFew G a_f c_fs c_fc c_fm c_fl ++ wI G a_c c_cl c_c) t) A) (va_A (wFew G a_f c_fs c_fc c_fm c_fl ++ wI G a_c c_cl c_c) sz)) 0 0 (fun q => sz ≤ q) := by
  refine zMetR (Qc := fun (A : Nat → Prop) => va_Qi (fun (r : Int32) (_ : Unit) => r = r0) (fun _ t => zB G A (wFew G a_f c_fs c_fc c_fm c_fl ++ wI G a_c c_cl c_c) t) A) (by decide) (Nat.le_of_ble_eq_true rfl) (fun xp xe xs xm xb xme xc A ls Q H locs C hN hK hP hD hS hL hA hl hQ => ?_)
  obtain ⟨hx, hb, hr, hts, hown, hlocks, hml, hin⟩ := C
  have hl : lv_has ls 5 [(0, .ref a_f), (1, .ref a_c), (2, .int p_2), (3, .int p_3)] := hl
  have h := hf
  unfold f_Few_from at h
  refine lv_aload_n hx hb d_Few_from_0 rfl (lv_at hl 1 rfl) ?_
  refine lv_iload_n hx hb d_Few_from_1 rfl (lv_at hl 2 rfl) ?_
  refine lv_iload_n hx hb d_Few_from_2 rfl (lv_at hl 3 rfl) ?_
  obtain ⟨r1, hr1, h⟩ := ob h
  refine zpcalli (wr := [(a_f, .inr (1, [.int c_fs, .int c_fc, .int c_fm, .int c_fl]))]) (w2 := fun _ => (wFew G a_f c_fs c_fc c_fm c_fl ++ wI G a_c c_cl c_c)) (zrunS (As := [.ref a_c, .int p_2, .int p_3]) (rest := []) ⟨hx, hb, hml, hown, hts⟩ hN hK (c_Few_index l G H.size a_c c_cl c_c p_2 p_3 r1 hr1) ⟨rfl, rfl⟩ kv_Few_19 ⟨Nat.le_of_ble_eq_true rfl, Nat.le_of_ble_eq_true rfl⟩ rfl hl.1 (Nat.le_of_ble_eq_true rfl) d_Few_from_3 ⟨Nat.le_of_ble_eq_true rfl, Nat.le_of_ble_eq_true rfl⟩) hP hD hS hA [1] [0] [0, 1] rfl rfl rfl rfl (by decide) rfl (fun _ => rfl) (fun rr _ H hw hP hD hS => ?_)
  have hw := hw.symm
  subst hw
  refine lv_istore (lv' := [(4, .int r1), (0, .ref a_f), (1, .ref a_c), (2, .int p_2), (3, .int p_3)]) hx hb d_Few_from_6 hl (by decide) rfl (fun ls hl => ?_)
  refine lv_iload hx hb d_Few_from_8 (lv_at hl 0 rfl) ?_
  refine lv_aload_n hx hb d_Few_from_10 rfl (lv_at hl 2 rfl) ?_
  refine lv_iload_n hx hb d_Few_from_11 rfl (lv_at hl 3 rfl) ?_
  refine lv_iconst (v := 1) hx hb d_Few_from_12 (by decide) ?_
  refine lv_iadd hx hb d_Few_from_13 ?_
  obtain ⟨h2, h⟩ := gi_k h
  refine va_iald hx hb hK hP 1 0 rfl rfl h2 d_Few_from_14 ?_
  refine lv_icmp_ge (tgt := 28) hx hb d_Few_from_15 (by decide) (fun q3 => ?_) (fun q3 => ?_)
  · have h := it h q3
    refine lv_iconst (v := (-1)) hx hb d_Few_from_28 (by decide) ?_
    obtain rfl := Option.some.inj h
    exact zreti () hQ hL hx hb hr hlocks hP hD hS rfl (Nat.le_refl _) (Nat.le_refl _) d_Few_from_29
  · have h := ie h q3
    refine lv_aload_n hx hb d_Few_from_18 rfl (lv_at hl 2 rfl) ?_
    refine lv_iload_n hx hb d_Few_from_19 rfl (lv_at hl 3 rfl) ?_
    refine lv_iload hx hb d_Few_from_20 (lv_at hl 0 rfl) ?_
    obtain ⟨r4, hr4, h⟩ := ob h
    refine zpcalli (wr := [(a_f, .inr (1, [.int c_fs, .int c_fc, .int c_fm, .int c_fl]))]) (w2 := fun _ => (wFew G a_f c_fs c_fc c_fm c_fl ++ wI G a_c c_cl c_c)) (zrunS (As := [.ref a_c, .int p_2, .int r1]) (rest := []) ⟨hx, hb, hml, hown, hts⟩ hN hK (c_Few_byteAt l G H.size a_c c_cl c_c p_2 r1 r4 hr4) ⟨rfl, rfl⟩ kv_Few_15 ⟨Nat.le_of_ble_eq_true rfl, Nat.le_of_ble_eq_true rfl⟩ rfl hl.1 (Nat.le_of_ble_eq_true rfl) d_Few_from_22 ⟨Nat.le_of_ble_eq_true rfl, Nat.le_of_ble_eq_true rfl⟩) hP hD hS hA [1] [0] [0, 1] rfl rfl rfl rfl (by decide) rfl (fun _ => rfl) (fun rr _ H hw hP hD hS => ?_)
    have hw := hw.symm
    subst hw
    refine lv_goto (tgt := 29) hx hb d_Few_from_25 (by decide) ?_
    obtain rfl := Option.some.inj h
    exact zreti () hQ hL hx hb hr hlocks hP hD hS rfl (Nat.le_refl _) (Nat.le_refl _) d_Few_from_29

noncomputable def f_Some_numberAt (c_cl : Nat) (c_c : (Nat → Int32)) (p_1 : Int32) (p_2 : Int32) : Option Int32 :=
gi ((p_1 + 4) + (p_2 / 4)) c_cl <|
some ((ziushr (c_c ((p_1 + 4) + (p_2 / 4)).toNatClampNeg) (24 - (8 * (p_2 - p_2 / 4 * 4)))) &&& 255)
set_option maxHeartbeats 8000000 in
set_option maxRecDepth 100000 in
theorem c_Some_numberAt (l : Launch) (G : zG) (sz : Nat) (a_c : Nat) (c_cl : Nat) (c_c : (Nat → Int32)) (p_1 : Int32) (p_2 : Int32) (r0 : Int32) (hf : f_Some_numberAt c_cl c_c p_1 p_2 = some r0) :
    Met l y_Some_numberAt (Cond.code y_Some_numberAt prog_6_method_2_code 3 (some .int) :: lw_ok) { frames := 0, cells := 0, slots := 0, locals := 0 } (zPc G sz [.ref a_c, .int p_1, .int p_2] (wI G a_c c_cl c_c))
      ((fun (A : Nat → Prop) => va_Qi (fun (r : Int32) (_ : Unit) => r = r0) (fun _ t => zB G A (wI G a_c c_cl c_c) t) A) (va_A (wI G a_c c_cl c_c) sz)) 0 0 (fun q => sz ≤ q) := by
  refine zMetR (Qc := fun (A : Nat → Prop) => va_Qi (fun (r : Int32) (_ : Unit) => r = r0) (fun _ t => zB G A (wI G a_c c_cl c_c) t) A) (by decide) (Nat.le_of_ble_eq_true rfl) (fun xp xe xs xm xb xme xc A ls Q H locs C hN hK hP hD hS hL hA hl hQ => ?_)
  obtain ⟨hx, hb, hr, hts, hown, hlocks, hml, hin⟩ := C
  have hl : lv_has ls 3 [(0, .ref a_c), (1, .int p_1), (2, .int p_2)] := hl
  have h := hf
  unfold f_Some_numberAt at h
  refine lv_aload_n hx hb d_Some_numberAt_0 rfl (lv_at hl 0 rfl) ?_
  refine lv_iload_n hx hb d_Some_numberAt_1 rfl (lv_at hl 1 rfl) ?_
  refine lv_iconst (v := 4) hx hb d_Some_numberAt_2 (by decide) ?_
  refine lv_iadd hx hb d_Some_numberAt_3 ?_
  refine lv_iload_n hx hb d_Some_numberAt_4 rfl (lv_at hl 2 rfl) ?_
  refine lv_iconst (v := 4) hx hb d_Some_numberAt_5 (by decide) ?_
  refine lv_idiv hx hb d_Some_numberAt_6 (by decide) ?_
  refine lv_iadd hx hb d_Some_numberAt_7 ?_
  obtain ⟨h1, h⟩ := gi_k h
  refine va_iald hx hb hK hP 0 0 rfl rfl h1 d_Some_numberAt_8 ?_
  refine lv_bipush (v := 24) hx hb d_Some_numberAt_9 (by decide) ?_
  refine lv_bipush (v := 8) hx hb d_Some_numberAt_11 (by decide) ?_
  refine lv_iload_n hx hb d_Some_numberAt_13 rfl (lv_at hl 2 rfl) ?_
  refine lv_iconst (v := 4) hx hb d_Some_numberAt_14 (by decide) ?_
  refine lv_irem hx hb d_Some_numberAt_15 (by decide) ?_
  refine lv_imul hx hb d_Some_numberAt_16 ?_
  refine lv_isub hx hb d_Some_numberAt_17 ?_
  refine lv_iushr (v := ziushr (c_c ((p_1 + 4) + (p_2 / 4)).toNatClampNeg) (24 - (8 * (p_2 - p_2 / 4 * 4)))) hx hb d_Some_numberAt_18 rfl ?_
  refine lv_sipush (v := 255) hx hb d_Some_numberAt_19 (by decide) ?_
  refine lv_iand hx hb d_Some_numberAt_22 ?_
  obtain rfl := Option.some.inj h
  exact zreti () hQ hL hx hb hr hlocks hP hD hS rfl (Nat.le_refl _) (Nat.le_refl _) d_Some_numberAt_23

noncomputable def f_Some_setNumber (c_cl : Nat) (c_c : (Nat → Int32)) (p_1 : Int32) (p_2 : Int32) (p_3 : Int32) : Option (Nat → Int32) :=
nm ((p_1 + 4) + (p_2 / 4)) fun v1 =>
nm (24 - (8 * (p_2 - p_2 / 4 * 4))) fun v2 =>
gi v1 c_cl <|
gi v1 c_cl <|
nm (upd c_c v1.toNatClampNeg (((c_c v1.toNatClampNeg) &&& ((255 <<< (v2 &&& 31)) ^^^ (-1))) ||| (p_3 <<< (v2 &&& 31)))) fun c5 =>
some c5
set_option maxHeartbeats 8000000 in
set_option maxRecDepth 100000 in
theorem c_Some_setNumber (l : Launch) (G : zG) (sz : Nat) (a_c : Nat) (c_cl : Nat) (c_c : (Nat → Int32)) (p_1 : Int32) (p_2 : Int32) (p_3 : Int32) (r0 : (Nat → Int32)) (hf : f_Some_setNumber c_cl c_c p_1 p_2 p_3 = some r0) :
    Met l y_Some_setNumber (Cond.code y_Some_setNumber prog_6_method_3_code 6 none :: lw_ok) { frames := 0, cells := 0, slots := 0, locals := 0 } (zPc G sz [.ref a_c, .int p_1, .int p_2, .int p_3] (wI G a_c c_cl c_c))
      ((fun (A : Nat → Prop) => va_Qv (fun (_ : Unit) => True) (fun _ t => zB G A (wI G a_c c_cl r0) t) A) (va_A (wI G a_c c_cl c_c) sz)) 0 0 (va_A (wI G a_c c_cl c_c) sz) := by
  refine zMet (Qc := fun (A : Nat → Prop) => va_Qv (fun (_ : Unit) => True) (fun _ t => zB G A (wI G a_c c_cl r0) t) A) (by decide) (Nat.le_of_ble_eq_true rfl) (fun xp xe xs xm xb xme xc A ls Q H locs C hN hK hP hD hS hA hl hQ => ?_)
  obtain ⟨hx, hb, hr, hts, hown, hlocks, hml, hin⟩ := C
  have hl : lv_has ls 6 [(0, .ref a_c), (1, .int p_1), (2, .int p_2), (3, .int p_3)] := hl
  have h := hf
  unfold f_Some_setNumber at h
  refine lv_iload_n hx hb d_Some_setNumber_0 rfl (lv_at hl 1 rfl) ?_
  refine lv_iconst (v := 4) hx hb d_Some_setNumber_1 (by decide) ?_
  refine lv_iadd hx hb d_Some_setNumber_2 ?_
  refine lv_iload_n hx hb d_Some_setNumber_3 rfl (lv_at hl 2 rfl) ?_
  refine lv_iconst (v := 4) hx hb d_Some_setNumber_4 (by decide) ?_
  refine lv_idiv hx hb d_Some_setNumber_5 (by decide) ?_
  refine lv_iadd hx hb d_Some_setNumber_6 ?_
  refine lv_topi (fun v1 ev1 => ?_)
  have h := nm_k h v1 ev1
  refine lv_istore (lv' := [(4, .int v1), (0, .ref a_c), (1, .int p_1), (2, .int p_2), (3, .int p_3)]) hx hb d_Some_setNumber_7 hl (by decide) rfl (fun ls hl => ?_)
  refine lv_bipush (v := 24) hx hb d_Some_setNumber_9 (by decide) ?_
  refine lv_bipush (v := 8) hx hb d_Some_setNumber_11 (by decide) ?_
  refine lv_iload_n hx hb d_Some_setNumber_13 rfl (lv_at hl 3 rfl) ?_
  refine lv_iconst (v := 4) hx hb d_Some_setNumber_14 (by decide) ?_
  refine lv_irem hx hb d_Some_setNumber_15 (by decide) ?_
  refine lv_imul hx hb d_Some_setNumber_16 ?_
  refine lv_isub hx hb d_Some_setNumber_17 ?_
  refine lv_topi (fun v2 ev2 => ?_)
  have h := nm_k h v2 ev2
  refine lv_istore (lv' := [(5, .int v2), (4, .int v1), (0, .ref a_c), (1, .int p_1), (2, .int p_2), (3, .int p_3)]) hx hb d_Some_setNumber_18 hl (by decide) rfl (fun ls hl => ?_)
  refine lv_aload_n hx hb d_Some_setNumber_20 rfl (lv_at hl 2 rfl) ?_
  refine lv_iload hx hb d_Some_setNumber_21 (lv_at hl 1 rfl) ?_
  refine lv_aload_n hx hb d_Some_setNumber_23 rfl (lv_at hl 2 rfl) ?_
  refine lv_iload hx hb d_Some_setNumber_24 (lv_at hl 1 rfl) ?_
  obtain ⟨h3, h⟩ := gi_k h
  refine va_iald hx hb hK hP 0 0 rfl rfl h3 d_Some_setNumber_26 ?_
  refine lv_sipush (v := 255) hx hb d_Some_setNumber_27 (by decide) ?_
  refine lv_iload hx hb d_Some_setNumber_30 (lv_at hl 0 rfl) ?_
  refine lv_ishl hx hb d_Some_setNumber_32 ?_
  refine lv_iconst (v := (-1)) hx hb d_Some_setNumber_33 (by decide) ?_
  refine lv_ixor hx hb d_Some_setNumber_34 ?_
  refine lv_iand hx hb d_Some_setNumber_35 ?_
  refine lv_iload_n hx hb d_Some_setNumber_36 rfl (lv_at hl 5 rfl) ?_
  refine lv_iload hx hb d_Some_setNumber_37 (lv_at hl 0 rfl) ?_
  refine lv_ishl hx hb d_Some_setNumber_39 ?_
  refine lv_ior hx hb d_Some_setNumber_40 ?_
  obtain ⟨h4, h⟩ := gi_k h
  refine va_iast hx hb hK hP hD hS 0 0 rfl rfl h4 d_Some_setNumber_41 (fun H locs hP hD hS => ?_)
  obtain ⟨c5, ec5⟩ : ∃ y, y = upd c_c v1.toNatClampNeg (((c_c v1.toNatClampNeg) &&& ((255 <<< (v2 &&& 31)) ^^^ (-1))) ||| (p_3 <<< (v2 &&& 31))) := ⟨_, rfl⟩
  have h := nm_k h c5 ec5
  have hP : va_P G.1 classes (wI G a_c c_cl c5) H := by rw [ec5]; exact hP
  have hD : va_D A (wI G a_c c_cl c5) := by rw [ec5]; exact hD
  obtain rfl := Option.some.inj h
  exact zretv () hQ hS.2.2 hx hb hr hlocks hP hD hS trivial (Nat.le_refl _) (Nat.le_refl _) d_Some_setNumber_42

theorem kv_Some_11 : zKS "BranchStore$Some" 11 y_Some_numberAt prog_6_method_2_code 3 (some .int) 3 := ⟨k_249, k_250, k_5, k_251, by decide +kernel⟩
noncomputable def f_Some_place (c_cl : Nat) (c_c : (Nat → Int32)) (p_2 : Int32) (p_3 : Int32) : Option Int32 :=
(f_Some_numberAt c_cl c_c p_2 p_3).bind fun r1 =>
if r1 = 0 then
(some 0)
else
(some (((p_2 + 68) + r1) - 1))
set_option maxHeartbeats 8000000 in
set_option maxRecDepth 100000 in
theorem c_Some_place (l : Launch) (G : zG) (sz : Nat) (a_f a_c : Nat) (c_fs : Int32) (c_fc : Int32) (c_fm : Int32) (c_cl : Nat) (c_c : (Nat → Int32)) (p_2 : Int32) (p_3 : Int32) (r0 : Int32) (hf : f_Some_place c_cl c_c p_2 p_3 = some r0) :
    Met l y_Some_place (Cond.code y_Some_place prog_6_method_4_code 5 (some .int) :: lw_ok) { frames := 1, cells := 0, slots := 0, locals := 22 } (zPc G sz [.ref a_f, .ref a_c, .int p_2, .int p_3] (wSome G a_f c_fs c_fc c_fm ++ wI G a_c c_cl c_c))
      ((fun (A : Nat → Prop) => va_Qi (fun (r : Int32) (_ : Unit) => r = r0) (fun _ t => zB G A (wSome G a_f c_fs c_fc c_fm ++ wI G a_c c_cl c_c) t) A) (va_A (wSome G a_f c_fs c_fc c_fm ++ wI G a_c c_cl c_c) sz)) 0 0 (fun q => sz ≤ q) := by
  refine zMetR (Qc := fun (A : Nat → Prop) => va_Qi (fun (r : Int32) (_ : Unit) => r = r0) (fun _ t => zB G A (wSome G a_f c_fs c_fc c_fm ++ wI G a_c c_cl c_c) t) A) (by decide) (Nat.le_of_ble_eq_true rfl) (fun xp xe xs xm xb xme xc A ls Q H locs C hN hK hP hD hS hL hA hl hQ => ?_)
  obtain ⟨hx, hb, hr, hts, hown, hlocks, hml, hin⟩ := C
  have hl : lv_has ls 5 [(0, .ref a_f), (1, .ref a_c), (2, .int p_2), (3, .int p_3)] := hl
  have h := hf
  unfold f_Some_place at h
  refine lv_aload_n hx hb d_Some_place_0 rfl (lv_at hl 1 rfl) ?_
  refine lv_iload_n hx hb d_Some_place_1 rfl (lv_at hl 2 rfl) ?_
  refine lv_iload_n hx hb d_Some_place_2 rfl (lv_at hl 3 rfl) ?_
  obtain ⟨r1, hr1, h⟩ := ob h
  refine zpcalli (wr := [(a_f, .inr (2, [.int c_fs, .int c_fc, .int c_fm]))]) (w2 := fun _ => (wSome G a_f c_fs c_fc c_fm ++ wI G a_c c_cl c_c)) (zrunS (As := [.ref a_c, .int p_2, .int p_3]) (rest := []) ⟨hx, hb, hml, hown, hts⟩ hN hK (c_Some_numberAt l G H.size a_c c_cl c_c p_2 p_3 r1 hr1) ⟨rfl, rfl⟩ kv_Some_11 ⟨Nat.le_of_ble_eq_true rfl, Nat.le_of_ble_eq_true rfl⟩ rfl hl.1 (Nat.le_of_ble_eq_true rfl) d_Some_place_3 ⟨Nat.le_of_ble_eq_true rfl, Nat.le_of_ble_eq_true rfl⟩) hP hD hS hA [1] [0] [0, 1] rfl rfl rfl rfl (by decide) rfl (fun _ => rfl) (fun rr _ H hw hP hD hS => ?_)
  have hw := hw.symm
  subst hw
  refine lv_istore (lv' := [(4, .int r1), (0, .ref a_f), (1, .ref a_c), (2, .int p_2), (3, .int p_3)]) hx hb d_Some_place_6 hl (by decide) rfl (fun ls hl => ?_)
  refine lv_iload hx hb d_Some_place_8 (lv_at hl 0 rfl) ?_
  refine lv_if_ne (tgt := 17) hx hb d_Some_place_10 (by decide) (fun q2 => ?_) (fun q2 => ?_)
  · have h := ie h q2
    refine lv_iload_n hx hb d_Some_place_17 rfl (lv_at hl 3 rfl) ?_
    refine lv_bipush (v := 68) hx hb d_Some_place_18 (by decide) ?_
    refine lv_iadd hx hb d_Some_place_20 ?_
    refine lv_iload hx hb d_Some_place_21 (lv_at hl 0 rfl) ?_
    refine lv_iadd hx hb d_Some_place_23 ?_
    refine lv_iconst (v := 1) hx hb d_Some_place_24 (by decide) ?_
    refine lv_isub hx hb d_Some_place_25 ?_
    obtain rfl := Option.some.inj h
    exact zreti () hQ hL hx hb hr hlocks hP hD hS rfl (Nat.le_refl _) (Nat.le_refl _) d_Some_place_26
  · have h := it h q2
    refine lv_iconst (v := 0) hx hb d_Some_place_13 (by decide) ?_
    refine lv_goto (tgt := 26) hx hb d_Some_place_14 (by decide) ?_
    obtain rfl := Option.some.inj h
    exact zreti () hQ hL hx hb hr hlocks hP hD hS rfl (Nat.le_refl _) (Nat.le_refl _) d_Some_place_26

theorem kv_Some_15 : zKS "BranchStore$Some" 15 y_Some_setNumber prog_6_method_3_code 6 none 4 := ⟨k_353, k_354, k_5, k_355, by decide +kernel⟩
noncomputable def f_Some_add (c_cl : Nat) (c_c : (Nat → Int32)) (p_2 : Int32) (p_3 : Int32) (p_4 : Int32) : Option (Nat → Int32) :=
gi (p_2 + 1) c_cl <|
gi ((p_2 + 68) + (c_c (p_2 + 1).toNatClampNeg)) c_cl <|
nm (upd c_c ((p_2 + 68) + (c_c (p_2 + 1).toNatClampNeg)).toNatClampNeg p_4) fun c3 =>
gi (p_2 + 1) c_cl <|
gi (p_2 + 1) c_cl <|
nm (upd c3 (p_2 + 1).toNatClampNeg ((c3 (p_2 + 1).toNatClampNeg) + 1)) fun c6 =>
gi (p_2 + 1) c_cl <|
(f_Some_setNumber c_cl c6 p_2 p_3 (c6 (p_2 + 1).toNatClampNeg)).bind fun r8 =>
some r8
set_option maxHeartbeats 8000000 in
set_option maxRecDepth 100000 in
theorem c_Some_add (l : Launch) (G : zG) (sz : Nat) (a_f a_c : Nat) (c_fs : Int32) (c_fc : Int32) (c_fm : Int32) (c_cl : Nat) (c_c : (Nat → Int32)) (p_2 : Int32) (p_3 : Int32) (p_4 : Int32) (r0 : (Nat → Int32)) (hf : f_Some_add c_cl c_c p_2 p_3 p_4 = some r0) :
    Met l y_Some_add (Cond.code y_Some_add prog_6_method_5_code 5 none :: lw_ok) { frames := 1, cells := 0, slots := 0, locals := 25 } (zPc G sz [.ref a_f, .ref a_c, .int p_2, .int p_3, .int p_4] (wSome G a_f c_fs c_fc c_fm ++ wI G a_c c_cl c_c))
      ((fun (A : Nat → Prop) => va_Qv (fun (_ : Unit) => True) (fun _ t => zB G A (wSome G a_f c_fs c_fc c_fm ++ wI G a_c c_cl r0) t) A) (va_A (wSome G a_f c_fs c_fc c_fm ++ wI G a_c c_cl c_c) sz)) 0 0 (va_A (wSome G a_f c_fs c_fc c_fm ++ wI G a_c c_cl c_c) sz) := by
  refine zMet (Qc := fun (A : Nat → Prop) => va_Qv (fun (_ : Unit) => True) (fun _ t => zB G A (wSome G a_f c_fs c_fc c_fm ++ wI G a_c c_cl r0) t) A) (by decide) (Nat.le_of_ble_eq_true rfl) (fun xp xe xs xm xb xme xc A ls Q H locs C hN hK hP hD hS hA hl hQ => ?_)
  obtain ⟨hx, hb, hr, hts, hown, hlocks, hml, hin⟩ := C
  have hl : lv_has ls 5 [(0, .ref a_f), (1, .ref a_c), (2, .int p_2), (3, .int p_3), (4, .int p_4)] := hl
  have h := hf
  unfold f_Some_add at h
  refine lv_aload_n hx hb d_Some_add_0 rfl (lv_at hl 1 rfl) ?_
  refine lv_iload_n hx hb d_Some_add_1 rfl (lv_at hl 2 rfl) ?_
  refine lv_bipush (v := 68) hx hb d_Some_add_2 (by decide) ?_
  refine lv_iadd hx hb d_Some_add_4 ?_
  refine lv_aload_n hx hb d_Some_add_5 rfl (lv_at hl 1 rfl) ?_
  refine lv_iload_n hx hb d_Some_add_6 rfl (lv_at hl 2 rfl) ?_
  refine lv_iconst (v := 1) hx hb d_Some_add_7 (by decide) ?_
  refine lv_iadd hx hb d_Some_add_8 ?_
  obtain ⟨h1, h⟩ := gi_k h
  refine va_iald hx hb hK hP 1 0 rfl rfl h1 d_Some_add_9 ?_
  refine lv_iadd hx hb d_Some_add_10 ?_
  refine lv_iload hx hb d_Some_add_11 (lv_at hl 4 rfl) ?_
  obtain ⟨h2, h⟩ := gi_k h
  refine va_iast hx hb hK hP hD hS 1 0 rfl rfl h2 d_Some_add_13 (fun H locs hP hD hS => ?_)
  obtain ⟨c3, ec3⟩ : ∃ y, y = upd c_c ((p_2 + 68) + (c_c (p_2 + 1).toNatClampNeg)).toNatClampNeg p_4 := ⟨_, rfl⟩
  have h := nm_k h c3 ec3
  have hP : va_P G.1 classes (wSome G a_f c_fs c_fc c_fm ++ wI G a_c c_cl c3) H := by rw [ec3]; exact hP
  have hD : va_D A (wSome G a_f c_fs c_fc c_fm ++ wI G a_c c_cl c3) := by rw [ec3]; exact hD
  refine lv_aload_n hx hb d_Some_add_14 rfl (lv_at hl 1 rfl) ?_
  refine lv_iload_n hx hb d_Some_add_15 rfl (lv_at hl 2 rfl) ?_
  refine lv_iconst (v := 1) hx hb d_Some_add_16 (by decide) ?_
  refine lv_iadd hx hb d_Some_add_17 ?_
  refine lv_dup2_11 hx hb d_Some_add_18 rfl rfl ?_
  obtain ⟨h4, h⟩ := gi_k h
  refine va_iald hx hb hK hP 1 0 rfl rfl h4 d_Some_add_19 ?_
  refine lv_iconst (v := 1) hx hb d_Some_add_20 (by decide) ?_
  refine lv_iadd hx hb d_Some_add_21 ?_
  obtain ⟨h5, h⟩ := gi_k h
  refine va_iast hx hb hK hP hD hS 1 0 rfl rfl h5 d_Some_add_22 (fun H locs hP hD hS => ?_)
  obtain ⟨c6, ec6⟩ : ∃ y, y = upd c3 (p_2 + 1).toNatClampNeg ((c3 (p_2 + 1).toNatClampNeg) + 1) := ⟨_, rfl⟩
  have h := nm_k h c6 ec6
  have hP : va_P G.1 classes (wSome G a_f c_fs c_fc c_fm ++ wI G a_c c_cl c6) H := by rw [ec6]; exact hP
  have hD : va_D A (wSome G a_f c_fs c_fc c_fm ++ wI G a_c c_cl c6) := by rw [ec6]; exact hD
  refine lv_aload_n hx hb d_Some_add_23 rfl (lv_at hl 1 rfl) ?_
  refine lv_iload_n hx hb d_Some_add_24 rfl (lv_at hl 2 rfl) ?_
  refine lv_iload_n hx hb d_Some_add_25 rfl (lv_at hl 3 rfl) ?_
  refine lv_aload_n hx hb d_Some_add_26 rfl (lv_at hl 1 rfl) ?_
  refine lv_iload_n hx hb d_Some_add_27 rfl (lv_at hl 2 rfl) ?_
  refine lv_iconst (v := 1) hx hb d_Some_add_28 (by decide) ?_
  refine lv_iadd hx hb d_Some_add_29 ?_
  obtain ⟨h7, h⟩ := gi_k h
  refine va_iald hx hb hK hP 1 0 rfl rfl h7 d_Some_add_30 ?_
  obtain ⟨r8, hr8, h⟩ := ob h
  refine zcallv (wr := [(a_f, .inr (2, [.int c_fs, .int c_fc, .int c_fm]))]) (w2 := fun _ => (wSome G a_f c_fs c_fc c_fm ++ wI G a_c c_cl r8)) (zrunS (As := [.ref a_c, .int p_2, .int p_3, .int (c6 (p_2 + 1).toNatClampNeg)]) (rest := []) ⟨hx, hb, hml, hown, hts⟩ hN hK (c_Some_setNumber l G H.size a_c c_cl c6 p_2 p_3 (c6 (p_2 + 1).toNatClampNeg) r8 hr8) ⟨rfl, rfl⟩ kv_Some_15 ⟨Nat.le_of_ble_eq_true rfl, Nat.le_of_ble_eq_true rfl⟩ rfl hl.1 (Nat.le_of_ble_eq_true rfl) d_Some_add_31 ⟨Nat.le_of_ble_eq_true rfl, Nat.le_of_ble_eq_true rfl⟩) hP hD hS hA [1] [0] [0, 1] rfl rfl rfl rfl (by decide) rfl (fun _ => rfl) (fun _ H locs _ hP hD hS => ?_)
  obtain rfl := Option.some.inj h
  exact zretv () hQ hS.2.2 hx hb hr hlocks hP hD hS trivial (Nat.le_refl _) (Nat.le_refl _) d_Some_add_34

noncomputable def s_Some_drop_25 (c_cl : Nat) (x2 : Int32) (x4 : Int32) (x5 : Int32) (x6 : Int32) (c_c : (Nat → Int32)) : Option ((Int32 × (Nat → Int32)) ⊕ (Nat → Int32)) :=
if 256 ≤ x6 then
(gi (x2 + 1) c_cl <|
gi (x2 + 1) c_cl <|
nm (upd c_c (x2 + 1).toNatClampNeg ((c_c (x2 + 1).toNatClampNeg) - 1)) fun c11 =>
some (.inr c11))
else
(if x5 ≤ x4 then
(gi (x2 + 1) c_cl <|
gi (x2 + 1) c_cl <|
nm (upd c_c (x2 + 1).toNatClampNeg ((c_c (x2 + 1).toNatClampNeg) - 1)) fun c15 =>
some (.inr c15))
else
((f_Some_numberAt c_cl c_c x2 x6).bind fun r16 =>
if r16 = x5 then
((f_Some_setNumber c_cl c_c x2 x6 x4).bind fun r19 =>
gi (((x2 + 68) + x5) - 1) c_cl <|
gi (((x2 + 68) + x4) - 1) c_cl <|
nm (upd r19 (((x2 + 68) + x4) - 1).toNatClampNeg (r19 (((x2 + 68) + x5) - 1).toNatClampNeg)) fun c22 =>
gi (x2 + 1) c_cl <|
gi (x2 + 1) c_cl <|
nm (upd c22 (x2 + 1).toNatClampNeg ((c22 (x2 + 1).toNatClampNeg) - 1)) fun c25 =>
some (.inr c25))
else
(nm (x6 + 1) fun v18 =>
some (.inl (v18, c_c)))))
noncomputable def f_Some_drop (c_cl : Nat) (c_c : (Nat → Int32)) (p_2 : Int32) (p_3 : Int32) : Option (Nat → Int32) :=
(f_Some_numberAt c_cl c_c p_2 p_3).bind fun r1 =>
gi (p_2 + 1) c_cl <|
nm (c_c (p_2 + 1).toNatClampNeg) fun v3 =>
(f_Some_setNumber c_cl c_c p_2 p_3 0).bind fun r4 =>
lp (fun v => s_Some_drop_25 c_cl p_2 r1 v3 v.1 v.2) (0, r4)
set_option maxHeartbeats 8000000 in
set_option maxRecDepth 100000 in
theorem c_Some_drop (l : Launch) (G : zG) (sz : Nat) (a_f a_c : Nat) (c_fs : Int32) (c_fc : Int32) (c_fm : Int32) (c_cl : Nat) (c_c : (Nat → Int32)) (p_2 : Int32) (p_3 : Int32) (r0 : (Nat → Int32)) (hf : f_Some_drop c_cl c_c p_2 p_3 = some r0) :
    Met l y_Some_drop (Cond.code y_Some_drop prog_6_method_6_code 7 none :: lw_ok) { frames := 1, cells := 0, slots := 0, locals := 25 } (zPc G sz [.ref a_f, .ref a_c, .int p_2, .int p_3] (wSome G a_f c_fs c_fc c_fm ++ wI G a_c c_cl c_c))
      ((fun (A : Nat → Prop) => va_Qv (fun (_ : Unit) => True) (fun _ t => zB G A (wSome G a_f c_fs c_fc c_fm ++ wI G a_c c_cl r0) t) A) (va_A (wSome G a_f c_fs c_fc c_fm ++ wI G a_c c_cl c_c) sz)) 0 0 (va_A (wSome G a_f c_fs c_fc c_fm ++ wI G a_c c_cl c_c) sz) := by
  refine zMet (Qc := fun (A : Nat → Prop) => va_Qv (fun (_ : Unit) => True) (fun _ t => zB G A (wSome G a_f c_fs c_fc c_fm ++ wI G a_c c_cl r0) t) A) (by decide) (Nat.le_of_ble_eq_true rfl) (fun xp xe xs xm xb xme xc A ls Q H locs C hN hK hP hD hS hA hl hQ => ?_)
  obtain ⟨hx, hb, hr, hts, hown, hlocks, hml, hin⟩ := C
  have hl : lv_has ls 7 [(0, .ref a_f), (1, .ref a_c), (2, .int p_2), (3, .int p_3)] := hl
  have h := hf
  unfold f_Some_drop at h
  refine lv_aload_n hx hb d_Some_drop_0 rfl (lv_at hl 1 rfl) ?_
  refine lv_iload_n hx hb d_Some_drop_1 rfl (lv_at hl 2 rfl) ?_
  refine lv_iload_n hx hb d_Some_drop_2 rfl (lv_at hl 3 rfl) ?_
  obtain ⟨r1, hr1, h⟩ := ob h
  refine zpcalli (wr := [(a_f, .inr (2, [.int c_fs, .int c_fc, .int c_fm]))]) (w2 := fun _ => (wSome G a_f c_fs c_fc c_fm ++ wI G a_c c_cl c_c)) (zrunS (As := [.ref a_c, .int p_2, .int p_3]) (rest := []) ⟨hx, hb, hml, hown, hts⟩ hN hK (c_Some_numberAt l G H.size a_c c_cl c_c p_2 p_3 r1 hr1) ⟨rfl, rfl⟩ kv_Some_11 ⟨Nat.le_of_ble_eq_true rfl, Nat.le_of_ble_eq_true rfl⟩ rfl hl.1 (Nat.le_of_ble_eq_true rfl) d_Some_drop_3 ⟨Nat.le_of_ble_eq_true rfl, Nat.le_of_ble_eq_true rfl⟩) hP hD hS hA [1] [0] [0, 1] rfl rfl rfl rfl (by decide) rfl (fun _ => rfl) (fun rr _ H hw hP hD hS => ?_)
  have hw := hw.symm
  subst hw
  refine lv_istore (lv' := [(4, .int r1), (0, .ref a_f), (1, .ref a_c), (2, .int p_2), (3, .int p_3)]) hx hb d_Some_drop_6 hl (by decide) rfl (fun ls hl => ?_)
  refine lv_aload_n hx hb d_Some_drop_8 rfl (lv_at hl 2 rfl) ?_
  refine lv_iload_n hx hb d_Some_drop_9 rfl (lv_at hl 3 rfl) ?_
  refine lv_iconst (v := 1) hx hb d_Some_drop_10 (by decide) ?_
  refine lv_iadd hx hb d_Some_drop_11 ?_
  obtain ⟨h2, h⟩ := gi_k h
  refine va_iald hx hb hK hP 1 0 rfl rfl h2 d_Some_drop_12 ?_
  refine lv_topi (fun v3 ev3 => ?_)
  have h := nm_k h v3 ev3
  refine lv_istore (lv' := [(5, .int v3), (4, .int r1), (0, .ref a_f), (1, .ref a_c), (2, .int p_2), (3, .int p_3)]) hx hb d_Some_drop_13 hl (by decide) rfl (fun ls hl => ?_)
  refine lv_aload_n hx hb d_Some_drop_15 rfl (lv_at hl 3 rfl) ?_
  refine lv_iload_n hx hb d_Some_drop_16 rfl (lv_at hl 4 rfl) ?_
  refine lv_iload_n hx hb d_Some_drop_17 rfl (lv_at hl 5 rfl) ?_
  refine lv_iconst (v := 0) hx hb d_Some_drop_18 (by decide) ?_
  obtain ⟨r4, hr4, h⟩ := ob h
  refine zcallv (wr := [(a_f, .inr (2, [.int c_fs, .int c_fc, .int c_fm]))]) (w2 := fun _ => (wSome G a_f c_fs c_fc c_fm ++ wI G a_c c_cl r4)) (zrunS (As := [.ref a_c, .int p_2, .int p_3, .int 0]) (rest := []) ⟨hx, hb, hml, hown, hts⟩ hN hK (c_Some_setNumber l G H.size a_c c_cl c_c p_2 p_3 0 r4 hr4) ⟨rfl, rfl⟩ kv_Some_15 ⟨Nat.le_of_ble_eq_true rfl, Nat.le_of_ble_eq_true rfl⟩ rfl hl.1 (Nat.le_of_ble_eq_true rfl) d_Some_drop_19 ⟨Nat.le_of_ble_eq_true rfl, Nat.le_of_ble_eq_true rfl⟩) hP hD hS hA [1] [0] [0, 1] rfl rfl rfl rfl (by decide) rfl (fun _ => rfl) (fun _ H locs _ hP hD hS => ?_)
  refine lv_iconst (v := 0) hx hb d_Some_drop_22 (by decide) ?_
  refine lv_istore (lv' := [(6, .int 0), (5, .int v3), (4, .int r1), (0, .ref a_f), (1, .ref a_c), (2, .int p_2), (3, .int p_3)]) hx hb d_Some_drop_23 hl (by decide) rfl (fun ls hl => ?_)
  have L25 : ∀ v : (Int32 × (Nat → Int32)), lp (fun v => s_Some_drop_25 c_cl p_2 r1 v3 v.1 v.2) v = some r0 → ∀ (H : Heap) (locs : List Loc) (ls : Array Slot), va_P G.1 classes (wSome G a_f c_fs c_fc c_fm ++ wI G a_c c_cl v.2) H → va_D A (wSome G a_f c_fs c_fc c_fm ++ wI G a_c c_cl v.2) → va_S A xs.heap H locs → lv_has ls 7 [(1, .ref a_c), (2, .int p_2), (4, .int r1), (5, .int v3), (6, .int v.1)] → W xp l xe { frames := 1, cells := 0, slots := 0, locals := 25 } xs xm ([.ref a_f, .ref a_c, .int p_2, .int p_3] : List Value).toArray xb xme xc H locs 0 0 Q (F0 xm 25 ls []) := by
    refine lp_walk _ (fun v x h hc he => ?_)
    obtain ⟨x6_5, c6⟩ := v
    intro H locs ls hP hD hS hl
    have h : s_Some_drop_25 c_cl p_2 r1 v3 x6_5 c6 = some x := h
    unfold s_Some_drop_25 at h
    refine lv_iload hx hb d_Some_drop_25 (lv_at hl 4 rfl) ?_
    refine lv_sipush (v := 256) hx hb d_Some_drop_27 (by decide) ?_
    refine lv_icmp_ge (tgt := 92) hx hb d_Some_drop_30 (by decide) (fun q8 => ?_) (fun q8 => ?_)
    · have h := it h q8
      refine lv_aload_n hx hb d_Some_drop_92 rfl (lv_at hl 0 rfl) ?_
      refine lv_iload_n hx hb d_Some_drop_93 rfl (lv_at hl 1 rfl) ?_
      refine lv_iconst (v := 1) hx hb d_Some_drop_94 (by decide) ?_
      refine lv_iadd hx hb d_Some_drop_95 ?_
      refine lv_dup2_11 hx hb d_Some_drop_96 rfl rfl ?_
      obtain ⟨h9, h⟩ := gi_k h
      refine va_iald hx hb hK hP 1 0 rfl rfl h9 d_Some_drop_97 ?_
      refine lv_iconst (v := 1) hx hb d_Some_drop_98 (by decide) ?_
      refine lv_isub hx hb d_Some_drop_99 ?_
      obtain ⟨h10, h⟩ := gi_k h
      refine va_iast hx hb hK hP hD hS 1 0 rfl rfl h10 d_Some_drop_100 (fun H locs hP hD hS => ?_)
      obtain ⟨c11, ec11⟩ : ∃ y, y = upd c6 (p_2 + 1).toNatClampNeg ((c6 (p_2 + 1).toNatClampNeg) - 1) := ⟨_, rfl⟩
      have h := nm_k h c11 ec11
      have hP : va_P G.1 classes (wSome G a_f c_fs c_fc c_fm ++ wI G a_c c_cl c11) H := by rw [ec11]; exact hP
      have hD : va_D A (wSome G a_f c_fs c_fc c_fm ++ wI G a_c c_cl c11) := by rw [ec11]; exact hD
      obtain rfl := he _ (Option.some.inj h).symm
      exact zretv () hQ hS.2.2 hx hb hr hlocks hP hD hS trivial (Nat.le_refl _) (Nat.le_refl _) d_Some_drop_101
    · have h := ie h q8
      refine lv_iload hx hb d_Some_drop_33 (lv_at hl 2 rfl) ?_
      refine lv_iload hx hb d_Some_drop_35 (lv_at hl 3 rfl) ?_
      refine lv_icmp_ge (tgt := 92) hx hb d_Some_drop_37 (by decide) (fun q12 => ?_) (fun q12 => ?_)
      · have h := it h q12
        refine lv_aload_n hx hb d_Some_drop_92 rfl (lv_at hl 0 rfl) ?_
        refine lv_iload_n hx hb d_Some_drop_93 rfl (lv_at hl 1 rfl) ?_
        refine lv_iconst (v := 1) hx hb d_Some_drop_94 (by decide) ?_
        refine lv_iadd hx hb d_Some_drop_95 ?_
        refine lv_dup2_11 hx hb d_Some_drop_96 rfl rfl ?_
        obtain ⟨h13, h⟩ := gi_k h
        refine va_iald hx hb hK hP 1 0 rfl rfl h13 d_Some_drop_97 ?_
        refine lv_iconst (v := 1) hx hb d_Some_drop_98 (by decide) ?_
        refine lv_isub hx hb d_Some_drop_99 ?_
        obtain ⟨h14, h⟩ := gi_k h
        refine va_iast hx hb hK hP hD hS 1 0 rfl rfl h14 d_Some_drop_100 (fun H locs hP hD hS => ?_)
        obtain ⟨c15, ec15⟩ : ∃ y, y = upd c6 (p_2 + 1).toNatClampNeg ((c6 (p_2 + 1).toNatClampNeg) - 1) := ⟨_, rfl⟩
        have h := nm_k h c15 ec15
        have hP : va_P G.1 classes (wSome G a_f c_fs c_fc c_fm ++ wI G a_c c_cl c15) H := by rw [ec15]; exact hP
        have hD : va_D A (wSome G a_f c_fs c_fc c_fm ++ wI G a_c c_cl c15) := by rw [ec15]; exact hD
        obtain rfl := he _ (Option.some.inj h).symm
        exact zretv () hQ hS.2.2 hx hb hr hlocks hP hD hS trivial (Nat.le_refl _) (Nat.le_refl _) d_Some_drop_101
      · have h := ie h q12
        refine lv_aload_n hx hb d_Some_drop_40 rfl (lv_at hl 0 rfl) ?_
        refine lv_iload_n hx hb d_Some_drop_41 rfl (lv_at hl 1 rfl) ?_
        refine lv_iload hx hb d_Some_drop_42 (lv_at hl 4 rfl) ?_
        obtain ⟨r16, hr16, h⟩ := ob h
        refine zpcalli (wr := [(a_f, .inr (2, [.int c_fs, .int c_fc, .int c_fm]))]) (w2 := fun _ => (wSome G a_f c_fs c_fc c_fm ++ wI G a_c c_cl c6)) (zrunS (As := [.ref a_c, .int p_2, .int x6_5]) (rest := []) ⟨hx, hb, hml, hown, hts⟩ hN hK (c_Some_numberAt l G H.size a_c c_cl c6 p_2 x6_5 r16 hr16) ⟨rfl, rfl⟩ kv_Some_11 ⟨Nat.le_of_ble_eq_true rfl, Nat.le_of_ble_eq_true rfl⟩ rfl hl.1 (Nat.le_of_ble_eq_true rfl) d_Some_drop_44 ⟨Nat.le_of_ble_eq_true rfl, Nat.le_of_ble_eq_true rfl⟩) hP hD hS hA [1] [0] [0, 1] rfl rfl rfl rfl (by decide) rfl (fun _ => rfl) (fun rr _ H hw hP hD hS => ?_)
        have hw := hw.symm
        subst hw
        refine lv_iload hx hb d_Some_drop_47 (lv_at hl 3 rfl) ?_
        refine lv_icmp_ne (tgt := 86) hx hb d_Some_drop_49 (by decide) (fun q17 => ?_) (fun q17 => ?_)
        · have h := ie h q17
          obtain ⟨v18, ev18⟩ : ∃ y : Int32, y = x6_5 + 1 := ⟨_, rfl⟩
          have h := nm_k h v18 ev18
          refine lv_iinc (v := v18) (lv' := [(6, .int v18), (1, .ref a_c), (2, .int p_2), (4, .int r1), (5, .int v3)]) hx hb d_Some_drop_86 hl (k := 4) rfl (by rw [ev18]; rfl) (by decide) rfl (fun ls hl => ?_)
          refine lv_goto (tgt := 25) hx hb d_Some_drop_89 (by decide) ?_
          exact hc _ (Option.some.inj h).symm H locs ls hP hD hS (lv_sub hl [1, 2, 3, 4, 0] rfl)
        · have h := it h q17
          refine lv_aload_n hx hb d_Some_drop_52 rfl (lv_at hl 0 rfl) ?_
          refine lv_iload_n hx hb d_Some_drop_53 rfl (lv_at hl 1 rfl) ?_
          refine lv_iload hx hb d_Some_drop_54 (lv_at hl 4 rfl) ?_
          refine lv_iload hx hb d_Some_drop_56 (lv_at hl 2 rfl) ?_
          obtain ⟨r19, hr19, h⟩ := ob h
          refine zcallv (wr := [(a_f, .inr (2, [.int c_fs, .int c_fc, .int c_fm]))]) (w2 := fun _ => (wSome G a_f c_fs c_fc c_fm ++ wI G a_c c_cl r19)) (zrunS (As := [.ref a_c, .int p_2, .int x6_5, .int r1]) (rest := []) ⟨hx, hb, hml, hown, hts⟩ hN hK (c_Some_setNumber l G H.size a_c c_cl c6 p_2 x6_5 r1 r19 hr19) ⟨rfl, rfl⟩ kv_Some_15 ⟨Nat.le_of_ble_eq_true rfl, Nat.le_of_ble_eq_true rfl⟩ rfl hl.1 (Nat.le_of_ble_eq_true rfl) d_Some_drop_58 ⟨Nat.le_of_ble_eq_true rfl, Nat.le_of_ble_eq_true rfl⟩) hP hD hS hA [1] [0] [0, 1] rfl rfl rfl rfl (by decide) rfl (fun _ => rfl) (fun _ H locs _ hP hD hS => ?_)
          refine lv_aload_n hx hb d_Some_drop_61 rfl (lv_at hl 0 rfl) ?_
          refine lv_iload_n hx hb d_Some_drop_62 rfl (lv_at hl 1 rfl) ?_
          refine lv_bipush (v := 68) hx hb d_Some_drop_63 (by decide) ?_
          refine lv_iadd hx hb d_Some_drop_65 ?_
          refine lv_iload hx hb d_Some_drop_66 (lv_at hl 2 rfl) ?_
          refine lv_iadd hx hb d_Some_drop_68 ?_
          refine lv_iconst (v := 1) hx hb d_Some_drop_69 (by decide) ?_
          refine lv_isub hx hb d_Some_drop_70 ?_
          refine lv_aload_n hx hb d_Some_drop_71 rfl (lv_at hl 0 rfl) ?_
          refine lv_iload_n hx hb d_Some_drop_72 rfl (lv_at hl 1 rfl) ?_
          refine lv_bipush (v := 68) hx hb d_Some_drop_73 (by decide) ?_
          refine lv_iadd hx hb d_Some_drop_75 ?_
          refine lv_iload hx hb d_Some_drop_76 (lv_at hl 3 rfl) ?_
          refine lv_iadd hx hb d_Some_drop_78 ?_
          refine lv_iconst (v := 1) hx hb d_Some_drop_79 (by decide) ?_
          refine lv_isub hx hb d_Some_drop_80 ?_
          obtain ⟨h20, h⟩ := gi_k h
          refine va_iald hx hb hK hP 1 0 rfl rfl h20 d_Some_drop_81 ?_
          obtain ⟨h21, h⟩ := gi_k h
          refine va_iast hx hb hK hP hD hS 1 0 rfl rfl h21 d_Some_drop_82 (fun H locs hP hD hS => ?_)
          obtain ⟨c22, ec22⟩ : ∃ y, y = upd r19 (((p_2 + 68) + r1) - 1).toNatClampNeg (r19 (((p_2 + 68) + v3) - 1).toNatClampNeg) := ⟨_, rfl⟩
          have h := nm_k h c22 ec22
          have hP : va_P G.1 classes (wSome G a_f c_fs c_fc c_fm ++ wI G a_c c_cl c22) H := by rw [ec22]; exact hP
          have hD : va_D A (wSome G a_f c_fs c_fc c_fm ++ wI G a_c c_cl c22) := by rw [ec22]; exact hD
          refine lv_goto (tgt := 92) hx hb d_Some_drop_83 (by decide) ?_
          refine lv_aload_n hx hb d_Some_drop_92 rfl (lv_at hl 0 rfl) ?_
          refine lv_iload_n hx hb d_Some_drop_93 rfl (lv_at hl 1 rfl) ?_
          refine lv_iconst (v := 1) hx hb d_Some_drop_94 (by decide) ?_
          refine lv_iadd hx hb d_Some_drop_95 ?_
          refine lv_dup2_11 hx hb d_Some_drop_96 rfl rfl ?_
          obtain ⟨h23, h⟩ := gi_k h
          refine va_iald hx hb hK hP 1 0 rfl rfl h23 d_Some_drop_97 ?_
          refine lv_iconst (v := 1) hx hb d_Some_drop_98 (by decide) ?_
          refine lv_isub hx hb d_Some_drop_99 ?_
          obtain ⟨h24, h⟩ := gi_k h
          refine va_iast hx hb hK hP hD hS 1 0 rfl rfl h24 d_Some_drop_100 (fun H locs hP hD hS => ?_)
          obtain ⟨c25, ec25⟩ : ∃ y, y = upd c22 (p_2 + 1).toNatClampNeg ((c22 (p_2 + 1).toNatClampNeg) - 1) := ⟨_, rfl⟩
          have h := nm_k h c25 ec25
          have hP : va_P G.1 classes (wSome G a_f c_fs c_fc c_fm ++ wI G a_c c_cl c25) H := by rw [ec25]; exact hP
          have hD : va_D A (wSome G a_f c_fs c_fc c_fm ++ wI G a_c c_cl c25) := by rw [ec25]; exact hD
          obtain rfl := he _ (Option.some.inj h).symm
          exact zretv () hQ hS.2.2 hx hb hr hlocks hP hD hS trivial (Nat.le_refl _) (Nat.le_refl _) d_Some_drop_101
  exact L25 _ h _ _ ls hP hD hS (lv_sub hl [4, 5, 2, 1, 0] rfl)

noncomputable def s_Some_from_3 (c_cl : Nat) (c_c : (Nat → Int32)) (x2 : Int32) (x4 : Int32) : Option (Int32 ⊕ Int32) :=
if 256 ≤ x4 then
(some (.inr x4))
else
((f_Some_numberAt c_cl c_c x2 x4).bind fun r4 =>
if r4 = 0 then
(nm (x4 + 1) fun v6 =>
some (.inl v6))
else
(some (.inr x4)))
noncomputable def f_Some_from (c_cl : Nat) (c_c : (Nat → Int32)) (p_2 : Int32) (p_3 : Int32) : Option Int32 :=
(lp (fun v => s_Some_from_3 c_cl c_c p_2 v) p_3).bind fun y8 =>
if 256 ≤ y8 then
(some (-1))
else
(some y8)
set_option maxHeartbeats 8000000 in
set_option maxRecDepth 100000 in
theorem c_Some_from (l : Launch) (G : zG) (sz : Nat) (a_f a_c : Nat) (c_fs : Int32) (c_fc : Int32) (c_fm : Int32) (c_cl : Nat) (c_c : (Nat → Int32)) (p_2 : Int32) (p_3 : Int32) (r0 : Int32) (hf : f_Some_from c_cl c_c p_2 p_3 = some r0) :
    Met l y_Some_from (Cond.code y_Some_from prog_6_method_7_code 5 (some .int) :: lw_ok) { frames := 1, cells := 0, slots := 0, locals := 22 } (zPc G sz [.ref a_f, .ref a_c, .int p_2, .int p_3] (wSome G a_f c_fs c_fc c_fm ++ wI G a_c c_cl c_c))
      ((fun (A : Nat → Prop) => va_Qi (fun (r : Int32) (_ : Unit) => r = r0) (fun _ t => zB G A (wSome G a_f c_fs c_fc c_fm ++ wI G a_c c_cl c_c) t) A) (va_A (wSome G a_f c_fs c_fc c_fm ++ wI G a_c c_cl c_c) sz)) 0 0 (fun q => sz ≤ q) := by
  refine zMetR (Qc := fun (A : Nat → Prop) => va_Qi (fun (r : Int32) (_ : Unit) => r = r0) (fun _ t => zB G A (wSome G a_f c_fs c_fc c_fm ++ wI G a_c c_cl c_c) t) A) (by decide) (Nat.le_of_ble_eq_true rfl) (fun xp xe xs xm xb xme xc A ls Q H locs C hN hK hP hD hS hL hA hl hQ => ?_)
  obtain ⟨hx, hb, hr, hts, hown, hlocks, hml, hin⟩ := C
  have hl : lv_has ls 5 [(0, .ref a_f), (1, .ref a_c), (2, .int p_2), (3, .int p_3)] := hl
  have h := hf
  unfold f_Some_from at h
  refine lv_iload_n hx hb d_Some_from_0 rfl (lv_at hl 3 rfl) ?_
  refine lv_istore (lv' := [(4, .int p_3), (0, .ref a_f), (1, .ref a_c), (2, .int p_2), (3, .int p_3)]) hx hb d_Some_from_1 hl (by decide) rfl (fun ls hl => ?_)
  obtain ⟨y2, hy2, h⟩ := ob h
  have E3 : ∀ (z7 : Int32), z7 = y2 → ∀ (H : Heap) (locs : List Loc) (ls : Array Slot), va_P G.1 classes (wSome G a_f c_fs c_fc c_fm ++ wI G a_c c_cl c_c) H → va_D A (wSome G a_f c_fs c_fc c_fm ++ wI G a_c c_cl c_c) → va_S A xs.heap H locs → (∀ q ∈ locs, xs.heap.size ≤ q.base) → lv_has ls 5 [(4, .int z7)] → W xp l xe { frames := 1, cells := 0, slots := 0, locals := 22 } xs xm ([.ref a_f, .ref a_c, .int p_2, .int p_3] : List Value).toArray xb xme xc H locs 0 0 Q (F0 xm 27 ls []) := by
    intro z7 ey H locs ls hP hD hS hL hl
    subst ey
    try dsimp only at h
    refine lv_iload hx hb d_Some_from_27 (lv_at hl 0 rfl) ?_
    refine lv_sipush (v := 256) hx hb d_Some_from_29 (by decide) ?_
    refine lv_icmp_ge (tgt := 40) hx hb d_Some_from_32 (by decide) (fun q9 => ?_) (fun q9 => ?_)
    · have h := it h q9
      refine lv_iconst (v := (-1)) hx hb d_Some_from_40 (by decide) ?_
      obtain rfl := Option.some.inj h
      exact zreti () hQ hL hx hb hr hlocks hP hD hS rfl (Nat.le_refl _) (Nat.le_refl _) d_Some_from_41
    · have h := ie h q9
      refine lv_iload hx hb d_Some_from_35 (lv_at hl 0 rfl) ?_
      refine lv_goto (tgt := 41) hx hb d_Some_from_37 (by decide) ?_
      obtain rfl := Option.some.inj h
      exact zreti () hQ hL hx hb hr hlocks hP hD hS rfl (Nat.le_refl _) (Nat.le_refl _) d_Some_from_41
  have L3 : ∀ v : Int32, lp (fun v => s_Some_from_3 c_cl c_c p_2 v) v = some y2 → ∀ (H : Heap) (locs : List Loc) (ls : Array Slot), va_P G.1 classes (wSome G a_f c_fs c_fc c_fm ++ wI G a_c c_cl c_c) H → va_D A (wSome G a_f c_fs c_fc c_fm ++ wI G a_c c_cl c_c) → va_S A xs.heap H locs → (∀ q ∈ locs, xs.heap.size ≤ q.base) → lv_has ls 5 [(1, .ref a_c), (2, .int p_2), (4, .int v)] → W xp l xe { frames := 1, cells := 0, slots := 0, locals := 22 } xs xm ([.ref a_f, .ref a_c, .int p_2, .int p_3] : List Value).toArray xb xme xc H locs 0 0 Q (F0 xm 3 ls []) := by
    refine lp_walk _ (fun v x h hc he => ?_)
    obtain ⟨x4_1, rfl⟩ : ∃ z, z = v := ⟨_, rfl⟩
    intro H locs ls hP hD hS hL hl
    have h : s_Some_from_3 c_cl c_c p_2 x4_1 = some x := h
    unfold s_Some_from_3 at h
    refine lv_iload hx hb d_Some_from_3 (lv_at hl 2 rfl) ?_
    refine lv_sipush (v := 256) hx hb d_Some_from_5 (by decide) ?_
    refine lv_icmp_ge (tgt := 27) hx hb d_Some_from_8 (by decide) (fun q3 => ?_) (fun q3 => ?_)
    · have h := it h q3
      exact E3 x4_1 (he _ (Option.some.inj h).symm) H locs ls hP hD hS hL (lv_sub hl [2] rfl)
    · have h := ie h q3
      refine lv_aload_n hx hb d_Some_from_11 rfl (lv_at hl 0 rfl) ?_
      refine lv_iload_n hx hb d_Some_from_12 rfl (lv_at hl 1 rfl) ?_
      refine lv_iload hx hb d_Some_from_13 (lv_at hl 2 rfl) ?_
      obtain ⟨r4, hr4, h⟩ := ob h
      refine zpcalli (wr := [(a_f, .inr (2, [.int c_fs, .int c_fc, .int c_fm]))]) (w2 := fun _ => (wSome G a_f c_fs c_fc c_fm ++ wI G a_c c_cl c_c)) (zrunS (As := [.ref a_c, .int p_2, .int x4_1]) (rest := []) ⟨hx, hb, hml, hown, hts⟩ hN hK (c_Some_numberAt l G H.size a_c c_cl c_c p_2 x4_1 r4 hr4) ⟨rfl, rfl⟩ kv_Some_11 ⟨Nat.le_of_ble_eq_true rfl, Nat.le_of_ble_eq_true rfl⟩ rfl hl.1 (Nat.le_of_ble_eq_true rfl) d_Some_from_15 ⟨Nat.le_of_ble_eq_true rfl, Nat.le_of_ble_eq_true rfl⟩) hP hD hS hA [1] [0] [0, 1] rfl rfl rfl rfl (by decide) rfl (fun _ => rfl) (fun rr _ H hw hP hD hS => ?_)
      have hw := hw.symm
      subst hw
      refine lv_if_ne (tgt := 27) hx hb d_Some_from_18 (by decide) (fun q5 => ?_) (fun q5 => ?_)
      · have h := ie h q5
        exact E3 x4_1 (he _ (Option.some.inj h).symm) H locs ls hP hD hS hL (lv_sub hl [2] rfl)
      · have h := it h q5
        obtain ⟨v6, ev6⟩ : ∃ y : Int32, y = x4_1 + 1 := ⟨_, rfl⟩
        have h := nm_k h v6 ev6
        refine lv_iinc (v := v6) (lv' := [(4, .int v6), (1, .ref a_c), (2, .int p_2)]) hx hb d_Some_from_21 hl (k := 2) rfl (by rw [ev6]; rfl) (by decide) rfl (fun ls hl => ?_)
        refine lv_goto (tgt := 3) hx hb d_Some_from_24 (by decide) ?_
        exact hc _ (Option.some.inj h).symm H locs ls hP hD hS hL (lv_sub hl [1, 2, 0] rfl)
  exact L3 _ hy2 _ _ ls hP hD hS hL (lv_sub hl [2, 3, 0] rfl)
