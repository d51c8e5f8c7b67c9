noncomputable def f_Tree_release (c_c : (Nat → Int32)) (c_cl : Nat) (c_fr : (Nat → Int32)) (p_1 : Int32) (p_2 : Int32) : Option ((Nat → Int32) × (Nat → Int32)) :=
gi p_2 261 <|
gi p_1 c_cl <|
nm (upd c_c p_1.toNatClampNeg (c_fr p_2.toNatClampNeg)) fun c3 =>
gi p_2 261 <|
nm (upd c_fr p_2.toNatClampNeg p_1) fun c5 =>
some (c3, c5)
set_option maxHeartbeats 8000000 in
set_option maxRecDepth 100000 in
theorem c_Tree_release (l : Launch) (G : zG) (sz : Nat) (a_t a_c a_mv a_fr a_br a_e0 a_e1 a_e2 a_e3 a_lo a_ho : Nat) (c_c : (Nat → Int32)) (c_cl : Nat) (c_mv : (Nat → Int32)) (c_ml : Nat) (c_en : Int32) (c_rt : Int32) (c_fr : (Nat → Int32)) (c_br : (Nat → Int32)) (c_fi : Int64) (c_st : Int64) (c_vz : Int64) (p_1 : Int32) (p_2 : Int32) (r0 : ((Nat → Int32) × (Nat → Int32))) (hf : f_Tree_release c_c c_cl c_fr p_1 p_2 = some r0) :
    Met l y_Tree_release (Cond.code y_Tree_release prog_7_method_3_code 3 none :: lw_ok) { frames := 0, cells := 0, slots := 0, locals := 0 } (zPc G sz [.ref a_t, .int p_1, .int p_2] (wT G a_t a_c a_mv a_fr a_br a_e0 a_e1 a_e2 a_e3 a_lo a_ho c_c c_cl c_mv c_ml c_en c_rt c_fr c_br c_fi c_st c_vz))
      ((fun (A : Nat → Prop) => va_Qv (fun (_ : Unit) => True) (fun _ t => zB G A (wT G a_t a_c a_mv a_fr a_br a_e0 a_e1 a_e2 a_e3 a_lo a_ho r0.1 c_cl c_mv c_ml c_en c_rt r0.2 c_br c_fi c_st c_vz) t) A) (va_A (wT G a_t a_c a_mv a_fr a_br a_e0 a_e1 a_e2 a_e3 a_lo a_ho c_c c_cl c_mv c_ml c_en c_rt c_fr c_br c_fi c_st c_vz) sz)) 0 0 (va_A (wT G a_t a_c a_mv a_fr a_br a_e0 a_e1 a_e2 a_e3 a_lo a_ho c_c c_cl c_mv c_ml c_en c_rt c_fr c_br c_fi c_st c_vz) sz) := by
  refine zMet (Qc := fun (A : Nat → Prop) => va_Qv (fun (_ : Unit) => True) (fun _ t => zB G A (wT G a_t a_c a_mv a_fr a_br a_e0 a_e1 a_e2 a_e3 a_lo a_ho r0.1 c_cl c_mv c_ml c_en c_rt r0.2 c_br c_fi c_st c_vz) t) A) (by decide) (Nat.le_of_ble_eq_true rfl) (fun xp xe xs xm xb xme xc A ls Q H locs C hN hK hP hD hS hA hl hQ => ?_)
  obtain ⟨hx, hb, hr, hts, hown, hlocks, hml, hin⟩ := C
  have hl : lv_has ls 3 [(0, .ref a_t), (1, .int p_1), (2, .int p_2)] := hl
  have h := hf
  unfold f_Tree_release at h
  refine lv_aload_n hx hb d_Tree_release_0 rfl (lv_at hl 0 rfl) ?_
  refine va_get (D := G.1) (ci := 4) (v := .ref a_c) (C := "BranchStore$Tree") (T := F_Tree) (N := 15) hx hb hts i_Tree hown hK hP 0 rfl rfl 0 (by decide) (hts _ k_123) (fun _ h9 => h9) rfl d_Tree_release_1 ?_
  refine lv_iload_n hx hb d_Tree_release_4 rfl (lv_at hl 1 rfl) ?_
  refine lv_aload_n hx hb d_Tree_release_5 rfl (lv_at hl 0 rfl) ?_
  refine va_get (D := G.1) (ci := 4) (v := .ref a_fr) (C := "BranchStore$Tree") (T := F_Tree) (N := 15) hx hb hts i_Tree hown hK hP 0 rfl rfl 4 (by decide) (hts _ k_127) (fun _ h9 => h9) rfl d_Tree_release_6 ?_
  refine lv_iload_n hx hb d_Tree_release_9 rfl (lv_at hl 2 rfl) ?_
  obtain ⟨h1, h⟩ := gi_k h
  refine va_iald hx hb hK hP 3 0 rfl rfl h1 d_Tree_release_10 ?_
  obtain ⟨h2, h⟩ := gi_k h
  refine va_iast hx hb hK hP hD hS 1 0 rfl rfl h2 d_Tree_release_11 (fun H locs hP hD hS => ?_)
  obtain ⟨c3, ec3⟩ : ∃ y, y = upd c_c p_1.toNatClampNeg (c_fr p_2.toNatClampNeg) := ⟨_, rfl⟩
  have h := nm_k h c3 ec3
  have hP : va_P G.1 classes (wT G a_t a_c a_mv a_fr a_br a_e0 a_e1 a_e2 a_e3 a_lo a_ho c3 c_cl c_mv c_ml c_en c_rt c_fr c_br c_fi c_st c_vz) H := by rw [ec3]; exact hP
  have hD : va_D A (wT G a_t a_c a_mv a_fr a_br a_e0 a_e1 a_e2 a_e3 a_lo a_ho c3 c_cl c_mv c_ml c_en c_rt c_fr c_br c_fi c_st c_vz) := by rw [ec3]; exact hD
  refine lv_aload_n hx hb d_Tree_release_12 rfl (lv_at hl 0 rfl) ?_
  refine va_get (D := G.1) (ci := 4) (v := .ref a_fr) (C := "BranchStore$Tree") (T := F_Tree) (N := 15) hx hb hts i_Tree hown hK hP 0 rfl rfl 4 (by decide) (hts _ k_127) (fun _ h9 => h9) rfl d_Tree_release_13 ?_
  refine lv_iload_n hx hb d_Tree_release_16 rfl (lv_at hl 2 rfl) ?_
  refine lv_iload_n hx hb d_Tree_release_17 rfl (lv_at hl 1 rfl) ?_
  obtain ⟨h4, h⟩ := gi_k h
  refine va_iast hx hb hK hP hD hS 3 0 rfl rfl h4 d_Tree_release_18 (fun H locs hP hD hS => ?_)
  obtain ⟨c5, ec5⟩ : ∃ y, y = upd c_fr p_2.toNatClampNeg p_1 := ⟨_, rfl⟩
  have h := nm_k h c5 ec5
  have hP : va_P G.1 classes (wT G a_t a_c a_mv a_fr a_br a_e0 a_e1 a_e2 a_e3 a_lo a_ho c3 c_cl c_mv c_ml c_en c_rt c5 c_br c_fi c_st c_vz) H := by rw [ec5]; exact hP
  have hD : va_D A (wT G a_t a_c a_mv a_fr a_br a_e0 a_e1 a_e2 a_e3 a_lo a_ho c3 c_cl c_mv c_ml c_en c_rt c5 c_br c_fi c_st c_vz) := by rw [ec5]; exact hD
  obtain rfl := Option.some.inj h
  exact zretv () hQ hS.2.2 hx hb hr hlocks hP hD hS trivial (Nat.le_refl _) (Nat.le_refl _) d_Tree_release_19

noncomputable def s_Tree_clear_12 (x1 : Int32) (c_fr : (Nat → Int32)) : Option ((Int32 × (Nat → Int32)) ⊕ (Nat → Int32)) :=
if 260 < x1 then
(some (.inr c_fr))
else
(gi x1 261 <|
nm (upd c_fr x1.toNatClampNeg 0) fun c6 =>
nm (x1 + 1) fun v7 =>
some (.inl (v7, c6)))
noncomputable def s_Tree_clear_34 (x1 : Int32) (c_br : (Nat → Int32)) : Option ((Int32 × (Nat → Int32)) ⊕ (Nat → Int32)) :=
if 4 ≤ x1 then
(some (.inr c_br))
else
(gi x1 4 <|
nm (upd c_br x1.toNatClampNeg 0) fun c15 =>
nm (x1 + 1) fun v16 =>
some (.inl (v16, c15)))
noncomputable def f_Tree_clear (c_en : Int32) (c_rt : Int32) (c_fr : (Nat → Int32)) (c_br : (Nat → Int32))  : Option (Int32 × Int32 × (Nat → Int32) × (Nat → Int32)) :=
(lp (fun v => s_Tree_clear_12 v.1 v.2) (0, c_fr)).bind fun y9 =>
(lp (fun v => s_Tree_clear_34 v.1 v.2) (0, c_br)).bind fun y18 =>
some (1, 0, y9, y18)
set_option maxHeartbeats 8000000 in
set_option maxRecDepth 100000 in
theorem c_Tree_clear (l : Launch) (G : zG) (sz : Nat) (a_t a_c a_mv a_fr a_br a_e0 a_e1 a_e2 a_e3 a_lo a_ho : Nat) (c_c : (Nat → Int32)) (c_cl : Nat) (c_mv : (Nat → Int32)) (c_ml : Nat) (c_en : Int32) (c_rt : Int32) (c_fr : (Nat → Int32)) (c_br : (Nat → Int32)) (c_fi : Int64) (c_st : Int64) (c_vz : Int64) (r0 : (Int32 × Int32 × (Nat → Int32) × (Nat → Int32))) (hf : f_Tree_clear c_en c_rt c_fr c_br = some r0) :
    Met l y_Tree_clear (Cond.code y_Tree_clear prog_7_method_4_code 2 none :: lw_ok) { frames := 0, cells := 0, slots := 0, locals := 0 } (zPc G sz [.ref a_t] (wT G a_t a_c a_mv a_fr a_br a_e0 a_e1 a_e2 a_e3 a_lo a_ho c_c c_cl c_mv c_ml c_en c_rt c_fr c_br c_fi c_st c_vz))
      ((fun (A : Nat → Prop) => va_Qv (fun (_ : Unit) => True) (fun _ t => zB G A (wT G a_t a_c a_mv a_fr a_br a_e0 a_e1 a_e2 a_e3 a_lo a_ho c_c c_cl c_mv c_ml r0.1 r0.2.1 r0.2.2.1 r0.2.2.2 c_fi c_st c_vz) t) A) (va_A (wT G a_t a_c a_mv a_fr a_br a_e0 a_e1 a_e2 a_e3 a_lo a_ho c_c c_cl c_mv c_ml c_en c_rt c_fr c_br c_fi c_st c_vz) sz)) 0 0 (va_A (wT G a_t a_c a_mv a_fr a_br a_e0 a_e1 a_e2 a_e3 a_lo a_ho c_c c_cl c_mv c_ml c_en c_rt c_fr c_br c_fi c_st c_vz) sz) := by
  refine zMet (Qc := fun (A : Nat → Prop) => va_Qv (fun (_ : Unit) => True) (fun _ t => zB G A (wT G a_t a_c a_mv a_fr a_br a_e0 a_e1 a_e2 a_e3 a_lo a_ho c_c c_cl c_mv c_ml r0.1 r0.2.1 r0.2.2.1 r0.2.2.2 c_fi c_st c_vz) t) A) (by decide) (Nat.le_of_ble_eq_true rfl) (fun xp xe xs xm xb xme xc A ls Q H locs C hN hK hP hD hS hA hl hQ => ?_)
  obtain ⟨hx, hb, hr, hts, hown, hlocks, hml, hin⟩ := C
  have hl : lv_has ls 2 [(0, .ref a_t)] := hl
  have h := hf
  unfold f_Tree_clear at h
  refine lv_aload_n hx hb d_Tree_clear_0 rfl (lv_at hl 0 rfl) ?_
  refine lv_iconst (v := 0) hx hb d_Tree_clear_1 (by decide) ?_
  refine va_put (D := G.1) (ci := 4) (v := .int 0) (ty := .int) (C := "BranchStore$Tree") (T := F_Tree) (N := 15) hx hb hts i_Tree t_Tree t_Tree_ok n_Tree hown hK hP hD hS 0 rfl rfl 3 (by decide) (hts _ k_126) (fun _ h9 => h9) rfl (by decide +kernel) rfl rfl (Nat.le_of_ble_eq_true rfl) d_Tree_clear_2 (fun H locs hP hD hS => ?_)
  have hP : va_P G.1 classes (wT G a_t a_c a_mv a_fr a_br a_e0 a_e1 a_e2 a_e3 a_lo a_ho c_c c_cl c_mv c_ml c_en 0 c_fr c_br c_fi c_st c_vz) H := hP
  have hD : va_D A (wT G a_t a_c a_mv a_fr a_br a_e0 a_e1 a_e2 a_e3 a_lo a_ho c_c c_cl c_mv c_ml c_en 0 c_fr c_br c_fi c_st c_vz) := hD
  refine lv_aload_n hx hb d_Tree_clear_5 rfl (lv_at hl 0 rfl) ?_
  refine lv_iconst (v := 1) hx hb d_Tree_clear_6 (by decide) ?_
  refine va_put (D := G.1) (ci := 4) (v := .int 1) (ty := .int) (C := "BranchStore$Tree") (T := F_Tree) (N := 15) hx hb hts i_Tree t_Tree t_Tree_ok n_Tree hown hK hP hD hS 0 rfl rfl 2 (by decide) (hts _ k_125) (fun _ h9 => h9) rfl (by decide +kernel) rfl rfl (Nat.le_of_ble_eq_true rfl) d_Tree_clear_7 (fun H locs hP hD hS => ?_)
  have hP : va_P G.1 classes (wT G a_t a_c a_mv a_fr a_br a_e0 a_e1 a_e2 a_e3 a_lo a_ho c_c c_cl c_mv c_ml 1 0 c_fr c_br c_fi c_st c_vz) H := hP
  have hD : va_D A (wT G a_t a_c a_mv a_fr a_br a_e0 a_e1 a_e2 a_e3 a_lo a_ho c_c c_cl c_mv c_ml 1 0 c_fr c_br c_fi c_st c_vz) := hD
  refine lv_iconst (v := 0) hx hb d_Tree_clear_10 (by decide) ?_
  refine lv_istore_n (lv' := [(1, .int 0), (0, .ref a_t)]) hx hb d_Tree_clear_11 rfl hl (by decide) rfl (fun ls hl => ?_)
  obtain ⟨y3, hy3, h⟩ := ob h
  have E12 : ∀ (z8 : (Nat → Int32)), z8 = y3 → ∀ (H : Heap) (locs : List Loc) (ls : Array Slot), va_P G.1 classes (wT G a_t a_c a_mv a_fr a_br a_e0 a_e1 a_e2 a_e3 a_lo a_ho c_c c_cl c_mv c_ml 1 0 z8 c_br c_fi c_st c_vz) H → va_D A (wT G a_t a_c a_mv a_fr a_br a_e0 a_e1 a_e2 a_e3 a_lo a_ho c_c c_cl c_mv c_ml 1 0 z8 c_br c_fi c_st c_vz) → va_S A xs.heap H locs → lv_has ls 2 [(0, .ref a_t)] → W xp l xe { frames := 0, cells := 0, slots := 0, locals := 0 } xs xm ([.ref a_t] : List Value).toArray xb xme xc H locs 0 0 Q (F0 xm 32 ls []) := by
    intro z8 ey H locs ls hP hD hS hl
    subst ey
    try dsimp only at h
    refine lv_iconst (v := 0) hx hb d_Tree_clear_32 (by decide) ?_
    refine lv_istore_n (lv' := [(1, .int 0), (0, .ref a_t)]) hx hb d_Tree_clear_33 rfl hl (by decide) rfl (fun ls hl => ?_)
    obtain ⟨y12, hy12, h⟩ := ob h
    have E34 : ∀ (z17 : (Nat → Int32)), z17 = y12 → ∀ (H : Heap) (locs : List Loc) (ls : Array Slot), va_P G.1 classes (wT G a_t a_c a_mv a_fr a_br a_e0 a_e1 a_e2 a_e3 a_lo a_ho c_c c_cl c_mv c_ml 1 0 z8 z17 c_fi c_st c_vz) H → va_D A (wT G a_t a_c a_mv a_fr a_br a_e0 a_e1 a_e2 a_e3 a_lo a_ho c_c c_cl c_mv c_ml 1 0 z8 z17 c_fi c_st c_vz) → va_S A xs.heap H locs → lv_has ls 2 [] → W xp l xe { frames := 0, cells := 0, slots := 0, locals := 0 } xs xm ([.ref a_t] : List Value).toArray xb xme xc H locs 0 0 Q (F0 xm 52 ls []) := by
      intro z17 ey H locs ls hP hD hS hl
      subst ey
      try dsimp only at h
      obtain rfl := Option.some.inj h
      exact zretv () hQ hS.2.2 hx hb hr hlocks hP hD hS trivial (Nat.le_refl _) (Nat.le_refl _) d_Tree_clear_52
    have L34 : ∀ v : (Int32 × (Nat → Int32)), lp (fun v => s_Tree_clear_34 v.1 v.2) v = some y12 → ∀ (H : Heap) (locs : List Loc) (ls : Array Slot), va_P G.1 classes (wT G a_t a_c a_mv a_fr a_br a_e0 a_e1 a_e2 a_e3 a_lo a_ho c_c c_cl c_mv c_ml 1 0 z8 v.2 c_fi c_st c_vz) H → va_D A (wT G a_t a_c a_mv a_fr a_br a_e0 a_e1 a_e2 a_e3 a_lo a_ho c_c c_cl c_mv c_ml 1 0 z8 v.2 c_fi c_st c_vz) → va_S A xs.heap H locs → lv_has ls 2 [(0, .ref a_t), (1, .int v.1)] → W xp l xe { frames := 0, cells := 0, slots := 0, locals := 0 } xs xm ([.ref a_t] : List Value).toArray xb xme xc H locs 0 0 Q (F0 xm 34 ls []) := by
      refine lp_walk _ (fun v x h hc he => ?_)
      obtain ⟨x1_10, c11⟩ := v
      intro H locs ls hP hD hS hl
      have h : s_Tree_clear_34 x1_10 c11 = some x := h
      unfold s_Tree_clear_34 at h
      refine lv_iload_n hx hb d_Tree_clear_34 rfl (lv_at hl 1 rfl) ?_
      refine lv_iconst (v := 4) hx hb d_Tree_clear_35 (by decide) ?_
      refine lv_icmp_ge (tgt := 52) hx hb d_Tree_clear_36 (by decide) (fun q13 => ?_) (fun q13 => ?_)
      · have h := it h q13
        exact E34 c11 (he _ (Option.some.inj h).symm) H locs ls hP hD hS (lv_sub hl [] rfl)
      · have h := ie h q13
        refine lv_aload_n hx hb d_Tree_clear_39 rfl (lv_at hl 0 rfl) ?_
        refine va_get (D := G.1) (ci := 4) (v := .ref a_br) (C := "BranchStore$Tree") (T := F_Tree) (N := 15) hx hb hts i_Tree hown hK hP 0 rfl rfl 9 (by decide) (hts _ k_132) (fun _ h9 => h9) rfl d_Tree_clear_40 ?_
        refine lv_iload_n hx hb d_Tree_clear_43 rfl (lv_at hl 1 rfl) ?_
        refine lv_iconst (v := 0) hx hb d_Tree_clear_44 (by decide) ?_
        obtain ⟨h14, h⟩ := gi_k h
        refine va_iast hx hb hK hP hD hS 4 0 rfl rfl h14 d_Tree_clear_45 (fun H locs hP hD hS => ?_)
        obtain ⟨c15, ec15⟩ : ∃ y, y = upd c11 x1_10.toNatClampNeg 0 := ⟨_, rfl⟩
        have h := nm_k h c15 ec15
        have hP : va_P G.1 classes (wT G a_t a_c a_mv a_fr a_br a_e0 a_e1 a_e2 a_e3 a_lo a_ho c_c c_cl c_mv c_ml 1 0 z8 c15 c_fi c_st c_vz) H := by rw [ec15]; exact hP
        have hD : va_D A (wT G a_t a_c a_mv a_fr a_br a_e0 a_e1 a_e2 a_e3 a_lo a_ho c_c c_cl c_mv c_ml 1 0 z8 c15 c_fi c_st c_vz) := by rw [ec15]; exact hD
        obtain ⟨v16, ev16⟩ : ∃ y : Int32, y = x1_10 + 1 := ⟨_, rfl⟩
        have h := nm_k h v16 ev16
        refine lv_iinc (v := v16) (lv' := [(1, .int v16), (0, .ref a_t)]) hx hb d_Tree_clear_46 hl (k := 1) rfl (by rw [ev16]; rfl) (by decide) rfl (fun ls hl => ?_)
        refine lv_goto (tgt := 34) hx hb d_Tree_clear_49 (by decide) ?_
        exact hc _ (Option.some.inj h).symm H locs ls hP hD hS (lv_sub hl [1, 0] rfl)
    exact L34 _ hy12 _ _ ls hP hD hS (lv_sub hl [1, 0] rfl)
  have L12 : ∀ v : (Int32 × (Nat → Int32)), lp (fun v => s_Tree_clear_12 v.1 v.2) v = some y3 → ∀ (H : Heap) (locs : List Loc) (ls : Array Slot), va_P G.1 classes (wT G a_t a_c a_mv a_fr a_br a_e0 a_e1 a_e2 a_e3 a_lo a_ho c_c c_cl c_mv c_ml 1 0 v.2 c_br c_fi c_st c_vz) H → va_D A (wT G a_t a_c a_mv a_fr a_br a_e0 a_e1 a_e2 a_e3 a_lo a_ho c_c c_cl c_mv c_ml 1 0 v.2 c_br c_fi c_st c_vz) → va_S A xs.heap H locs → lv_has ls 2 [(0, .ref a_t), (1, .int v.1)] → W xp l xe { frames := 0, cells := 0, slots := 0, locals := 0 } xs xm ([.ref a_t] : List Value).toArray xb xme xc H locs 0 0 Q (F0 xm 12 ls []) := by
    refine lp_walk _ (fun v x h hc he => ?_)
    obtain ⟨x1_1, c2⟩ := v
    intro H locs ls hP hD hS hl
    have h : s_Tree_clear_12 x1_1 c2 = some x := h
    unfold s_Tree_clear_12 at h
    refine lv_iload_n hx hb d_Tree_clear_12 rfl (lv_at hl 1 rfl) ?_
    refine lv_sipush (v := 260) hx hb d_Tree_clear_13 (by decide) ?_
    refine lv_icmp_gt (tgt := 32) hx hb d_Tree_clear_16 (by decide) (fun q4 => ?_) (fun q4 => ?_)
    · have h := it h q4
      exact E12 c2 (he _ (Option.some.inj h).symm) H locs ls hP hD hS (lv_sub hl [0] rfl)
    · have h := ie h q4
      refine lv_aload_n hx hb d_Tree_clear_19 rfl (lv_at hl 0 rfl) ?_
      refine va_get (D := G.1) (ci := 4) (v := .ref a_fr) (C := "BranchStore$Tree") (T := F_Tree) (N := 15) hx hb hts i_Tree hown hK hP 0 rfl rfl 4 (by decide) (hts _ k_127) (fun _ h9 => h9) rfl d_Tree_clear_20 ?_
      refine lv_iload_n hx hb d_Tree_clear_23 rfl (lv_at hl 1 rfl) ?_
      refine lv_iconst (v := 0) hx hb d_Tree_clear_24 (by decide) ?_
      obtain ⟨h5, h⟩ := gi_k h
      refine va_iast hx hb hK hP hD hS 3 0 rfl rfl h5 d_Tree_clear_25 (fun H locs hP hD hS => ?_)
      obtain ⟨c6, ec6⟩ : ∃ y, y = upd c2 x1_1.toNatClampNeg 0 := ⟨_, rfl⟩
      have h := nm_k h c6 ec6
      have hP : va_P G.1 classes (wT G a_t a_c a_mv a_fr a_br a_e0 a_e1 a_e2 a_e3 a_lo a_ho c_c c_cl c_mv c_ml 1 0 c6 c_br c_fi c_st c_vz) H := by rw [ec6]; exact hP
      have hD : va_D A (wT G a_t a_c a_mv a_fr a_br a_e0 a_e1 a_e2 a_e3 a_lo a_ho c_c c_cl c_mv c_ml 1 0 c6 c_br c_fi c_st c_vz) := by rw [ec6]; exact hD
      obtain ⟨v7, ev7⟩ : ∃ y : Int32, y = x1_1 + 1 := ⟨_, rfl⟩
      have h := nm_k h v7 ev7
      refine lv_iinc (v := v7) (lv' := [(1, .int v7), (0, .ref a_t)]) hx hb d_Tree_clear_26 hl (k := 1) rfl (by rw [ev7]; rfl) (by decide) rfl (fun ls hl => ?_)
      refine lv_goto (tgt := 12) hx hb d_Tree_clear_29 (by decide) ?_
      exact hc _ (Option.some.inj h).symm H locs ls hP hD hS (lv_sub hl [1, 0] rfl)
  exact L12 _ hy3 _ _ ls hP hD hS (lv_sub hl [1, 0] rfl)

noncomputable def f_Tree_shape  (p_1 : Int32) : Option Nat :=
if p_1 = 0 then
(some 0)
else
(if p_1 = 1 then
(some 1)
else
(if p_1 = 2 then
(some 2)
else
(some 3)))
set_option maxHeartbeats 8000000 in
set_option maxRecDepth 100000 in
theorem c_Tree_shape (l : Launch) (G : zG) (sz : Nat) (a_t a_c a_mv a_fr a_br a_e0 a_e1 a_e2 a_e3 a_lo a_ho : Nat) (c_c : (Nat → Int32)) (c_cl : Nat) (c_mv : (Nat → Int32)) (c_ml : Nat) (c_en : Int32) (c_rt : Int32) (c_fr : (Nat → Int32)) (c_br : (Nat → Int32)) (c_fi : Int64) (c_st : Int64) (c_vz : Int64) (p_1 : Int32) (r0 : Nat) (hf : f_Tree_shape p_1 = some r0) :
    Met l y_Tree_shape (Cond.code y_Tree_shape prog_7_method_5_code 2 (some (FieldType.object "BranchStore$Shape")) :: lw_ok) { frames := 0, cells := 0, slots := 0, locals := 0 } (zPc G sz [.ref a_t, .int p_1] (wT G a_t a_c a_mv a_fr a_br a_e0 a_e1 a_e2 a_e3 a_lo a_ho c_c c_cl c_mv c_ml c_en c_rt c_fr c_br c_fi c_st c_vz))
      ((fun (A : Nat → Prop) => va_Qr (fun _ : Unit => True) (fun _ a t => a = zsh a_e0 a_e1 a_e2 a_e3 r0 ∧ zB G A (wT G a_t a_c a_mv a_fr a_br a_e0 a_e1 a_e2 a_e3 a_lo a_ho c_c c_cl c_mv c_ml c_en c_rt c_fr c_br c_fi c_st c_vz) t) A) (va_A (wT G a_t a_c a_mv a_fr a_br a_e0 a_e1 a_e2 a_e3 a_lo a_ho c_c c_cl c_mv c_ml c_en c_rt c_fr c_br c_fi c_st c_vz) sz)) 0 0 (fun q => sz ≤ q) := by
  refine zMetR (Qc := fun (A : Nat → Prop) => va_Qr (fun _ : Unit => True) (fun _ a t => a = zsh a_e0 a_e1 a_e2 a_e3 r0 ∧ zB G A (wT G a_t a_c a_mv a_fr a_br a_e0 a_e1 a_e2 a_e3 a_lo a_ho c_c c_cl c_mv c_ml c_en c_rt c_fr c_br c_fi c_st c_vz) t) A) (by decide) (Nat.le_of_ble_eq_true rfl) (fun xp xe xs xm xb xme xc A ls Q H locs C hN hK hP hD hS hL hA hl hQ => ?_)
  obtain ⟨hx, hb, hr, hts, hown, hlocks, hml, hin⟩ := C
  have hl : lv_has ls 2 [(0, .ref a_t), (1, .int p_1)] := hl
  have h := hf
  unfold f_Tree_shape at h
  refine lv_iload_n hx hb d_Tree_shape_0 rfl (lv_at hl 1 rfl) ?_
  by_cases q1 : p_1 = 0
  · have h := it h q1
    refine lv_tableIn (tgt := 28) hx hb d_Tree_shape_1 (by rw [q1]; decide) (by rw [q1]; decide) (by rw [q1]; rfl) (by decide) ?_
    refine lv_aload_n hx hb d_Tree_shape_28 rfl (lv_at hl 0 rfl) ?_
    refine va_get (D := G.1) (ci := 4) (v := .ref (zsh a_e0 a_e1 a_e2 a_e3 0)) (C := "BranchStore$Tree") (T := F_Tree) (N := 15) hx hb hts i_Tree hown hK hP 0 rfl rfl 5 (by decide) (hts _ k_128) (fun _ h9 => h9) rfl d_Tree_shape_29 ?_
    obtain rfl := Option.some.inj h
    exact zretr () hQ hL hx hb hr (Or.inl ⟨_, rfl⟩) hlocks hP hD hS rfl (Nat.le_refl _) (Nat.le_refl _) d_Tree_shape_32
  have h := ie h q1
  by_cases q2 : p_1 = 1
  · have h := it h q2
    refine lv_tableIn (tgt := 33) hx hb d_Tree_shape_1 (by rw [q2]; decide) (by rw [q2]; decide) (by rw [q2]; rfl) (by decide) ?_
    refine lv_aload_n hx hb d_Tree_shape_33 rfl (lv_at hl 0 rfl) ?_
    refine va_get (D := G.1) (ci := 4) (v := .ref (zsh a_e0 a_e1 a_e2 a_e3 1)) (C := "BranchStore$Tree") (T := F_Tree) (N := 15) hx hb hts i_Tree hown hK hP 0 rfl rfl 6 (by decide) (hts _ k_129) (fun _ h9 => h9) rfl d_Tree_shape_34 ?_
    obtain rfl := Option.some.inj h
    exact zretr () hQ hL hx hb hr (Or.inl ⟨_, rfl⟩) hlocks hP hD hS rfl (Nat.le_refl _) (Nat.le_refl _) d_Tree_shape_37
  have h := ie h q2
  by_cases q3 : p_1 = 2
  · have h := it h q3
    refine lv_tableIn (tgt := 38) hx hb d_Tree_shape_1 (by rw [q3]; decide) (by rw [q3]; decide) (by rw [q3]; rfl) (by decide) ?_
    refine lv_aload_n hx hb d_Tree_shape_38 rfl (lv_at hl 0 rfl) ?_
    refine va_get (D := G.1) (ci := 4) (v := .ref (zsh a_e0 a_e1 a_e2 a_e3 2)) (C := "BranchStore$Tree") (T := F_Tree) (N := 15) hx hb hts i_Tree hown hK hP 0 rfl rfl 7 (by decide) (hts _ k_130) (fun _ h9 => h9) rfl d_Tree_shape_39 ?_
    obtain rfl := Option.some.inj h
    exact zretr () hQ hL hx hb hr (Or.inl ⟨_, rfl⟩) hlocks hP hD hS rfl (Nat.le_refl _) (Nat.le_refl _) d_Tree_shape_42
  have h := ie h q3
  refine lv_tableOut (tgt := 43) hx hb d_Tree_shape_1 (zsw_out 0 2 (by decide) (by decide) (by decide) (fun j h1 h2 => by rcases (show j = 0 ∨ j = 1 ∨ j = 2 by omega) with rfl | rfl | rfl <;> assumption)) (by decide) ?_
  refine lv_aload_n hx hb d_Tree_shape_43 rfl (lv_at hl 0 rfl) ?_
  refine va_get (D := G.1) (ci := 4) (v := .ref (zsh a_e0 a_e1 a_e2 a_e3 3)) (C := "BranchStore$Tree") (T := F_Tree) (N := 15) hx hb hts i_Tree hown hK hP 0 rfl rfl 8 (by decide) (hts _ k_131) (fun _ h9 => h9) rfl d_Tree_shape_44 ?_
  obtain rfl := Option.some.inj h
  exact zretr () hQ hL hx hb hr (Or.inl ⟨_, rfl⟩) hlocks hP hD hS rfl (Nat.le_refl _) (Nat.le_refl _) d_Tree_shape_47

theorem kv_Tree_73 : zKV "BranchStore$Tree" 73 y_Tree_shape prog_7_method_5_code 2 (some (.object "BranchStore$Shape")) 1 := ⟨k_227, k_229, kp_4, k_2, k_230, by decide +kernel⟩
noncomputable def f_Tree_shapeOf (c_c : (Nat → Int32)) (c_cl : Nat) (p_1 : Int32) : Option Nat :=
gi p_1 c_cl <|
(f_Tree_shape (c_c p_1.toNatClampNeg)).bind fun r2 =>
some r2
set_option maxHeartbeats 8000000 in
set_option maxRecDepth 100000 in
theorem c_Tree_shapeOf (l : Launch) (G : zG) (sz : Nat) (a_t a_c a_mv a_fr a_br a_e0 a_e1 a_e2 a_e3 a_lo a_ho : Nat) (c_c : (Nat → Int32)) (c_cl : Nat) (c_mv : (Nat → Int32)) (c_ml : Nat) (c_en : Int32) (c_rt : Int32) (c_fr : (Nat → Int32)) (c_br : (Nat → Int32)) (c_fi : Int64) (c_st : Int64) (c_vz : Int64) (p_1 : Int32) (r0 : Nat) (hf : f_Tree_shapeOf c_c c_cl p_1 = some r0) :
    Met l y_Tree_shapeOf (Cond.code y_Tree_shapeOf prog_7_method_6_code 2 (some (FieldType.object "BranchStore$Shape")) :: lw_ok) { frames := 1, cells := 0, slots := 0, locals := 21 } (zPc G sz [.ref a_t, .int p_1] (wT G a_t a_c a_mv a_fr a_br a_e0 a_e1 a_e2 a_e3 a_lo a_ho c_c c_cl c_mv c_ml c_en c_rt c_fr c_br c_fi c_st c_vz))
      ((fun (A : Nat → Prop) => va_Qr (fun _ : Unit => True) (fun _ a t => a = zsh a_e0 a_e1 a_e2 a_e3 r0 ∧ zB G A (wT G a_t a_c a_mv a_fr a_br a_e0 a_e1 a_e2 a_e3 a_lo a_ho c_c c_cl c_mv c_ml c_en c_rt c_fr c_br c_fi c_st c_vz) t) A) (va_A (wT G a_t a_c a_mv a_fr a_br a_e0 a_e1 a_e2 a_e3 a_lo a_ho c_c c_cl c_mv c_ml c_en c_rt c_fr c_br c_fi c_st c_vz) sz)) 0 0 (fun q => sz ≤ q) := by
  refine zMetR (Qc := fun (A : Nat → Prop) => va_Qr (fun _ : Unit => True) (fun _ a t => a = zsh a_e0 a_e1 a_e2 a_e3 r0 ∧ zB G A (wT G a_t a_c a_mv a_fr a_br a_e0 a_e1 a_e2 a_e3 a_lo a_ho c_c c_cl c_mv c_ml c_en c_rt c_fr c_br c_fi c_st c_vz) t) A) (by decide) (Nat.le_of_ble_eq_true rfl) (fun xp xe xs xm xb xme xc A ls Q H locs C hN hK hP hD hS hL hA hl hQ => ?_)
  obtain ⟨hx, hb, hr, hts, hown, hlocks, hml, hin⟩ := C
  have hl : lv_has ls 2 [(0, .ref a_t), (1, .int p_1)] := hl
  have h := hf
  unfold f_Tree_shapeOf at h
  refine lv_aload_n hx hb d_Tree_shapeOf_0 rfl (lv_at hl 0 rfl) ?_
  refine lv_aload_n hx hb d_Tree_shapeOf_1 rfl (lv_at hl 0 rfl) ?_
  refine va_get (D := G.1) (ci := 4) (v := .ref a_c) (C := "BranchStore$Tree") (T := F_Tree) (N := 15) hx hb hts i_Tree hown hK hP 0 rfl rfl 0 (by decide) (hts _ k_123) (fun _ h9 => h9) rfl d_Tree_shapeOf_2 ?_
  refine lv_iload_n hx hb d_Tree_shapeOf_5 rfl (lv_at hl 1 rfl) ?_
  obtain ⟨h1, h⟩ := gi_k h
  refine va_iald hx hb hK hP 1 0 rfl rfl h1 d_Tree_shapeOf_6 ?_
  obtain ⟨r2, hr2, h⟩ := ob h
  refine zpcallr (wr := []) (w2 := fun _ => (wT G a_t a_c a_mv a_fr a_br a_e0 a_e1 a_e2 a_e3 a_lo a_ho c_c c_cl c_mv c_ml c_en c_rt c_fr c_br c_fi c_st c_vz)) (zrunV (As := [.int (c_c p_1.toNatClampNeg)]) (rest := []) ⟨hx, hb, hml, hown, hts⟩ hN hK (c_Tree_shape l G H.size a_t a_c a_mv a_fr a_br a_e0 a_e1 a_e2 a_e3 a_lo a_ho c_c c_cl c_mv c_ml c_en c_rt c_fr c_br c_fi c_st c_vz (c_c p_1.toNatClampNeg) r2 hr2) ⟨rfl, rfl⟩ kv_Tree_73 ⟨Nat.le_of_ble_eq_true rfl, Nat.le_of_ble_eq_true rfl⟩ 0 rfl rfl rfl hl.1 (Nat.le_of_ble_eq_true rfl) d_Tree_shapeOf_7 ⟨Nat.le_of_ble_eq_true rfl, Nat.le_of_ble_eq_true rfl⟩) hP hD hS hA [0, 1, 2, 3, 4, 5, 6, 7, 8] [] [0, 1, 2, 3, 4, 5, 6, 7, 8] rfl rfl rfl rfl (by decide) rfl (fun _ => rfl) (fun _ ra H hw hP hD hS => ?_)
  subst hw
  obtain rfl := Option.some.inj h
  exact zretr () hQ hL hx hb hr (Or.inl ⟨_, rfl⟩) hlocks hP hD hS rfl (Nat.le_refl _) (Nat.le_refl _) d_Tree_shapeOf_10

noncomputable def f_Tree_leafCells  (p_0 : Int32) : Option Int32 :=
some (4 + ((p_0 + 3) / 4))
set_option maxHeartbeats 8000000 in
set_option maxRecDepth 100000 in
theorem c_Tree_leafCells (l : Launch) (G : zG) (sz : Nat) (p_0 : Int32) (r0 : Int32) (hf : f_Tree_leafCells p_0 = some r0) :
    Met l y_Tree_leafCells (Cond.code y_Tree_leafCells prog_7_method_8_code 1 (some .int) :: lw_ok) { frames := 0, cells := 0, slots := 0, locals := 0 } (zPc G sz [.int p_0] ([] : va_W))
      ((fun (A : Nat → Prop) => va_Qi (fun (r : Int32) (_ : Unit) => r = r0) (fun _ t => zB G A ([] : va_W) t) A) (va_A ([] : va_W) sz)) 0 0 (fun q => sz ≤ q) := by
  refine zMetR (Qc := fun (A : Nat → Prop) => va_Qi (fun (r : Int32) (_ : Unit) => r = r0) (fun _ t => zB G A ([] : va_W) t) A) (by decide) (Nat.le_of_ble_eq_true rfl) (fun xp xe xs xm xb xme xc A ls Q H locs C hN hK hP hD hS hL hA hl hQ => ?_)
  obtain ⟨hx, hb, hr, hts, hown, hlocks, hml, hin⟩ := C
  have hl : lv_has ls 1 [(0, .int p_0)] := hl
  have h := hf
  unfold f_Tree_leafCells at h
  refine lv_iconst (v := 4) hx hb d_Tree_leafCells_0 (by decide) ?_
  refine lv_iload_n hx hb d_Tree_leafCells_1 rfl (lv_at hl 0 rfl) ?_
  refine lv_iconst (v := 3) hx hb d_Tree_leafCells_2 (by decide) ?_
  refine lv_iadd hx hb d_Tree_leafCells_3 ?_
  refine lv_iconst (v := 4) hx hb d_Tree_leafCells_4 (by decide) ?_
  refine lv_idiv hx hb d_Tree_leafCells_5 (by decide) ?_
  refine lv_iadd hx hb d_Tree_leafCells_6 ?_
  obtain rfl := Option.some.inj h
  exact zreti () hQ hL hx hb hr hlocks hP hD hS rfl (Nat.le_refl _) (Nat.le_refl _) d_Tree_leafCells_7

noncomputable def f_Tree_setValue (c_c : (Nat → Int32)) (c_cl : Nat) (p_1 : Int32) (p_2 : Int64) : Option (Nat → Int32) :=
gi (1 - p_1) c_cl <|
nm (upd c_c (1 - p_1).toNatClampNeg ((zlshr p_2 32).toInt32)) fun c2 =>
gi (2 - p_1) c_cl <|
nm (upd c2 (2 - p_1).toNatClampNeg p_2.toInt32) fun c4 =>
some c4
set_option maxHeartbeats 8000000 in
set_option maxRecDepth 100000 in
theorem c_Tree_setValue (l : Launch) (G : zG) (sz : Nat) (a_t a_c a_mv a_fr a_br a_e0 a_e1 a_e2 a_e3 a_lo a_ho : Nat) (c_c : (Nat → Int32)) (c_cl : Nat) (c_mv : (Nat → Int32)) (c_ml : Nat) (c_en : Int32) (c_rt : Int32) (c_fr : (Nat → Int32)) (c_br : (Nat → Int32)) (c_fi : Int64) (c_st : Int64) (c_vz : Int64) (p_1 : Int32) (p_2 : Int64) (r0 : (Nat → Int32)) (hf : f_Tree_setValue c_c c_cl p_1 p_2 = some r0) :
    Met l y_Tree_setValue (Cond.code y_Tree_setValue prog_7_method_10_code 4 none :: lw_ok) { frames := 0, cells := 0, slots := 0, locals := 0 } (zPc G sz [.ref a_t, .int p_1, .long p_2] (wT G a_t a_c a_mv a_fr a_br a_e0 a_e1 a_e2 a_e3 a_lo a_ho c_c c_cl c_mv c_ml c_en c_rt c_fr c_br c_fi c_st c_vz))
      ((fun (A : Nat → Prop) => va_Qv (fun (_ : Unit) => True) (fun _ t => zB G A (wT G a_t a_c a_mv a_fr a_br a_e0 a_e1 a_e2 a_e3 a_lo a_ho r0 c_cl c_mv c_ml c_en c_rt c_fr c_br c_fi c_st c_vz) t) A) (va_A (wT G a_t a_c a_mv a_fr a_br a_e0 a_e1 a_e2 a_e3 a_lo a_ho c_c c_cl c_mv c_ml c_en c_rt c_fr c_br c_fi c_st c_vz) sz)) 0 0 (va_A (wT G a_t a_c a_mv a_fr a_br a_e0 a_e1 a_e2 a_e3 a_lo a_ho c_c c_cl c_mv c_ml c_en c_rt c_fr c_br c_fi c_st c_vz) sz) := by
  refine zMet (Qc := fun (A : Nat → Prop) => va_Qv (fun (_ : Unit) => True) (fun _ t => zB G A (wT G a_t a_c a_mv a_fr a_br a_e0 a_e1 a_e2 a_e3 a_lo a_ho r0 c_cl c_mv c_ml c_en c_rt c_fr c_br c_fi c_st c_vz) t) A) (by decide) (Nat.le_of_ble_eq_true rfl) (fun xp xe xs xm xb xme xc A ls Q H locs C hN hK hP hD hS hA hl hQ => ?_)
  obtain ⟨hx, hb, hr, hts, hown, hlocks, hml, hin⟩ := C
  have hl : lv_has ls 4 [(0, .ref a_t), (1, .int p_1), (2, .long p_2)] := hl
  have h := hf
  unfold f_Tree_setValue at h
  refine lv_aload_n hx hb d_Tree_setValue_0 rfl (lv_at hl 0 rfl) ?_
  refine va_get (D := G.1) (ci := 4) (v := .ref a_c) (C := "BranchStore$Tree") (T := F_Tree) (N := 15) hx hb hts i_Tree hown hK hP 0 rfl rfl 0 (by decide) (hts _ k_123) (fun _ h9 => h9) rfl d_Tree_setValue_1 ?_
  refine lv_iconst (v := 1) hx hb d_Tree_setValue_4 (by decide) ?_
  refine lv_iload_n hx hb d_Tree_setValue_5 rfl (lv_at hl 1 rfl) ?_
  refine lv_isub hx hb d_Tree_setValue_6 ?_
  refine lv_lload_n hx hb d_Tree_setValue_7 rfl (lv_at hl 2 rfl) ?_
  refine lv_bipush (v := 32) hx hb d_Tree_setValue_8 (by decide) ?_
  refine lv_lshr (v := zlshr p_2 32) hx hb d_Tree_setValue_10 rfl ?_
  refine lv_l2i (v := (zlshr p_2 32).toInt32) hx hb d_Tree_setValue_11 rfl ?_
  obtain ⟨h1, h⟩ := gi_k h
  refine va_iast hx hb hK hP hD hS 1 0 rfl rfl h1 d_Tree_setValue_12 (fun H locs hP hD hS => ?_)
  obtain ⟨c2, ec2⟩ : ∃ y, y = upd c_c (1 - p_1).toNatClampNeg ((zlshr p_2 32).toInt32) := ⟨_, rfl⟩
  have h := nm_k h c2 ec2
  have hP : va_P G.1 classes (wT G a_t a_c a_mv a_fr a_br a_e0 a_e1 a_e2 a_e3 a_lo a_ho c2 c_cl c_mv c_ml c_en c_rt c_fr c_br c_fi c_st c_vz) H := by rw [ec2]; exact hP
  have hD : va_D A (wT G a_t a_c a_mv a_fr a_br a_e0 a_e1 a_e2 a_e3 a_lo a_ho c2 c_cl c_mv c_ml c_en c_rt c_fr c_br c_fi c_st c_vz) := by rw [ec2]; exact hD
  refine lv_aload_n hx hb d_Tree_setValue_13 rfl (lv_at hl 0 rfl) ?_
  refine va_get (D := G.1) (ci := 4) (v := .ref a_c) (C := "BranchStore$Tree") (T := F_Tree) (N := 15) hx hb hts i_Tree hown hK hP 0 rfl rfl 0 (by decide) (hts _ k_123) (fun _ h9 => h9) rfl d_Tree_setValue_14 ?_
  refine lv_iconst (v := 2) hx hb d_Tree_setValue_17 (by decide) ?_
  refine lv_iload_n hx hb d_Tree_setValue_18 rfl (lv_at hl 1 rfl) ?_
  refine lv_isub hx hb d_Tree_setValue_19 ?_
  refine lv_lload_n hx hb d_Tree_setValue_20 rfl (lv_at hl 2 rfl) ?_
  refine lv_l2i (v := p_2.toInt32) hx hb d_Tree_setValue_21 rfl ?_
  obtain ⟨h3, h⟩ := gi_k h
  refine va_iast hx hb hK hP hD hS 1 0 rfl rfl h3 d_Tree_setValue_22 (fun H locs hP hD hS => ?_)
  obtain ⟨c4, ec4⟩ : ∃ y, y = upd c2 (2 - p_1).toNatClampNeg p_2.toInt32 := ⟨_, rfl⟩
  have h := nm_k h c4 ec4
  have hP : va_P G.1 classes (wT G a_t a_c a_mv a_fr a_br a_e0 a_e1 a_e2 a_e3 a_lo a_ho c4 c_cl c_mv c_ml c_en c_rt c_fr c_br c_fi c_st c_vz) H := by rw [ec4]; exact hP
  have hD : va_D A (wT G a_t a_c a_mv a_fr a_br a_e0 a_e1 a_e2 a_e3 a_lo a_ho c4 c_cl c_mv c_ml c_en c_rt c_fr c_br c_fi c_st c_vz) := by rw [ec4]; exact hD
  obtain rfl := Option.some.inj h
  exact zretv () hQ hS.2.2 hx hb hr hlocks hP hD hS trivial (Nat.le_refl _) (Nat.le_refl _) d_Tree_setValue_23

noncomputable def f_Tree_value (c_c : (Nat → Int32)) (c_cl : Nat) (p_1 : Int32) : Option Int64 :=
gi (1 - p_1) c_cl <|
gi (2 - p_1) c_cl <|
some ((zlshl ((c_c (1 - p_1).toNatClampNeg).toInt64) 32) ||| (((c_c (2 - p_1).toNatClampNeg).toInt64) &&& 4294967295))
set_option maxHeartbeats 8000000 in
set_option maxRecDepth 100000 in
theorem c_Tree_value (l : Launch) (G : zG) (sz : Nat) (a_t a_c a_mv a_fr a_br a_e0 a_e1 a_e2 a_e3 a_lo a_ho : Nat) (c_c : (Nat → Int32)) (c_cl : Nat) (c_mv : (Nat → Int32)) (c_ml : Nat) (c_en : Int32) (c_rt : Int32) (c_fr : (Nat → Int32)) (c_br : (Nat → Int32)) (c_fi : Int64) (c_st : Int64) (c_vz : Int64) (p_1 : Int32) (r0 : Int64) (hf : f_Tree_value c_c c_cl p_1 = some r0) :
    Met l y_Tree_value (Cond.code y_Tree_value prog_7_method_11_code 2 (some .long) :: lw_ok) { frames := 0, cells := 0, slots := 0, locals := 0 } (zPc G sz [.ref a_t, .int p_1] (wT G a_t a_c a_mv a_fr a_br a_e0 a_e1 a_e2 a_e3 a_lo a_ho c_c c_cl c_mv c_ml c_en c_rt c_fr c_br c_fi c_st c_vz))
      ((fun (A : Nat → Prop) => va_Ql (fun (r : Int64) (_ : Unit) => r = r0) (fun _ t => zB G A (wT G a_t a_c a_mv a_fr a_br a_e0 a_e1 a_e2 a_e3 a_lo a_ho c_c c_cl c_mv c_ml c_en c_rt c_fr c_br c_fi c_st c_vz) t) A) (va_A (wT G a_t a_c a_mv a_fr a_br a_e0 a_e1 a_e2 a_e3 a_lo a_ho c_c c_cl c_mv c_ml c_en c_rt c_fr c_br c_fi c_st c_vz) sz)) 0 0 (fun q => sz ≤ q) := by
  refine zMetR (Qc := fun (A : Nat → Prop) => va_Ql (fun (r : Int64) (_ : Unit) => r = r0) (fun _ t => zB G A (wT G a_t a_c a_mv a_fr a_br a_e0 a_e1 a_e2 a_e3 a_lo a_ho c_c c_cl c_mv c_ml c_en c_rt c_fr c_br c_fi c_st c_vz) t) A) (by decide) (Nat.le_of_ble_eq_true rfl) (fun xp xe xs xm xb xme xc A ls Q H locs C hN hK hP hD hS hL hA hl hQ => ?_)
  obtain ⟨hx, hb, hr, hts, hown, hlocks, hml, hin⟩ := C
  have hl : lv_has ls 2 [(0, .ref a_t), (1, .int p_1)] := hl
  have h := hf
  unfold f_Tree_value at h
  refine lv_aload_n hx hb d_Tree_value_0 rfl (lv_at hl 0 rfl) ?_
  refine va_get (D := G.1) (ci := 4) (v := .ref a_c) (C := "BranchStore$Tree") (T := F_Tree) (N := 15) hx hb hts i_Tree hown hK hP 0 rfl rfl 0 (by decide) (hts _ k_123) (fun _ h9 => h9) rfl d_Tree_value_1 ?_
  refine lv_iconst (v := 1) hx hb d_Tree_value_4 (by decide) ?_
  refine lv_iload_n hx hb d_Tree_value_5 rfl (lv_at hl 1 rfl) ?_
  refine lv_isub hx hb d_Tree_value_6 ?_
  obtain ⟨h1, h⟩ := gi_k h
  refine va_iald hx hb hK hP 1 0 rfl rfl h1 d_Tree_value_7 ?_
  refine lv_i2l (v := (c_c (1 - p_1).toNatClampNeg).toInt64) hx hb d_Tree_value_8 rfl ?_
  refine lv_bipush (v := 32) hx hb d_Tree_value_9 (by decide) ?_
  refine lv_lshl (v := zlshl ((c_c (1 - p_1).toNatClampNeg).toInt64) 32) hx hb d_Tree_value_11 rfl ?_
  refine lv_aload_n hx hb d_Tree_value_12 rfl (lv_at hl 0 rfl) ?_
  refine va_get (D := G.1) (ci := 4) (v := .ref a_c) (C := "BranchStore$Tree") (T := F_Tree) (N := 15) hx hb hts i_Tree hown hK hP 0 rfl rfl 0 (by decide) (hts _ k_123) (fun _ h9 => h9) rfl d_Tree_value_13 ?_
  refine lv_iconst (v := 2) hx hb d_Tree_value_16 (by decide) ?_
  refine lv_iload_n hx hb d_Tree_value_17 rfl (lv_at hl 1 rfl) ?_
  refine lv_isub hx hb d_Tree_value_18 ?_
  obtain ⟨h2, h⟩ := gi_k h
  refine va_iald hx hb hK hP 1 0 rfl rfl h2 d_Tree_value_19 ?_
  refine lv_i2l (v := (c_c (2 - p_1).toNatClampNeg).toInt64) hx hb d_Tree_value_20 rfl ?_
  refine lv_ldc2 (v := 4294967295) hx hb hown (hts _ k_608) d_Tree_value_21 ?_
  refine lv_land hx hb d_Tree_value_24 ?_
  refine lv_lor hx hb d_Tree_value_25 ?_
  obtain rfl := Option.some.inj h
  exact zretl () hQ hL hx hb hr hlocks hP hD hS rfl (Nat.le_refl _) (Nat.le_refl _) d_Tree_value_26

noncomputable def f_Tree_byteOf (c_c : (Nat → Int32)) (c_cl : Nat) (p_1 : Int32) (p_2 : Int32) : Option Int32 :=
gi ((4 - p_1) + (p_2 / 4)) c_cl <|
some ((ziushr (c_c ((4 - p_1) + (p_2 / 4)).toNatClampNeg) (24 - (8 * (p_2 - p_2 / 4 * 4)))) &&& 255)
set_option maxHeartbeats 8000000 in
set_option maxRecDepth 100000 in
theorem c_Tree_byteOf (l : Launch) (G : zG) (sz : Nat) (a_t a_c a_mv a_fr a_br a_e0 a_e1 a_e2 a_e3 a_lo a_ho : Nat) (c_c : (Nat → Int32)) (c_cl : Nat) (c_mv : (Nat → Int32)) (c_ml : Nat) (c_en : Int32) (c_rt : Int32) (c_fr : (Nat → Int32)) (c_br : (Nat → Int32)) (c_fi : Int64) (c_st : Int64) (c_vz : Int64) (p_1 : Int32) (p_2 : Int32) (r0 : Int32) (hf : f_Tree_byteOf c_c c_cl p_1 p_2 = some r0) :
    Met l y_Tree_byteOf (Cond.code y_Tree_byteOf prog_7_method_12_code 3 (some .int) :: lw_ok) { frames := 0, cells := 0, slots := 0, locals := 0 } (zPc G sz [.ref a_t, .int p_1, .int p_2] (wT G a_t a_c a_mv a_fr a_br a_e0 a_e1 a_e2 a_e3 a_lo a_ho c_c c_cl c_mv c_ml c_en c_rt c_fr c_br c_fi c_st c_vz))
      ((fun (A : Nat → Prop) => va_Qi (fun (r : Int32) (_ : Unit) => r = r0) (fun _ t => zB G A (wT G a_t a_c a_mv a_fr a_br a_e0 a_e1 a_e2 a_e3 a_lo a_ho c_c c_cl c_mv c_ml c_en c_rt c_fr c_br c_fi c_st c_vz) t) A) (va_A (wT G a_t a_c a_mv a_fr a_br a_e0 a_e1 a_e2 a_e3 a_lo a_ho c_c c_cl c_mv c_ml c_en c_rt c_fr c_br c_fi c_st c_vz) sz)) 0 0 (fun q => sz ≤ q) := by
  refine zMetR (Qc := fun (A : Nat → Prop) => va_Qi (fun (r : Int32) (_ : Unit) => r = r0) (fun _ t => zB G A (wT G a_t a_c a_mv a_fr a_br a_e0 a_e1 a_e2 a_e3 a_lo a_ho c_c c_cl c_mv c_ml c_en c_rt c_fr c_br c_fi c_st c_vz) t) A) (by decide) (Nat.le_of_ble_eq_true rfl) (fun xp xe xs xm xb xme xc A ls Q H locs C hN hK hP hD hS hL hA hl hQ => ?_)
  obtain ⟨hx, hb, hr, hts, hown, hlocks, hml, hin⟩ := C
  have hl : lv_has ls 3 [(0, .ref a_t), (1, .int p_1), (2, .int p_2)] := hl
  have h := hf
  unfold f_Tree_byteOf at h
  refine lv_aload_n hx hb d_Tree_byteOf_0 rfl (lv_at hl 0 rfl) ?_
  refine va_get (D := G.1) (ci := 4) (v := .ref a_c) (C := "BranchStore$Tree") (T := F_Tree) (N := 15) hx hb hts i_Tree hown hK hP 0 rfl rfl 0 (by decide) (hts _ k_123) (fun _ h9 => h9) rfl d_Tree_byteOf_1 ?_
  refine lv_iconst (v := 4) hx hb d_Tree_byteOf_4 (by decide) ?_
  refine lv_iload_n hx hb d_Tree_byteOf_5 rfl (lv_at hl 1 rfl) ?_
  refine lv_isub hx hb d_Tree_byteOf_6 ?_
  refine lv_iload_n hx hb d_Tree_byteOf_7 rfl (lv_at hl 2 rfl) ?_
  refine lv_iconst (v := 4) hx hb d_Tree_byteOf_8 (by decide) ?_
  refine lv_idiv hx hb d_Tree_byteOf_9 (by decide) ?_
  refine lv_iadd hx hb d_Tree_byteOf_10 ?_
  obtain ⟨h1, h⟩ := gi_k h
  refine va_iald hx hb hK hP 1 0 rfl rfl h1 d_Tree_byteOf_11 ?_
  refine lv_bipush (v := 24) hx hb d_Tree_byteOf_12 (by decide) ?_
  refine lv_bipush (v := 8) hx hb d_Tree_byteOf_14 (by decide) ?_
  refine lv_iload_n hx hb d_Tree_byteOf_16 rfl (lv_at hl 2 rfl) ?_
  refine lv_iconst (v := 4) hx hb d_Tree_byteOf_17 (by decide) ?_
  refine lv_irem hx hb d_Tree_byteOf_18 (by decide) ?_
  refine lv_imul hx hb d_Tree_byteOf_19 ?_
  refine lv_isub hx hb d_Tree_byteOf_20 ?_
  refine lv_iushr (v := ziushr (c_c ((4 - p_1) + (p_2 / 4)).toNatClampNeg) (24 - (8 * (p_2 - p_2 / 4 * 4)))) hx hb d_Tree_byteOf_21 rfl ?_
  refine lv_sipush (v := 255) hx hb d_Tree_byteOf_22 (by decide) ?_
  refine lv_iand hx hb d_Tree_byteOf_25 ?_
  obtain rfl := Option.some.inj h
  exact zreti () hQ hL hx hb hr hlocks hP hD hS rfl (Nat.le_refl _) (Nat.le_refl _) d_Tree_byteOf_26

theorem kv_Tree_105 : zKV "BranchStore$Tree" 105 y_Tree_byteOf prog_7_method_12_code 3 (some .int) 2 := ⟨k_259, k_261, kp_6, k_2, k_262, by decide +kernel⟩
theorem kv_Tree_109 : zKV "BranchStore$Tree" 109 y_Key_counted prog_4_method_12_code 3 none 1 := ⟨k_322, k_323, k_324, k_7, k_325, by decide +kernel⟩
noncomputable def s_Tree_tell_13 (c_c : (Nat → Int32)) (c_cl : Nat) (c_kn : Int32) (x1 : Int32) (x3 : Int32) (c_kb : (Nat → Int32)) : Option ((Int32 × (Nat → Int32)) ⊕ (Nat → Int32)) :=
if c_kn ≤ x3 then
(some (.inr c_kb))
else
((f_Tree_byteOf c_c c_cl x1 x3).bind fun r7 =>
gi x3 50 <|
nm (upd c_kb x3.toNatClampNeg (vp_nar .byte r7.toInt8.toInt32)) fun c9 =>
nm (x3 + 1) fun v10 =>
some (.inl (v10, c9)))
noncomputable def f_Tree_tell (c_c : (Nat → Int32)) (c_cl : Nat) (c_kb : (Nat → Int32)) (c_kn : Int32) (c_kt : Int32) (p_1 : Int32) : Option ((Nat → Int32) × Int32 × Int32) :=
gi (-p_1) c_cl <|
nm (c_c (-p_1).toNatClampNeg) fun v2 =>
(lp (fun v => s_Tree_tell_13 c_c c_cl v2 p_1 v.1 v.2) (0, c_kb)).bind fun y12 =>
gi (3 - p_1) c_cl <|
(if (c_c (3 - p_1).toNatClampNeg) = 1 then
(some 1)
else
(some 0)).bind fun y17 =>
(f_Key_counted y12 v2 c_kt y17).bind fun r19 =>
some (y12, v2, r19)
set_option maxHeartbeats 8000000 in
set_option maxRecDepth 100000 in
theorem c_Tree_tell (l : Launch) (G : zG) (sz : Nat) (a_t a_c a_mv a_fr a_br a_e0 a_e1 a_e2 a_e3 a_lo a_ho a_ko a_kq : Nat) (c_c : (Nat → Int32)) (c_cl : Nat) (c_mv : (Nat → Int32)) (c_ml : Nat) (c_en : Int32) (c_rt : Int32) (c_fr : (Nat → Int32)) (c_br : (Nat → Int32)) (c_fi : Int64) (c_st : Int64) (c_vz : Int64) (c_kb : (Nat → Int32)) (c_kn : Int32) (c_kt : Int32) (p_1 : Int32) (r0 : ((Nat → Int32) × Int32 × Int32)) (hf : f_Tree_tell c_c c_cl c_kb c_kn c_kt p_1 = some r0) :
    Met l y_Tree_tell (Cond.code y_Tree_tell prog_7_method_13_code 4 none :: lw_ok) { frames := 2, cells := 0, slots := 0, locals := 43 } (zPc G sz [.ref a_t, .int p_1, .ref a_ko] (wT G a_t a_c a_mv a_fr a_br a_e0 a_e1 a_e2 a_e3 a_lo a_ho c_c c_cl c_mv c_ml c_en c_rt c_fr c_br c_fi c_st c_vz ++ wK G a_ko a_kq c_kb c_kn c_kt))
      ((fun (A : Nat → Prop) => va_Qv (fun (_ : Unit) => True) (fun _ t => zB G A (wT G a_t a_c a_mv a_fr a_br a_e0 a_e1 a_e2 a_e3 a_lo a_ho c_c c_cl c_mv c_ml c_en c_rt c_fr c_br c_fi c_st c_vz ++ wK G a_ko a_kq r0.1 r0.2.1 r0.2.2) t) A) (va_A (wT G a_t a_c a_mv a_fr a_br a_e0 a_e1 a_e2 a_e3 a_lo a_ho c_c c_cl c_mv c_ml c_en c_rt c_fr c_br c_fi c_st c_vz ++ wK G a_ko a_kq c_kb c_kn c_kt) sz)) 0 0 (va_A (wT G a_t a_c a_mv a_fr a_br a_e0 a_e1 a_e2 a_e3 a_lo a_ho c_c c_cl c_mv c_ml c_en c_rt c_fr c_br c_fi c_st c_vz ++ wK G a_ko a_kq c_kb c_kn c_kt) sz) := by
  refine zMet (Qc := fun (A : Nat → Prop) => va_Qv (fun (_ : Unit) => True) (fun _ t => zB G A (wT G a_t a_c a_mv a_fr a_br a_e0 a_e1 a_e2 a_e3 a_lo a_ho c_c c_cl c_mv c_ml c_en c_rt c_fr c_br c_fi c_st c_vz ++ wK G a_ko a_kq r0.1 r0.2.1 r0.2.2) t) A) (by decide) (Nat.le_of_ble_eq_true rfl) (fun xp xe xs xm xb xme xc A ls Q H locs C hN hK hP hD hS hA hl hQ => ?_)
  obtain ⟨hx, hb, hr, hts, hown, hlocks, hml, hin⟩ := C
  have hl : lv_has ls 4 [(0, .ref a_t), (1, .int p_1), (2, .ref a_ko)] := hl
  have h := hf
  unfold f_Tree_tell at h
  refine lv_aload_n hx hb d_Tree_tell_0 rfl (lv_at hl 2 rfl) ?_
  refine lv_aload_n hx hb d_Tree_tell_1 rfl (lv_at hl 0 rfl) ?_
  refine va_get (D := G.1) (ci := 4) (v := .ref a_c) (C := "BranchStore$Tree") (T := F_Tree) (N := 15) hx hb hts i_Tree hown hK hP 0 rfl rfl 0 (by decide) (hts _ k_123) (fun _ h9 => h9) rfl d_Tree_tell_2 ?_
  refine lv_iload_n hx hb d_Tree_tell_5 rfl (lv_at hl 1 rfl) ?_
  refine lv_ineg hx hb d_Tree_tell_6 ?_
  obtain ⟨h1, h⟩ := gi_k h
  refine va_iald hx hb hK hP 1 0 rfl rfl h1 d_Tree_tell_7 ?_
  refine lv_topi (fun v2 ev2 => ?_)
  have h := nm_k h v2 ev2
  refine va_put (D := G.1) (ci := 0) (v := .int v2) (ty := .int) (C := "BranchStore$Key") (T := F_Key) (N := 3) hx hb hts i_Key t_Key t_Key_ok n_Key hown hK hP hD hS 9 rfl rfl 1 (by decide) (hts _ k_110) (fun _ h9 => h9) rfl (by decide +kernel) rfl rfl (Nat.le_of_ble_eq_true rfl) d_Tree_tell_8 (fun H locs hP hD hS => ?_)
  have hP : va_P G.1 classes (wT G a_t a_c a_mv a_fr a_br a_e0 a_e1 a_e2 a_e3 a_lo a_ho c_c c_cl c_mv c_ml c_en c_rt c_fr c_br c_fi c_st c_vz ++ wK G a_ko a_kq c_kb v2 c_kt) H := hP
  have hD : va_D A (wT G a_t a_c a_mv a_fr a_br a_e0 a_e1 a_e2 a_e3 a_lo a_ho c_c c_cl c_mv c_ml c_en c_rt c_fr c_br c_fi c_st c_vz ++ wK G a_ko a_kq c_kb v2 c_kt) := hD
  refine lv_iconst (v := 0) hx hb d_Tree_tell_11 (by decide) ?_
  refine lv_istore_n (lv' := [(3, .int 0), (0, .ref a_t), (1, .int p_1), (2, .ref a_ko)]) hx hb d_Tree_tell_12 rfl hl (by decide) rfl (fun ls hl => ?_)
  obtain ⟨y5, hy5, h⟩ := ob h
  have E13 : ∀ (z11 : (Nat → Int32)), z11 = y5 → ∀ (H : Heap) (locs : List Loc) (ls : Array Slot), va_P G.1 classes (wT G a_t a_c a_mv a_fr a_br a_e0 a_e1 a_e2 a_e3 a_lo a_ho c_c c_cl c_mv c_ml c_en c_rt c_fr c_br c_fi c_st c_vz ++ wK G a_ko a_kq z11 v2 c_kt) H → va_D A (wT G a_t a_c a_mv a_fr a_br a_e0 a_e1 a_e2 a_e3 a_lo a_ho c_c c_cl c_mv c_ml c_en c_rt c_fr c_br c_fi c_st c_vz ++ wK G a_ko a_kq z11 v2 c_kt) → va_S A xs.heap H locs → lv_has ls 4 [(0, .ref a_t), (1, .int p_1), (2, .ref a_ko)] → W xp l xe { frames := 2, cells := 0, slots := 0, locals := 43 } xs xm ([.ref a_t, .int p_1, .ref a_ko] : List Value).toArray xb xme xc H locs 0 0 Q (F0 xm 40 ls []) := by
    intro z11 ey H locs ls hP hD hS hl
    subst ey
    try dsimp only at h
    refine lv_aload_n hx hb d_Tree_tell_40 rfl (lv_at hl 2 rfl) ?_
    refine lv_aload_n hx hb d_Tree_tell_41 rfl (lv_at hl 0 rfl) ?_
    refine va_get (D := G.1) (ci := 4) (v := .ref a_c) (C := "BranchStore$Tree") (T := F_Tree) (N := 15) hx hb hts i_Tree hown hK hP 0 rfl rfl 0 (by decide) (hts _ k_123) (fun _ h9 => h9) rfl d_Tree_tell_42 ?_
    refine lv_iconst (v := 3) hx hb d_Tree_tell_45 (by decide) ?_
    refine lv_iload_n hx hb d_Tree_tell_46 rfl (lv_at hl 1 rfl) ?_
    refine lv_isub hx hb d_Tree_tell_47 ?_
    obtain ⟨h13, h⟩ := gi_k h
    refine va_iald hx hb hK hP 1 0 rfl rfl h13 d_Tree_tell_48 ?_
    refine lv_iconst (v := 1) hx hb d_Tree_tell_49 (by decide) ?_
    obtain ⟨y16, hy16, h⟩ := ob h
    have J58 : ∀ (z18 : Int32), narrow .boolean (.int z18) = .int z18 → z18 = y16 → ∀ (H : Heap) (locs : List Loc) (ls : Array Slot), va_P G.1 classes (wT G a_t a_c a_mv a_fr a_br a_e0 a_e1 a_e2 a_e3 a_lo a_ho c_c c_cl c_mv c_ml c_en c_rt c_fr c_br c_fi c_st c_vz ++ wK G a_ko a_kq z11 v2 c_kt) H → va_D A (wT G a_t a_c a_mv a_fr a_br a_e0 a_e1 a_e2 a_e3 a_lo a_ho c_c c_cl c_mv c_ml c_en c_rt c_fr c_br c_fi c_st c_vz ++ wK G a_ko a_kq z11 v2 c_kt) → va_S A xs.heap H locs → lv_has ls 4 [] → W xp l xe { frames := 2, cells := 0, slots := 0, locals := 43 } xs xm ([.ref a_t, .int p_1, .ref a_ko] : List Value).toArray xb xme xc H locs 0 0 Q (F0 xm 58 ls [.int z18, .ref a_ko]) := by
      intro z18 hzz18 ey H locs ls hP hD hS hl
      subst ey
      try dsimp only at h
      obtain ⟨r19, hr19, h⟩ := ob h
      refine zcallv (wr := [(a_t, .inr (4, [.ref a_c, .ref a_mv, .int c_en, .int c_rt, .ref a_fr, .ref a_e0, .ref a_e1, .ref a_e2, .ref a_e3, .ref a_br, .ref a_lo, .ref a_ho, .long c_fi, .long c_st, .long c_vz])), (a_c, .inl (G.2.1, c_cl, .inl c_c)), (a_mv, .inl (G.2.1, c_ml, .inl c_mv)), (a_fr, .inl (G.2.1, 261, .inl c_fr)), (a_br, .inl (G.2.1, 4, .inl c_br)), (a_e0, .inr (1, [.int 0, .int 9, .int 4, .int 5])), (a_e1, .inr (1, [.int 1, .int 24, .int 16, .int 8])), (a_e2, .inr (2, [.int 2, .int 116, .int 48])), (a_e3, .inr (3, [.int 3, .int 260, .int 256]))]) (w2 := fun _ => (wT G a_t a_c a_mv a_fr a_br a_e0 a_e1 a_e2 a_e3 a_lo a_ho c_c c_cl c_mv c_ml c_en c_rt c_fr c_br c_fi c_st c_vz ++ wK G a_ko a_kq z11 v2 r19)) (zrunV (As := [.int z18]) (rest := []) ⟨hx, hb, hml, hown, hts⟩ hN hK (c_Key_counted l G H.size a_ko a_kq z11 v2 c_kt z18 r19 hr19) ⟨rfl, rfl⟩ kv_Tree_109 ⟨Nat.le_of_ble_eq_true rfl, Nat.le_of_ble_eq_true rfl⟩ 0 rfl rfl rfl hl.1 (Nat.le_of_ble_eq_true rfl) d_Tree_tell_58 ⟨Nat.le_of_ble_eq_true rfl, Nat.le_of_ble_eq_true rfl⟩) hP hD hS hA [9, 10] [0, 1, 2, 3, 4, 5, 6, 7, 8] [0, 1, 2, 3, 4, 5, 6, 7, 8, 9, 10] rfl rfl rfl rfl (by decide) rfl (fun _ => rfl) (fun _ H locs _ hP hD hS => ?_)
      obtain rfl := Option.some.inj h
      exact zretv () hQ hS.2.2 hx hb hr hlocks hP hD hS trivial (Nat.le_refl _) (Nat.le_refl _) d_Tree_tell_61
    have h := hy16
    refine lv_icmp_ne (tgt := 57) hx hb d_Tree_tell_50 (by decide) (fun q15 => ?_) (fun q15 => ?_)
    · have h := ie h q15
      refine lv_iconst (v := 0) hx hb d_Tree_tell_57 (by decide) ?_
      exact J58 0 rfl (Option.some.inj h) H locs ls hP hD hS (lv_sub hl [] rfl)
    · have h := it h q15
      refine lv_iconst (v := 1) hx hb d_Tree_tell_53 (by decide) ?_
      refine lv_goto (tgt := 58) hx hb d_Tree_tell_54 (by decide) ?_
      exact J58 1 rfl (Option.some.inj h) H locs ls hP hD hS (lv_sub hl [] rfl)
  have L13 : ∀ v : (Int32 × (Nat → Int32)), lp (fun v => s_Tree_tell_13 c_c c_cl v2 p_1 v.1 v.2) v = some y5 → ∀ (H : Heap) (locs : List Loc) (ls : Array Slot), va_P G.1 classes (wT G a_t a_c a_mv a_fr a_br a_e0 a_e1 a_e2 a_e3 a_lo a_ho c_c c_cl c_mv c_ml c_en c_rt c_fr c_br c_fi c_st c_vz ++ wK G a_ko a_kq v.2 v2 c_kt) H → va_D A (wT G a_t a_c a_mv a_fr a_br a_e0 a_e1 a_e2 a_e3 a_lo a_ho c_c c_cl c_mv c_ml c_en c_rt c_fr c_br c_fi c_st c_vz ++ wK G a_ko a_kq v.2 v2 c_kt) → va_S A xs.heap H locs → lv_has ls 4 [(0, .ref a_t), (1, .int p_1), (2, .ref a_ko), (3, .int v.1)] → W xp l xe { frames := 2, cells := 0, slots := 0, locals := 43 } xs xm ([.ref a_t, .int p_1, .ref a_ko] : List Value).toArray xb xme xc H locs 0 0 Q (F0 xm 13 ls []) := by
    refine lp_walk _ (fun v x h hc he => ?_)
    obtain ⟨x3_3, c4⟩ := v
    intro H locs ls hP hD hS hl
    have h : s_Tree_tell_13 c_c c_cl v2 p_1 x3_3 c4 = some x := h
    unfold s_Tree_tell_13 at h
    refine lv_iload_n hx hb d_Tree_tell_13 rfl (lv_at hl 3 rfl) ?_
    refine lv_aload_n hx hb d_Tree_tell_14 rfl (lv_at hl 2 rfl) ?_
    refine va_get (D := G.1) (ci := 0) (v := .int v2) (C := "BranchStore$Key") (T := F_Key) (N := 3) hx hb hts i_Key hown hK hP 9 rfl rfl 1 (by decide) (hts _ k_110) (fun _ h9 => h9) rfl d_Tree_tell_15 ?_
    refine lv_icmp_ge (tgt := 40) hx hb d_Tree_tell_18 (by decide) (fun q6 => ?_) (fun q6 => ?_)
    · have h := it h q6
      exact E13 c4 (he _ (Option.some.inj h).symm) H locs ls hP hD hS (lv_sub hl [0, 1, 2] rfl)
    · have h := ie h q6
      refine lv_aload_n hx hb d_Tree_tell_21 rfl (lv_at hl 2 rfl) ?_
      refine va_get (D := G.1) (ci := 0) (v := .ref a_kq) (C := "BranchStore$Key") (T := F_Key) (N := 3) hx hb hts i_Key hown hK hP 9 rfl rfl 0 (by decide) (hts _ k_108) (fun _ h9 => h9) rfl d_Tree_tell_22 ?_
      refine lv_iload_n hx hb d_Tree_tell_25 rfl (lv_at hl 3 rfl) ?_
      refine lv_aload_n hx hb d_Tree_tell_26 rfl (lv_at hl 0 rfl) ?_
      refine lv_iload_n hx hb d_Tree_tell_27 rfl (lv_at hl 1 rfl) ?_
      refine lv_iload_n hx hb d_Tree_tell_28 rfl (lv_at hl 3 rfl) ?_
      obtain ⟨r7, hr7, h⟩ := ob h
      refine zpcalli (wr := [(a_ko, .inr (0, [.ref a_kq, .int v2, .int c_kt])), (a_kq, .inl (G.2.2.1, 50, .inl c4))]) (w2 := fun _ => (wT G a_t a_c a_mv a_fr a_br a_e0 a_e1 a_e2 a_e3 a_lo a_ho c_c c_cl c_mv c_ml c_en c_rt c_fr c_br c_fi c_st c_vz ++ wK G a_ko a_kq c4 v2 c_kt)) (zrunV (As := [.int p_1, .int x3_3]) (rest := [.int x3_3, .ref a_kq]) ⟨hx, hb, hml, hown, hts⟩ hN hK (c_Tree_byteOf l G H.size a_t a_c a_mv a_fr a_br a_e0 a_e1 a_e2 a_e3 a_lo a_ho c_c c_cl c_mv c_ml c_en c_rt c_fr c_br c_fi c_st c_vz p_1 x3_3 r7 hr7) ⟨rfl, rfl⟩ kv_Tree_105 ⟨Nat.le_of_ble_eq_true rfl, Nat.le_of_ble_eq_true rfl⟩ 0 rfl rfl rfl hl.1 (Nat.le_of_ble_eq_true rfl) d_Tree_tell_29 ⟨Nat.le_of_ble_eq_true rfl, Nat.le_of_ble_eq_true rfl⟩) hP hD hS hA [0, 1, 2, 3, 4, 5, 6, 7, 8] [9, 10] [2, 3, 4, 5, 6, 7, 8, 9, 10, 0, 1] rfl rfl rfl rfl (by decide) rfl (fun _ => rfl) (fun rr _ H hw hP hD hS => ?_)
      have hw := hw.symm
      subst hw
      refine lv_i2b (v := r7.toInt8.toInt32) hx hb d_Tree_tell_32 rfl ?_
      obtain ⟨h8, h⟩ := gi_k h
      refine va_bast hx hb hK hP hD hS 10 1 rfl rfl h8 d_Tree_tell_33 (fun H locs hP hD hS => ?_)
      obtain ⟨c9, ec9⟩ : ∃ y, y = upd c4 x3_3.toNatClampNeg (vp_nar .byte r7.toInt8.toInt32) := ⟨_, rfl⟩
      have h := nm_k h c9 ec9
      have hP : va_P G.1 classes (wT G a_t a_c a_mv a_fr a_br a_e0 a_e1 a_e2 a_e3 a_lo a_ho c_c c_cl c_mv c_ml c_en c_rt c_fr c_br c_fi c_st c_vz ++ wK G a_ko a_kq c9 v2 c_kt) H := by rw [ec9]; exact hP
      have hD : va_D A (wT G a_t a_c a_mv a_fr a_br a_e0 a_e1 a_e2 a_e3 a_lo a_ho c_c c_cl c_mv c_ml c_en c_rt c_fr c_br c_fi c_st c_vz ++ wK G a_ko a_kq c9 v2 c_kt) := by rw [ec9]; exact hD
      obtain ⟨v10, ev10⟩ : ∃ y : Int32, y = x3_3 + 1 := ⟨_, rfl⟩
      have h := nm_k h v10 ev10
      refine lv_iinc (v := v10) (lv' := [(3, .int v10), (0, .ref a_t), (1, .int p_1), (2, .ref a_ko)]) hx hb d_Tree_tell_34 hl (k := 3) rfl (by rw [ev10]; rfl) (by decide) rfl (fun ls hl => ?_)
      refine lv_goto (tgt := 13) hx hb d_Tree_tell_37 (by decide) ?_
      exact hc _ (Option.some.inj h).symm H locs ls hP hD hS (lv_sub hl [1, 2, 3, 0] rfl)
  exact L13 _ hy5 _ _ ls hP hD hS (lv_sub hl [1, 2, 3, 0] rfl)

noncomputable def f_Tree_below (c_c : (Nat → Int32)) (c_cl : Nat) (p_1 : Int32) : Option Int32 :=
if p_1 = 0 then
(some 0)
else
(if 0 ≤ p_1 then
(gi (p_1 + 2) c_cl <|
some (c_c (p_1 + 2).toNatClampNeg))
else
(some 1))
set_option maxHeartbeats 8000000 in
set_option maxRecDepth 100000 in
theorem c_Tree_below (l : Launch) (G : zG) (sz : Nat) (a_t a_c a_mv a_fr a_br a_e0 a_e1 a_e2 a_e3 a_lo a_ho : Nat) (c_c : (Nat → Int32)) (c_cl : Nat) (c_mv : (Nat → Int32)) (c_ml : Nat) (c_en : Int32) (c_rt : Int32) (c_fr : (Nat → Int32)) (c_br : (Nat → Int32)) (c_fi : Int64) (c_st : Int64) (c_vz : Int64) (p_1 : Int32) (r0 : Int32) (hf : f_Tree_below c_c c_cl p_1 = some r0) :
    Met l y_Tree_below (Cond.code y_Tree_below prog_7_method_15_code 2 (some .int) :: lw_ok) { frames := 0, cells := 0, slots := 0, locals := 0 } (zPc G sz [.ref a_t, .int p_1] (wT G a_t a_c a_mv a_fr a_br a_e0 a_e1 a_e2 a_e3 a_lo a_ho c_c c_cl c_mv c_ml c_en c_rt c_fr c_br c_fi c_st c_vz))
      ((fun (A : Nat → Prop) => va_Qi (fun (r : Int32) (_ : Unit) => r = r0) (fun _ t => zB G A (wT G a_t a_c a_mv a_fr a_br a_e0 a_e1 a_e2 a_e3 a_lo a_ho c_c c_cl c_mv c_ml c_en c_rt c_fr c_br c_fi c_st c_vz) t) A) (va_A (wT G a_t a_c a_mv a_fr a_br a_e0 a_e1 a_e2 a_e3 a_lo a_ho c_c c_cl c_mv c_ml c_en c_rt c_fr c_br c_fi c_st c_vz) sz)) 0 0 (fun q => sz ≤ q) := by
  refine zMetR (Qc := fun (A : Nat → Prop) => va_Qi (fun (r : Int32) (_ : Unit) => r = r0) (fun _ t => zB G A (wT G a_t a_c a_mv a_fr a_br a_e0 a_e1 a_e2 a_e3 a_lo a_ho c_c c_cl c_mv c_ml c_en c_rt c_fr c_br c_fi c_st c_vz) t) A) (by decide) (Nat.le_of_ble_eq_true rfl) (fun xp xe xs xm xb xme xc A ls Q H locs C hN hK hP hD hS hL hA hl hQ => ?_)
  obtain ⟨hx, hb, hr, hts, hown, hlocks, hml, hin⟩ := C
  have hl : lv_has ls 2 [(0, .ref a_t), (1, .int p_1)] := hl
  have h := hf
  unfold f_Tree_below at h
  refine lv_iload_n hx hb d_Tree_below_0 rfl (lv_at hl 1 rfl) ?_
  refine lv_if_ne (tgt := 8) hx hb d_Tree_below_1 (by decide) (fun q1 => ?_) (fun q1 => ?_)
  · have h := ie h q1
    refine lv_iload_n hx hb d_Tree_below_8 rfl (lv_at hl 1 rfl) ?_
    refine lv_if_ge (tgt := 16) hx hb d_Tree_below_9 (by decide) (fun q2 => ?_) (fun q2 => ?_)
    · have h := it h q2
      refine lv_aload_n hx hb d_Tree_below_16 rfl (lv_at hl 0 rfl) ?_
      refine va_get (D := G.1) (ci := 4) (v := .ref a_c) (C := "BranchStore$Tree") (T := F_Tree) (N := 15) hx hb hts i_Tree hown hK hP 0 rfl rfl 0 (by decide) (hts _ k_123) (fun _ h9 => h9) rfl d_Tree_below_17 ?_
      refine lv_iload_n hx hb d_Tree_below_20 rfl (lv_at hl 1 rfl) ?_
      refine lv_iconst (v := 2) hx hb d_Tree_below_21 (by decide) ?_
      refine lv_iadd hx hb d_Tree_below_22 ?_
      obtain ⟨h3, h⟩ := gi_k h
      refine va_iald hx hb hK hP 1 0 rfl rfl h3 d_Tree_below_23 ?_
      obtain rfl := Option.some.inj h
      exact zreti () hQ hL hx hb hr hlocks hP hD hS rfl (Nat.le_refl _) (Nat.le_refl _) d_Tree_below_24
    · have h := ie h q2
      refine lv_iconst (v := 1) hx hb d_Tree_below_12 (by decide) ?_
      refine lv_goto (tgt := 24) hx hb d_Tree_below_13 (by decide) ?_
      obtain rfl := Option.some.inj h
      exact zreti () hQ hL hx hb hr hlocks hP hD hS rfl (Nat.le_refl _) (Nat.le_refl _) d_Tree_below_24
  · have h := it h q1
    refine lv_iconst (v := 0) hx hb d_Tree_below_4 (by decide) ?_
    refine lv_goto (tgt := 24) hx hb d_Tree_below_5 (by decide) ?_
    obtain rfl := Option.some.inj h
    exact zreti () hQ hL hx hb hr hlocks hP hD hS rfl (Nat.le_refl _) (Nat.le_refl _) d_Tree_below_24

theorem kv_Tree_113 : zKV "BranchStore$Tree" 113 y_Tree_below prog_7_method_15_code 2 (some .int) 1 := ⟨k_295, k_297, kp_10, k_2, k_298, by decide +kernel⟩
noncomputable def f_Tree_keys (c_c : (Nat → Int32)) (c_cl : Nat) (c_rt : Int32)  : Option Int32 :=
(f_Tree_below c_c c_cl c_rt).bind fun r1 =>
some r1
set_option maxHeartbeats 8000000 in
set_option maxRecDepth 100000 in
theorem c_Tree_keys (l : Launch) (G : zG) (sz : Nat) (a_t a_c a_mv a_fr a_br a_e0 a_e1 a_e2 a_e3 a_lo a_ho : Nat) (c_c : (Nat → Int32)) (c_cl : Nat) (c_mv : (Nat → Int32)) (c_ml : Nat) (c_en : Int32) (c_rt : Int32) (c_fr : (Nat → Int32)) (c_br : (Nat → Int32)) (c_fi : Int64) (c_st : Int64) (c_vz : Int64) (r0 : Int32) (hf : f_Tree_keys c_c c_cl c_rt = some r0) :
    Met l y_Tree_keys (Cond.code y_Tree_keys prog_7_method_14_code 1 (some .int) :: lw_ok) { frames := 1, cells := 0, slots := 0, locals := 21 } (zPc G sz [.ref a_t] (wT G a_t a_c a_mv a_fr a_br a_e0 a_e1 a_e2 a_e3 a_lo a_ho c_c c_cl c_mv c_ml c_en c_rt c_fr c_br c_fi c_st c_vz))
      ((fun (A : Nat → Prop) => va_Qi (fun (r : Int32) (_ : Unit) => r = r0) (fun _ t => zB G A (wT G a_t a_c a_mv a_fr a_br a_e0 a_e1 a_e2 a_e3 a_lo a_ho c_c c_cl c_mv c_ml c_en c_rt c_fr c_br c_fi c_st c_vz) t) A) (va_A (wT G a_t a_c a_mv a_fr a_br a_e0 a_e1 a_e2 a_e3 a_lo a_ho c_c c_cl c_mv c_ml c_en c_rt c_fr c_br c_fi c_st c_vz) sz)) 0 0 (fun q => sz ≤ q) := by
  refine zMetR (Qc := fun (A : Nat → Prop) => va_Qi (fun (r : Int32) (_ : Unit) => r = r0) (fun _ t => zB G A (wT G a_t a_c a_mv a_fr a_br a_e0 a_e1 a_e2 a_e3 a_lo a_ho c_c c_cl c_mv c_ml c_en c_rt c_fr c_br c_fi c_st c_vz) t) A) (by decide) (Nat.le_of_ble_eq_true rfl) (fun xp xe xs xm xb xme xc A ls Q H locs C hN hK hP hD hS hL hA hl hQ => ?_)
  obtain ⟨hx, hb, hr, hts, hown, hlocks, hml, hin⟩ := C
  have hl : lv_has ls 1 [(0, .ref a_t)] := hl
  have h := hf
  unfold f_Tree_keys at h
  refine lv_aload_n hx hb d_Tree_keys_0 rfl (lv_at hl 0 rfl) ?_
  refine lv_aload_n hx hb d_Tree_keys_1 rfl (lv_at hl 0 rfl) ?_
  refine va_get (D := G.1) (ci := 4) (v := .int c_rt) (C := "BranchStore$Tree") (T := F_Tree) (N := 15) hx hb hts i_Tree hown hK hP 0 rfl rfl 3 (by decide) (hts _ k_126) (fun _ h9 => h9) rfl d_Tree_keys_2 ?_
  obtain ⟨r1, hr1, h⟩ := ob h
  refine zpcalli (wr := []) (w2 := fun _ => (wT G a_t a_c a_mv a_fr a_br a_e0 a_e1 a_e2 a_e3 a_lo a_ho c_c c_cl c_mv c_ml c_en c_rt c_fr c_br c_fi c_st c_vz)) (zrunV (As := [.int c_rt]) (rest := []) ⟨hx, hb, hml, hown, hts⟩ hN hK (c_Tree_below l G H.size a_t a_c a_mv a_fr a_br a_e0 a_e1 a_e2 a_e3 a_lo a_ho c_c c_cl c_mv c_ml c_en c_rt c_fr c_br c_fi c_st c_vz c_rt r1 hr1) ⟨rfl, rfl⟩ kv_Tree_113 ⟨Nat.le_of_ble_eq_true rfl, Nat.le_of_ble_eq_true rfl⟩ 0 rfl rfl rfl hl.1 (Nat.le_of_ble_eq_true rfl) d_Tree_keys_5 ⟨Nat.le_of_ble_eq_true rfl, Nat.le_of_ble_eq_true rfl⟩) hP hD hS hA [0, 1, 2, 3, 4, 5, 6, 7, 8] [] [0, 1, 2, 3, 4, 5, 6, 7, 8] rfl rfl rfl rfl (by decide) rfl (fun _ => rfl) (fun rr _ H hw hP hD hS => ?_)
  have hw := hw.symm
  subst hw
  obtain rfl := Option.some.inj h
  exact zreti () hQ hL hx hb hr hlocks hP hD hS rfl (Nat.le_refl _) (Nat.le_refl _) d_Tree_keys_8

theorem kv_Tree_116 : zKV "BranchStore$Tree" 116 y_Tree_shapeOf prog_7_method_6_code 2 (some (.object "BranchStore$Shape")) 1 := ⟨k_223, k_225, kp_3, k_2, k_226, by decide +kernel⟩
noncomputable def f_Tree_child (c_c : (Nat → Int32)) (c_cl : Nat) (p_1 : Int32) (p_2 : Int32) : Option Int32 :=
(f_Tree_shapeOf c_c c_cl p_1).bind fun r1 =>
(f_place r1 c_cl c_c p_1 p_2).bind fun r2 =>
if r2 = 0 then
(some 0)
else
(gi r2 c_cl <|
some (c_c r2.toNatClampNeg))
set_option maxHeartbeats 8000000 in
set_option maxRecDepth 100000 in
theorem c_Tree_child (l : Launch) (G : zG) (sz : Nat) (a_t a_c a_mv a_fr a_br a_e0 a_e1 a_e2 a_e3 a_lo a_ho : Nat) (c_c : (Nat → Int32)) (c_cl : Nat) (c_mv : (Nat → Int32)) (c_ml : Nat) (c_en : Int32) (c_rt : Int32) (c_fr : (Nat → Int32)) (c_br : (Nat → Int32)) (c_fi : Int64) (c_st : Int64) (c_vz : Int64) (p_1 : Int32) (p_2 : Int32) (r0 : Int32) (hf : f_Tree_child c_c c_cl p_1 p_2 = some r0) :
    Met l y_Tree_child (Cond.code y_Tree_child prog_7_method_16_code 4 (some .int) :: lw_ok) { frames := 3, cells := 0, slots := 0, locals := 71 } (zPc G sz [.ref a_t, .int p_1, .int p_2] (wT G a_t a_c a_mv a_fr a_br a_e0 a_e1 a_e2 a_e3 a_lo a_ho c_c c_cl c_mv c_ml c_en c_rt c_fr c_br c_fi c_st c_vz))
      ((fun (A : Nat → Prop) => va_Qi (fun (r : Int32) (_ : Unit) => r = r0) (fun _ t => zB G A (wT G a_t a_c a_mv a_fr a_br a_e0 a_e1 a_e2 a_e3 a_lo a_ho c_c c_cl c_mv c_ml c_en c_rt c_fr c_br c_fi c_st c_vz) t) A) (va_A (wT G a_t a_c a_mv a_fr a_br a_e0 a_e1 a_e2 a_e3 a_lo a_ho c_c c_cl c_mv c_ml c_en c_rt c_fr c_br c_fi c_st c_vz) sz)) 0 0 (fun q => sz ≤ q) := by
  refine zMetR (Qc := fun (A : Nat → Prop) => va_Qi (fun (r : Int32) (_ : Unit) => r = r0) (fun _ t => zB G A (wT G a_t a_c a_mv a_fr a_br a_e0 a_e1 a_e2 a_e3 a_lo a_ho c_c c_cl c_mv c_ml c_en c_rt c_fr c_br c_fi c_st c_vz) t) A) (by decide) (Nat.le_of_ble_eq_true rfl) (fun xp xe xs xm xb xme xc A ls Q H locs C hN hK hP hD hS hL hA hl hQ => ?_)
  obtain ⟨hx, hb, hr, hts, hown, hlocks, hml, hin⟩ := C
  have hl : lv_has ls 4 [(0, .ref a_t), (1, .int p_1), (2, .int p_2)] := hl
  have h := hf
  unfold f_Tree_child at h
  refine lv_aload_n hx hb d_Tree_child_0 rfl (lv_at hl 0 rfl) ?_
  refine lv_iload_n hx hb d_Tree_child_1 rfl (lv_at hl 1 rfl) ?_
  obtain ⟨r1, hr1, h⟩ := ob h
  refine zpcallr (wr := []) (w2 := fun _ => (wT G a_t a_c a_mv a_fr a_br a_e0 a_e1 a_e2 a_e3 a_lo a_ho c_c c_cl c_mv c_ml c_en c_rt c_fr c_br c_fi c_st c_vz)) (zrunV (As := [.int p_1]) (rest := []) ⟨hx, hb, hml, hown, hts⟩ hN hK (c_Tree_shapeOf l G H.size a_t a_c a_mv a_fr a_br a_e0 a_e1 a_e2 a_e3 a_lo a_ho c_c c_cl c_mv c_ml c_en c_rt c_fr c_br c_fi c_st c_vz p_1 r1 hr1) ⟨rfl, rfl⟩ kv_Tree_116 ⟨Nat.le_of_ble_eq_true rfl, Nat.le_of_ble_eq_true rfl⟩ 0 rfl rfl rfl hl.1 (Nat.le_of_ble_eq_true rfl) d_Tree_child_2 ⟨Nat.le_of_ble_eq_true rfl, Nat.le_of_ble_eq_true rfl⟩) hP hD hS hA [0, 1, 2, 3, 4, 5, 6, 7, 8] [] [0, 1, 2, 3, 4, 5, 6, 7, 8] rfl rfl rfl rfl (by decide) rfl (fun _ => rfl) (fun _ ra H hw hP hD hS => ?_)
  subst hw
  refine lv_aload_n hx hb d_Tree_child_5 rfl (lv_at hl 0 rfl) ?_
  refine va_get (D := G.1) (ci := 4) (v := .ref a_c) (C := "BranchStore$Tree") (T := F_Tree) (N := 15) hx hb hts i_Tree hown hK hP 0 rfl rfl 0 (by decide) (hts _ k_123) (fun _ h9 => h9) rfl d_Tree_child_6 ?_
  refine lv_iload_n hx hb d_Tree_child_9 rfl (lv_at hl 1 rfl) ?_
  refine lv_iload_n hx hb d_Tree_child_10 rfl (lv_at hl 2 rfl) ?_
  obtain ⟨r2, hr2, h⟩ := ob h
  refine zv_place (k := r1) ⟨hx, hb, hml, hown, hts⟩ hN hK hP hD hS hA (zE_mk rfl rfl rfl rfl) rfl hr2 (Nat.le_of_ble_eq_true rfl) (Nat.le_of_ble_eq_true rfl) hl.1 (Nat.le_of_ble_eq_true rfl) d_Tree_child_11 ⟨Nat.zero_le _, Nat.zero_le _⟩ (fun H hP hS => ?_)
  refine lv_istore_n (lv' := [(3, .int r2), (0, .ref a_t), (1, .int p_1), (2, .int p_2)]) hx hb d_Tree_child_14 rfl hl (by decide) rfl (fun ls hl => ?_)
  refine lv_iload_n hx hb d_Tree_child_15 rfl (lv_at hl 0 rfl) ?_
  refine lv_if_ne (tgt := 23) hx hb d_Tree_child_16 (by decide) (fun q3 => ?_) (fun q3 => ?_)
  · have h := ie h q3
    refine lv_aload_n hx hb d_Tree_child_23 rfl (lv_at hl 1 rfl) ?_
    refine va_get (D := G.1) (ci := 4) (v := .ref a_c) (C := "BranchStore$Tree") (T := F_Tree) (N := 15) hx hb hts i_Tree hown hK hP 0 rfl rfl 0 (by decide) (hts _ k_123) (fun _ h9 => h9) rfl d_Tree_child_24 ?_
    refine lv_iload_n hx hb d_Tree_child_27 rfl (lv_at hl 0 rfl) ?_
    obtain ⟨h4, h⟩ := gi_k h
    refine va_iald hx hb hK hP 1 0 rfl rfl h4 d_Tree_child_28 ?_
    obtain rfl := Option.some.inj h
    exact zreti () hQ hL hx hb hr hlocks hP hD hS rfl (Nat.le_refl _) (Nat.le_refl _) d_Tree_child_29
  · have h := it h q3
    refine lv_iconst (v := 0) hx hb d_Tree_child_19 (by decide) ?_
    refine lv_goto (tgt := 29) hx hb d_Tree_child_20 (by decide) ?_
    obtain rfl := Option.some.inj h
    exact zreti () hQ hL hx hb hr hlocks hP hD hS rfl (Nat.le_refl _) (Nat.le_refl _) d_Tree_child_29

theorem kv_Tree_126 : zKV "BranchStore$Tree" 126 y_Tree_child prog_7_method_16_code 4 (some .int) 2 := ⟨k_219, k_221, kp_2, k_2, k_222, by decide +kernel⟩
noncomputable def s_Tree_least_2 (c_c : (Nat → Int32)) (c_cl : Nat) (x2 : Int32) : Option (Int32 ⊕ Int32) :=
if x2 ≤ 0 then
(some (.inr x2))
else
((f_Tree_shapeOf c_c c_cl x2).bind fun r4 =>
(f_from r4 c_cl c_c x2 0).bind fun r5 =>
(f_Tree_child c_c c_cl x2 r5).bind fun r6 =>
some (.inl r6))
noncomputable def f_Tree_least (c_c : (Nat → Int32)) (c_cl : Nat) (p_1 : Int32) : Option Int32 :=
(lp (fun v => s_Tree_least_2 c_c c_cl v) p_1).bind fun y8 =>
some y8
set_option maxHeartbeats 8000000 in
set_option maxRecDepth 100000 in
theorem c_Tree_least (l : Launch) (G : zG) (sz : Nat) (a_t a_c a_mv a_fr a_br a_e0 a_e1 a_e2 a_e3 a_lo a_ho : Nat) (c_c : (Nat → Int32)) (c_cl : Nat) (c_mv : (Nat → Int32)) (c_ml : Nat) (c_en : Int32) (c_rt : Int32) (c_fr : (Nat → Int32)) (c_br : (Nat → Int32)) (c_fi : Int64) (c_st : Int64) (c_vz : Int64) (p_1 : Int32) (r0 : Int32) (hf : f_Tree_least c_c c_cl p_1 = some r0) :
    Met l y_Tree_least (Cond.code y_Tree_least prog_7_method_17_code 3 (some .int) :: lw_ok) { frames := 4, cells := 0, slots := 0, locals := 94 } (zPc G sz [.ref a_t, .int p_1] (wT G a_t a_c a_mv a_fr a_br a_e0 a_e1 a_e2 a_e3 a_lo a_ho c_c c_cl c_mv c_ml c_en c_rt c_fr c_br c_fi c_st c_vz))
      ((fun (A : Nat → Prop) => va_Qi (fun (r : Int32) (_ : Unit) => r = r0) (fun _ t => zB G A (wT G a_t a_c a_mv a_fr a_br a_e0 a_e1 a_e2 a_e3 a_lo a_ho c_c c_cl c_mv c_ml c_en c_rt c_fr c_br c_fi c_st c_vz) t) A) (va_A (wT G a_t a_c a_mv a_fr a_br a_e0 a_e1 a_e2 a_e3 a_lo a_ho c_c c_cl c_mv c_ml c_en c_rt c_fr c_br c_fi c_st c_vz) sz)) 0 0 (fun q => sz ≤ q) := by
  refine zMetR (Qc := fun (A : Nat → Prop) => va_Qi (fun (r : Int32) (_ : Unit) => r = r0) (fun _ t => zB G A (wT G a_t a_c a_mv a_fr a_br a_e0 a_e1 a_e2 a_e3 a_lo a_ho c_c c_cl c_mv c_ml c_en c_rt c_fr c_br c_fi c_st c_vz) t) A) (by decide) (Nat.le_of_ble_eq_true rfl) (fun xp xe xs xm xb xme xc A ls Q H locs C hN hK hP hD hS hL hA hl hQ => ?_)
  obtain ⟨hx, hb, hr, hts, hown, hlocks, hml, hin⟩ := C
  have hl : lv_has ls 3 [(0, .ref a_t), (1, .int p_1)] := hl
  have h := hf
  unfold f_Tree_least at h
  refine lv_iload_n hx hb d_Tree_least_0 rfl (lv_at hl 1 rfl) ?_
  refine lv_istore_n (lv' := [(2, .int p_1), (0, .ref a_t), (1, .int p_1)]) hx hb d_Tree_least_1 rfl hl (by decide) rfl (fun ls hl => ?_)
  obtain ⟨y2, hy2, h⟩ := ob h
  have E2 : ∀ (z7 : Int32), z7 = y2 → ∀ (H : Heap) (locs : List Loc) (ls : Array Slot), va_P G.1 classes (wT G a_t a_c a_mv a_fr a_br a_e0 a_e1 a_e2 a_e3 a_lo a_ho c_c c_cl c_mv c_ml c_en c_rt c_fr c_br c_fi c_st c_vz) H → va_D A (wT G a_t a_c a_mv a_fr a_br a_e0 a_e1 a_e2 a_e3 a_lo a_ho c_c c_cl c_mv c_ml c_en c_rt c_fr c_br c_fi c_st c_vz) → va_S A xs.heap H locs → (∀ q ∈ locs, xs.heap.size ≤ q.base) → lv_has ls 3 [(2, .int z7)] → W xp l xe { frames := 4, cells := 0, slots := 0, locals := 94 } xs xm ([.ref a_t, .int p_1] : List Value).toArray xb xme xc H locs 0 0 Q (F0 xm 29 ls []) := by
    intro z7 ey H locs ls hP hD hS hL hl
    subst ey
    try dsimp only at h
    refine lv_iload_n hx hb d_Tree_least_29 rfl (lv_at hl 0 rfl) ?_
    obtain rfl := Option.some.inj h
    exact zreti () hQ hL hx hb hr hlocks hP hD hS rfl (Nat.le_refl _) (Nat.le_refl _) d_Tree_least_30
  have L2 : ∀ v : Int32, lp (fun v => s_Tree_least_2 c_c c_cl v) v = some y2 → ∀ (H : Heap) (locs : List Loc) (ls : Array Slot), va_P G.1 classes (wT G a_t a_c a_mv a_fr a_br a_e0 a_e1 a_e2 a_e3 a_lo a_ho c_c c_cl c_mv c_ml c_en c_rt c_fr c_br c_fi c_st c_vz) H → va_D A (wT G a_t a_c a_mv a_fr a_br a_e0 a_e1 a_e2 a_e3 a_lo a_ho c_c c_cl c_mv c_ml c_en c_rt c_fr c_br c_fi c_st c_vz) → va_S A xs.heap H locs → (∀ q ∈ locs, xs.heap.size ≤ q.base) → lv_has ls 3 [(0, .ref a_t), (2, .int v)] → W xp l xe { frames := 4, cells := 0, slots := 0, locals := 94 } xs xm ([.ref a_t, .int p_1] : List Value).toArray xb xme xc H locs 0 0 Q (F0 xm 2 ls []) := by
    refine lp_walk _ (fun v x h hc he => ?_)
    obtain ⟨x2_1, rfl⟩ : ∃ z, z = v := ⟨_, rfl⟩
    intro H locs ls hP hD hS hL hl
    have h : s_Tree_least_2 c_c c_cl x2_1 = some x := h
    unfold s_Tree_least_2 at h
    refine lv_iload_n hx hb d_Tree_least_2 rfl (lv_at hl 1 rfl) ?_
    refine lv_if_le (tgt := 29) hx hb d_Tree_least_3 (by decide) (fun q3 => ?_) (fun q3 => ?_)
    · have h := it h q3
      exact E2 x2_1 (he _ (Option.some.inj h).symm) H locs ls hP hD hS hL (lv_sub hl [1] rfl)
    · have h := ie h q3
      refine lv_aload_n hx hb d_Tree_least_6 rfl (lv_at hl 0 rfl) ?_
      refine lv_iload_n hx hb d_Tree_least_7 rfl (lv_at hl 1 rfl) ?_
      refine lv_aload_n hx hb d_Tree_least_8 rfl (lv_at hl 0 rfl) ?_
      refine lv_iload_n hx hb d_Tree_least_9 rfl (lv_at hl 1 rfl) ?_
      obtain ⟨r4, hr4, h⟩ := ob h
      refine zpcallr (wr := []) (w2 := fun _ => (wT G a_t a_c a_mv a_fr a_br a_e0 a_e1 a_e2 a_e3 a_lo a_ho c_c c_cl c_mv c_ml c_en c_rt c_fr c_br c_fi c_st c_vz)) (zrunV (As := [.int x2_1]) (rest := [.int x2_1, .ref a_t]) ⟨hx, hb, hml, hown, hts⟩ hN hK (c_Tree_shapeOf l G H.size a_t a_c a_mv a_fr a_br a_e0 a_e1 a_e2 a_e3 a_lo a_ho c_c c_cl c_mv c_ml c_en c_rt c_fr c_br c_fi c_st c_vz x2_1 r4 hr4) ⟨rfl, rfl⟩ kv_Tree_116 ⟨Nat.le_of_ble_eq_true rfl, Nat.le_of_ble_eq_true rfl⟩ 0 rfl rfl rfl hl.1 (Nat.le_of_ble_eq_true rfl) d_Tree_least_10 ⟨Nat.le_of_ble_eq_true rfl, Nat.le_of_ble_eq_true rfl⟩) hP hD hS hA [0, 1, 2, 3, 4, 5, 6, 7, 8] [] [0, 1, 2, 3, 4, 5, 6, 7, 8] rfl rfl rfl rfl (by decide) rfl (fun _ => rfl) (fun _ ra H hw hP hD hS => ?_)
      subst hw
      refine lv_aload_n hx hb d_Tree_least_13 rfl (lv_at hl 0 rfl) ?_
      refine va_get (D := G.1) (ci := 4) (v := .ref a_c) (C := "BranchStore$Tree") (T := F_Tree) (N := 15) hx hb hts i_Tree hown hK hP 0 rfl rfl 0 (by decide) (hts _ k_123) (fun _ h9 => h9) rfl d_Tree_least_14 ?_
      refine lv_iload_n hx hb d_Tree_least_17 rfl (lv_at hl 1 rfl) ?_
      refine lv_iconst (v := 0) hx hb d_Tree_least_18 (by decide) ?_
      obtain ⟨r5, hr5, h⟩ := ob h
      refine zv_from (k := r4) ⟨hx, hb, hml, hown, hts⟩ hN hK hP hD hS hA (zE_mk rfl rfl rfl rfl) rfl hr5 (Nat.le_of_ble_eq_true rfl) (Nat.le_of_ble_eq_true rfl) hl.1 (Nat.le_of_ble_eq_true rfl) d_Tree_least_19 ⟨Nat.zero_le _, Nat.zero_le _⟩ (fun H hP hS => ?_)
      obtain ⟨r6, hr6, h⟩ := ob h
      refine zpcalli (wr := []) (w2 := fun _ => (wT G a_t a_c a_mv a_fr a_br a_e0 a_e1 a_e2 a_e3 a_lo a_ho c_c c_cl c_mv c_ml c_en c_rt c_fr c_br c_fi c_st c_vz)) (zrunV (As := [.int x2_1, .int r5]) (rest := []) ⟨hx, hb, hml, hown, hts⟩ hN hK (c_Tree_child l G H.size a_t a_c a_mv a_fr a_br a_e0 a_e1 a_e2 a_e3 a_lo a_ho c_c c_cl c_mv c_ml c_en c_rt c_fr c_br c_fi c_st c_vz x2_1 r5 r6 hr6) ⟨rfl, rfl⟩ kv_Tree_126 ⟨Nat.le_of_ble_eq_true rfl, Nat.le_of_ble_eq_true rfl⟩ 0 rfl rfl rfl hl.1 (Nat.le_of_ble_eq_true rfl) d_Tree_least_22 ⟨Nat.le_of_ble_eq_true rfl, Nat.le_of_ble_eq_true rfl⟩) hP hD hS hA [0, 1, 2, 3, 4, 5, 6, 7, 8] [] [0, 1, 2, 3, 4, 5, 6, 7, 8] rfl rfl rfl rfl (by decide) rfl (fun _ => rfl) (fun rr _ H hw hP hD hS => ?_)
      have hw := hw.symm
      subst hw
      refine lv_istore_n (lv' := [(2, .int r6), (0, .ref a_t)]) hx hb d_Tree_least_25 rfl hl (by decide) rfl (fun ls hl => ?_)
      refine lv_goto (tgt := 2) hx hb d_Tree_least_26 (by decide) ?_
      exact hc _ (Option.some.inj h).symm H locs ls hP hD hS hL (lv_sub hl [1, 0] rfl)
  exact L2 _ hy2 _ _ ls hP hD hS hL (lv_sub hl [1, 0] rfl)

theorem kv_Tree_92 : zKV "BranchStore$Tree" 92 y_Key_at prog_4_method_9_code 2 (some .int) 1 := ⟨k_215, k_216, k_217, k_7, k_218, by decide +kernel⟩
theorem kv_Tree_129 : zKV "BranchStore$Tree" 129 y_Tree_least prog_7_method_17_code 3 (some .int) 1 := ⟨k_275, k_277, kp_8, k_2, k_278, by decide +kernel⟩
noncomputable def s_Tree_nearest_5 (c_c : (Nat → Int32)) (c_cl : Nat) (c_kb : (Nat → Int32)) (c_kn : Int32) (x2 : Int32) : Option (Int32 ⊕ Int32) :=
if x2 ≤ 0 then
(some (.inr x2))
else
(gi (x2 + 3) c_cl <|
(if c_kn ≤ (c_c (x2 + 3).toNatClampNeg) then
(some 0)
else
(gi (x2 + 3) c_cl <|
(f_Key_at c_kb (c_c (x2 + 3).toNatClampNeg)).bind fun r8 =>
(f_Tree_child c_c c_cl x2 r8).bind fun r9 =>
some r9)).bind fun y11 =>
if y11 = 0 then
((f_Tree_least c_c c_cl x2).bind fun r14 =>
some (.inr r14))
else
(some (.inl y11)))
noncomputable def f_Tree_nearest (c_c : (Nat → Int32)) (c_cl : Nat) (c_rt : Int32) (c_kb : (Nat → Int32)) (c_kn : Int32)  : Option Int32 :=
lp (fun v => s_Tree_nearest_5 c_c c_cl c_kb c_kn v) c_rt
set_option maxHeartbeats 8000000 in
set_option maxRecDepth 100000 in
theorem c_Tree_nearest (l : Launch) (G : zG) (sz : Nat) (a_t a_c a_mv a_fr a_br a_e0 a_e1 a_e2 a_e3 a_lo a_ho a_ko a_kq : Nat) (c_c : (Nat → Int32)) (c_cl : Nat) (c_mv : (Nat → Int32)) (c_ml : Nat) (c_en : Int32) (c_rt : Int32) (c_fr : (Nat → Int32)) (c_br : (Nat → Int32)) (c_fi : Int64) (c_st : Int64) (c_vz : Int64) (c_kb : (Nat → Int32)) (c_kn : Int32) (c_kt : Int32) (r0 : Int32) (hf : f_Tree_nearest c_c c_cl c_rt c_kb c_kn = some r0) :
    Met l y_Tree_nearest (Cond.code y_Tree_nearest prog_7_method_18_code 4 (some .int) :: lw_ok) { frames := 5, cells := 0, slots := 0, locals := 116 } (zPc G sz [.ref a_t, .ref a_ko] (wT G a_t a_c a_mv a_fr a_br a_e0 a_e1 a_e2 a_e3 a_lo a_ho c_c c_cl c_mv c_ml c_en c_rt c_fr c_br c_fi c_st c_vz ++ wK G a_ko a_kq c_kb c_kn c_kt))
      ((fun (A : Nat → Prop) => va_Qi (fun (r : Int32) (_ : Unit) => r = r0) (fun _ t => zB G A (wT G a_t a_c a_mv a_fr a_br a_e0 a_e1 a_e2 a_e3 a_lo a_ho c_c c_cl c_mv c_ml c_en c_rt c_fr c_br c_fi c_st c_vz ++ wK G a_ko a_kq c_kb c_kn c_kt) t) A) (va_A (wT G a_t a_c a_mv a_fr a_br a_e0 a_e1 a_e2 a_e3 a_lo a_ho c_c c_cl c_mv c_ml c_en c_rt c_fr c_br c_fi c_st c_vz ++ wK G a_ko a_kq c_kb c_kn c_kt) sz)) 0 0 (fun q => sz ≤ q) := by
  refine zMetR (Qc := fun (A : Nat → Prop) => va_Qi (fun (r : Int32) (_ : Unit) => r = r0) (fun _ t => zB G A (wT G a_t a_c a_mv a_fr a_br a_e0 a_e1 a_e2 a_e3 a_lo a_ho c_c c_cl c_mv c_ml c_en c_rt c_fr c_br c_fi c_st c_vz ++ wK G a_ko a_kq c_kb c_kn c_kt) t) A) (by decide) (Nat.le_of_ble_eq_true rfl) (fun xp xe xs xm xb xme xc A ls Q H locs C hN hK hP hD hS hL hA hl hQ => ?_)
  obtain ⟨hx, hb, hr, hts, hown, hlocks, hml, hin⟩ := C
  have hl : lv_has ls 4 [(0, .ref a_t), (1, .ref a_ko)] := hl
  have h := hf
  unfold f_Tree_nearest at h
  refine lv_aload_n hx hb d_Tree_nearest_0 rfl (lv_at hl 0 rfl) ?_
  refine va_get (D := G.1) (ci := 4) (v := .int c_rt) (C := "BranchStore$Tree") (T := F_Tree) (N := 15) hx hb hts i_Tree hown hK hP 0 rfl rfl 3 (by decide) (hts _ k_126) (fun _ h9 => h9) rfl d_Tree_nearest_1 ?_
  refine lv_istore_n (lv' := [(2, .int c_rt), (0, .ref a_t), (1, .ref a_ko)]) hx hb d_Tree_nearest_4 rfl hl (by decide) rfl (fun ls hl => ?_)
  have L5 : ∀ v : Int32, lp (fun v => s_Tree_nearest_5 c_c c_cl c_kb c_kn v) v = some r0 → ∀ (H : Heap) (locs : List Loc) (ls : Array Slot), va_P G.1 classes (wT G a_t a_c a_mv a_fr a_br a_e0 a_e1 a_e2 a_e3 a_lo a_ho c_c c_cl c_mv c_ml c_en c_rt c_fr c_br c_fi c_st c_vz ++ wK G a_ko a_kq c_kb c_kn c_kt) H → va_D A (wT G a_t a_c a_mv a_fr a_br a_e0 a_e1 a_e2 a_e3 a_lo a_ho c_c c_cl c_mv c_ml c_en c_rt c_fr c_br c_fi c_st c_vz ++ wK G a_ko a_kq c_kb c_kn c_kt) → va_S A xs.heap H locs → (∀ q ∈ locs, xs.heap.size ≤ q.base) → lv_has ls 4 [(0, .ref a_t), (1, .ref a_ko), (2, .int v)] → W xp l xe { frames := 5, cells := 0, slots := 0, locals := 116 } xs xm ([.ref a_t, .ref a_ko] : List Value).toArray xb xme xc H locs 0 0 Q (F0 xm 5 ls []) := by
    refine lp_walk _ (fun v x h hc he => ?_)
    obtain ⟨x2_1, rfl⟩ : ∃ z, z = v := ⟨_, rfl⟩
    intro H locs ls hP hD hS hL hl
    have h : s_Tree_nearest_5 c_c c_cl c_kb c_kn x2_1 = some x := h
    unfold s_Tree_nearest_5 at h
    refine lv_iload_n hx hb d_Tree_nearest_5 rfl (lv_at hl 2 rfl) ?_
    refine lv_if_le (tgt := 61) hx hb d_Tree_nearest_6 (by decide) (fun q3 => ?_) (fun q3 => ?_)
    · have h := it h q3
      refine lv_iload_n hx hb d_Tree_nearest_61 rfl (lv_at hl 2 rfl) ?_
      obtain rfl := he _ (Option.some.inj h).symm
      exact zreti () hQ hL hx hb hr hlocks hP hD hS rfl (Nat.le_refl _) (Nat.le_refl _) d_Tree_nearest_62
    · have h := ie h q3
      refine lv_aload_n hx hb d_Tree_nearest_9 rfl (lv_at hl 0 rfl) ?_
      refine va_get (D := G.1) (ci := 4) (v := .ref a_c) (C := "BranchStore$Tree") (T := F_Tree) (N := 15) hx hb hts i_Tree hown hK hP 0 rfl rfl 0 (by decide) (hts _ k_123) (fun _ h9 => h9) rfl d_Tree_nearest_10 ?_
      refine lv_iload_n hx hb d_Tree_nearest_13 rfl (lv_at hl 2 rfl) ?_
      refine lv_iconst (v := 3) hx hb d_Tree_nearest_14 (by decide) ?_
      refine lv_iadd hx hb d_Tree_nearest_15 ?_
      obtain ⟨h4, h⟩ := gi_k h
      refine va_iald hx hb hK hP 1 0 rfl rfl h4 d_Tree_nearest_16 ?_
      refine lv_aload_n hx hb d_Tree_nearest_17 rfl (lv_at hl 1 rfl) ?_
      refine va_get (D := G.1) (ci := 0) (v := .int c_kn) (C := "BranchStore$Key") (T := F_Key) (N := 3) hx hb hts i_Key hown hK hP 9 rfl rfl 1 (by decide) (hts _ k_110) (fun _ h9 => h9) rfl d_Tree_nearest_18 ?_
      obtain ⟨y10, hy10, h⟩ := ob h
      have J45 : ∀ (z12 : Int32), z12 = y10 → ∀ (H : Heap) (locs : List Loc) (ls : Array Slot), va_P G.1 classes (wT G a_t a_c a_mv a_fr a_br a_e0 a_e1 a_e2 a_e3 a_lo a_ho c_c c_cl c_mv c_ml c_en c_rt c_fr c_br c_fi c_st c_vz ++ wK G a_ko a_kq c_kb c_kn c_kt) H → va_D A (wT G a_t a_c a_mv a_fr a_br a_e0 a_e1 a_e2 a_e3 a_lo a_ho c_c c_cl c_mv c_ml c_en c_rt c_fr c_br c_fi c_st c_vz ++ wK G a_ko a_kq c_kb c_kn c_kt) → va_S A xs.heap H locs → (∀ q ∈ locs, xs.heap.size ≤ q.base) → lv_has ls 4 [(0, .ref a_t), (1, .ref a_ko), (2, .int x2_1)] → W xp l xe { frames := 5, cells := 0, slots := 0, locals := 116 } xs xm ([.ref a_t, .ref a_ko] : List Value).toArray xb xme xc H locs 0 0 Q (F0 xm 45 ls [.int z12]) := by
        intro z12 ey H locs ls hP hD hS hL hl
        subst ey
        try dsimp only at h
        refine lv_istore_n (lv' := [(3, .int z12), (0, .ref a_t), (1, .ref a_ko), (2, .int x2_1)]) hx hb d_Tree_nearest_45 rfl hl (by decide) rfl (fun ls hl => ?_)
        refine lv_iload_n hx hb d_Tree_nearest_46 rfl (lv_at hl 0 rfl) ?_
        refine lv_if_ne (tgt := 56) hx hb d_Tree_nearest_47 (by decide) (fun q13 => ?_) (fun q13 => ?_)
        · have h := ie h q13
          refine lv_iload_n hx hb d_Tree_nearest_56 rfl (lv_at hl 0 rfl) ?_
          refine lv_istore_n (lv' := [(2, .int z12), (3, .int z12), (0, .ref a_t), (1, .ref a_ko)]) hx hb d_Tree_nearest_57 rfl hl (by decide) rfl (fun ls hl => ?_)
          refine lv_goto (tgt := 5) hx hb d_Tree_nearest_58 (by decide) ?_
          exact hc _ (Option.some.inj h).symm H locs ls hP hD hS hL (lv_sub hl [2, 3, 0] rfl)
        · have h := it h q13
          refine lv_aload_n hx hb d_Tree_nearest_50 rfl (lv_at hl 1 rfl) ?_
          refine lv_iload_n hx hb d_Tree_nearest_51 rfl (lv_at hl 3 rfl) ?_
          obtain ⟨r14, hr14, h⟩ := ob h
          refine zpcalli (wr := [(a_ko, .inr (0, [.ref a_kq, .int c_kn, .int c_kt])), (a_kq, .inl (G.2.2.1, 50, .inl c_kb))]) (w2 := fun _ => (wT G a_t a_c a_mv a_fr a_br a_e0 a_e1 a_e2 a_e3 a_lo a_ho c_c c_cl c_mv c_ml c_en c_rt c_fr c_br c_fi c_st c_vz ++ wK G a_ko a_kq c_kb c_kn c_kt)) (zrunV (As := [.int x2_1]) (rest := []) ⟨hx, hb, hml, hown, hts⟩ hN hK (c_Tree_least l G H.size a_t a_c a_mv a_fr a_br a_e0 a_e1 a_e2 a_e3 a_lo a_ho c_c c_cl c_mv c_ml c_en c_rt c_fr c_br c_fi c_st c_vz x2_1 r14 hr14) ⟨rfl, rfl⟩ kv_Tree_129 ⟨Nat.le_of_ble_eq_true rfl, Nat.le_of_ble_eq_true rfl⟩ 0 rfl rfl rfl hl.1 (Nat.le_of_ble_eq_true rfl) d_Tree_nearest_52 ⟨Nat.le_of_ble_eq_true rfl, Nat.le_of_ble_eq_true rfl⟩) hP hD hS hA [0, 1, 2, 3, 4, 5, 6, 7, 8] [9, 10] [2, 3, 4, 5, 6, 7, 8, 9, 10, 0, 1] rfl rfl rfl rfl (by decide) rfl (fun _ => rfl) (fun rr _ H hw hP hD hS => ?_)
          have hw := hw.symm
          subst hw
          obtain rfl := he _ (Option.some.inj h).symm
          exact zreti () hQ hL hx hb hr hlocks hP hD hS rfl (Nat.le_refl _) (Nat.le_refl _) d_Tree_nearest_55
      have h := hy10
      refine lv_icmp_ge (tgt := 44) hx hb d_Tree_nearest_21 (by decide) (fun q6 => ?_) (fun q6 => ?_)
      · have h := it h q6
        refine lv_iconst (v := 0) hx hb d_Tree_nearest_44 (by decide) ?_
        exact J45 0 (Option.some.inj h) H locs ls hP hD hS hL (lv_sub hl [0, 1, 2] rfl)
      · have h := ie h q6
        refine lv_aload_n hx hb d_Tree_nearest_24 rfl (lv_at hl 0 rfl) ?_
        refine lv_iload_n hx hb d_Tree_nearest_25 rfl (lv_at hl 2 rfl) ?_
        refine lv_aload_n hx hb d_Tree_nearest_26 rfl (lv_at hl 1 rfl) ?_
        refine lv_aload_n hx hb d_Tree_nearest_27 rfl (lv_at hl 0 rfl) ?_
        refine va_get (D := G.1) (ci := 4) (v := .ref a_c) (C := "BranchStore$Tree") (T := F_Tree) (N := 15) hx hb hts i_Tree hown hK hP 0 rfl rfl 0 (by decide) (hts _ k_123) (fun _ h9 => h9) rfl d_Tree_nearest_28 ?_
        refine lv_iload_n hx hb d_Tree_nearest_31 rfl (lv_at hl 2 rfl) ?_
        refine lv_iconst (v := 3) hx hb d_Tree_nearest_32 (by decide) ?_
        refine lv_iadd hx hb d_Tree_nearest_33 ?_
        obtain ⟨h7, h⟩ := gi_k h
        refine va_iald hx hb hK hP 1 0 rfl rfl h7 d_Tree_nearest_34 ?_
        obtain ⟨r8, hr8, h⟩ := ob h
        refine zpcalli (wr := [(a_t, .inr (4, [.ref a_c, .ref a_mv, .int c_en, .int c_rt, .ref a_fr, .ref a_e0, .ref a_e1, .ref a_e2, .ref a_e3, .ref a_br, .ref a_lo, .ref a_ho, .long c_fi, .long c_st, .long c_vz])), (a_c, .inl (G.2.1, c_cl, .inl c_c)), (a_mv, .inl (G.2.1, c_ml, .inl c_mv)), (a_fr, .inl (G.2.1, 261, .inl c_fr)), (a_br, .inl (G.2.1, 4, .inl c_br)), (a_e0, .inr (1, [.int 0, .int 9, .int 4, .int 5])), (a_e1, .inr (1, [.int 1, .int 24, .int 16, .int 8])), (a_e2, .inr (2, [.int 2, .int 116, .int 48])), (a_e3, .inr (3, [.int 3, .int 260, .int 256]))]) (w2 := fun _ => (wT G a_t a_c a_mv a_fr a_br a_e0 a_e1 a_e2 a_e3 a_lo a_ho c_c c_cl c_mv c_ml c_en c_rt c_fr c_br c_fi c_st c_vz ++ wK G a_ko a_kq c_kb c_kn c_kt)) (zrunV (As := [.int (c_c (x2_1 + 3).toNatClampNeg)]) (rest := [.int x2_1, .ref a_t]) ⟨hx, hb, hml, hown, hts⟩ hN hK (c_Key_at l G H.size a_ko a_kq c_kb c_kn c_kt (c_c (x2_1 + 3).toNatClampNeg) r8 hr8) ⟨rfl, rfl⟩ kv_Tree_92 ⟨Nat.le_of_ble_eq_true rfl, Nat.le_of_ble_eq_true rfl⟩ 0 rfl rfl rfl hl.1 (Nat.le_of_ble_eq_true rfl) d_Tree_nearest_35 ⟨Nat.le_of_ble_eq_true rfl, Nat.le_of_ble_eq_true rfl⟩) hP hD hS hA [9, 10] [0, 1, 2, 3, 4, 5, 6, 7, 8] [0, 1, 2, 3, 4, 5, 6, 7, 8, 9, 10] rfl rfl rfl rfl (by decide) rfl (fun _ => rfl) (fun rr _ H hw hP hD hS => ?_)
        have hw := hw.symm
        subst hw
        obtain ⟨r9, hr9, h⟩ := ob h
        refine zpcalli (wr := [(a_ko, .inr (0, [.ref a_kq, .int c_kn, .int c_kt])), (a_kq, .inl (G.2.2.1, 50, .inl c_kb))]) (w2 := fun _ => (wT G a_t a_c a_mv a_fr a_br a_e0 a_e1 a_e2 a_e3 a_lo a_ho c_c c_cl c_mv c_ml c_en c_rt c_fr c_br c_fi c_st c_vz ++ wK G a_ko a_kq c_kb c_kn c_kt)) (zrunV (As := [.int x2_1, .int r8]) (rest := []) ⟨hx, hb, hml, hown, hts⟩ hN hK (c_Tree_child l G H.size a_t a_c a_mv a_fr a_br a_e0 a_e1 a_e2 a_e3 a_lo a_ho c_c c_cl c_mv c_ml c_en c_rt c_fr c_br c_fi c_st c_vz x2_1 r8 r9 hr9) ⟨rfl, rfl⟩ kv_Tree_126 ⟨Nat.le_of_ble_eq_true rfl, Nat.le_of_ble_eq_true rfl⟩ 0 rfl rfl rfl hl.1 (Nat.le_of_ble_eq_true rfl) d_Tree_nearest_38 ⟨Nat.le_of_ble_eq_true rfl, Nat.le_of_ble_eq_true rfl⟩) hP hD hS hA [0, 1, 2, 3, 4, 5, 6, 7, 8] [9, 10] [2, 3, 4, 5, 6, 7, 8, 9, 10, 0, 1] rfl rfl rfl rfl (by decide) rfl (fun _ => rfl) (fun rr _ H hw hP hD hS => ?_)
        have hw := hw.symm
        subst hw
        refine lv_goto (tgt := 45) hx hb d_Tree_nearest_41 (by decide) ?_
        exact J45 r9 (Option.some.inj h) H locs ls hP hD hS hL (lv_sub hl [0, 1, 2] rfl)
  exact L5 _ h _ _ ls hP hD hS hL (lv_sub hl [1, 2, 0] rfl)

noncomputable def s_Tree_differs_18 (c_c : (Nat → Int32)) (c_cl : Nat) (c_kb : (Nat → Int32)) (x2 : Int32) (x3 : Int32) (x4 : Int32) : Option (Int32 ⊕ Int32) :=
if x3 ≤ x4 then
(some (.inr x4))
else
((f_Key_at c_kb x4).bind fun r6 =>
(f_Tree_byteOf c_c c_cl x2 x4).bind fun r7 =>
if r6 = r7 then
(nm (x4 + 1) fun v9 =>
some (.inl v9))
else
(some (.inr x4)))
noncomputable def f_Tree_differs (c_c : (Nat → Int32)) (c_cl : Nat) (c_kb : (Nat → Int32)) (c_kn : Int32) (p_2 : Int32) : Option Int32 :=
gi (-p_2) c_cl <|
nm (if (c_c (-p_2).toNatClampNeg) < c_kn then (c_c (-p_2).toNatClampNeg) else c_kn) fun v2 =>
(lp (fun v => s_Tree_differs_18 c_c c_cl c_kb p_2 v2 v) 0).bind fun y11 =>
some y11
set_option maxHeartbeats 8000000 in
set_option maxRecDepth 100000 in
theorem c_Tree_differs (l : Launch) (G : zG) (sz : Nat) (a_t a_c a_mv a_fr a_br a_e0 a_e1 a_e2 a_e3 a_lo a_ho a_ko a_kq : Nat) (c_c : (Nat → Int32)) (c_cl : Nat) (c_mv : (Nat → Int32)) (c_ml : Nat) (c_en : Int32) (c_rt : Int32) (c_fr : (Nat → Int32)) (c_br : (Nat → Int32)) (c_fi : Int64) (c_st : Int64) (c_vz : Int64) (c_kb : (Nat → Int32)) (c_kn : Int32) (c_kt : Int32) (p_2 : Int32) (r0 : Int32) (hf : f_Tree_differs c_c c_cl c_kb c_kn p_2 = some r0) :
    Met l y_Tree_differs (Cond.code y_Tree_differs prog_7_method_19_code 5 (some .int) :: lw_ok) { frames := 1, cells := 0, slots := 0, locals := 22 } (zPc G sz [.ref a_t, .ref a_ko, .int p_2] (wT G a_t a_c a_mv a_fr a_br a_e0 a_e1 a_e2 a_e3 a_lo a_ho c_c c_cl c_mv c_ml c_en c_rt c_fr c_br c_fi c_st c_vz ++ wK G a_ko a_kq c_kb c_kn c_kt))
      ((fun (A : Nat → Prop) => va_Qi (fun (r : Int32) (_ : Unit) => r = r0) (fun _ t => zB G A (wT G a_t a_c a_mv a_fr a_br a_e0 a_e1 a_e2 a_e3 a_lo a_ho c_c c_cl c_mv c_ml c_en c_rt c_fr c_br c_fi c_st c_vz ++ wK G a_ko a_kq c_kb c_kn c_kt) t) A) (va_A (wT G a_t a_c a_mv a_fr a_br a_e0 a_e1 a_e2 a_e3 a_lo a_ho c_c c_cl c_mv c_ml c_en c_rt c_fr c_br c_fi c_st c_vz ++ wK G a_ko a_kq c_kb c_kn c_kt) sz)) 0 0 (fun q => sz ≤ q) := by
  refine zMetR (Qc := fun (A : Nat → Prop) => va_Qi (fun (r : Int32) (_ : Unit) => r = r0) (fun _ t => zB G A (wT G a_t a_c a_mv a_fr a_br a_e0 a_e1 a_e2 a_e3 a_lo a_ho c_c c_cl c_mv c_ml c_en c_rt c_fr c_br c_fi c_st c_vz ++ wK G a_ko a_kq c_kb c_kn c_kt) t) A) (by decide) (Nat.le_of_ble_eq_true rfl) (fun xp xe xs xm xb xme xc A ls Q H locs C hN hK hP hD hS hL hA hl hQ => ?_)
  obtain ⟨hx, hb, hr, hts, hown, hlocks, hml, hin⟩ := C
  have hl : lv_has ls 5 [(0, .ref a_t), (1, .ref a_ko), (2, .int p_2)] := hl
  have h := hf
  unfold f_Tree_differs at h
  refine lv_aload_n hx hb d_Tree_differs_0 rfl (lv_at hl 1 rfl) ?_
  refine va_get (D := G.1) (ci := 0) (v := .int c_kn) (C := "BranchStore$Key") (T := F_Key) (N := 3) hx hb hts i_Key hown hK hP 9 rfl rfl 1 (by decide) (hts _ k_110) (fun _ h9 => h9) rfl d_Tree_differs_1 ?_
  refine lv_aload_n hx hb d_Tree_differs_4 rfl (lv_at hl 0 rfl) ?_
  refine va_get (D := G.1) (ci := 4) (v := .ref a_c) (C := "BranchStore$Tree") (T := F_Tree) (N := 15) hx hb hts i_Tree hown hK hP 0 rfl rfl 0 (by decide) (hts _ k_123) (fun _ h9 => h9) rfl d_Tree_differs_5 ?_
  refine lv_iload_n hx hb d_Tree_differs_8 rfl (lv_at hl 2 rfl) ?_
  refine lv_ineg hx hb d_Tree_differs_9 ?_
  obtain ⟨h1, h⟩ := gi_k h
  refine va_iald hx hb hK hP 1 0 rfl rfl h1 d_Tree_differs_10 ?_
  refine va_mmin hx hb (hml.trans hl.1.symm) hown (hts _ k_256) (hts _ k_257) (hts _ k_16) (hts _ k_258) (Nat.le_of_ble_eq_true rfl) (Nat.le_of_ble_eq_true rfl) (Nat.zero_le _) (Nat.zero_le _) d_Tree_differs_11 ?_
  refine lv_topi (fun v2 ev2 => ?_)
  have h := nm_k h v2 ev2
  refine lv_istore_n (lv' := [(3, .int v2), (0, .ref a_t), (1, .ref a_ko), (2, .int p_2)]) hx hb d_Tree_differs_14 rfl hl (by decide) rfl (fun ls hl => ?_)
  refine lv_iconst (v := 0) hx hb d_Tree_differs_15 (by decide) ?_
  refine lv_istore (lv' := [(4, .int 0), (3, .int v2), (0, .ref a_t), (1, .ref a_ko), (2, .int p_2)]) hx hb d_Tree_differs_16 hl (by decide) rfl (fun ls hl => ?_)
  obtain ⟨y4, hy4, h⟩ := ob h
  have E18 : ∀ (z10 : Int32), z10 = y4 → ∀ (H : Heap) (locs : List Loc) (ls : Array Slot), va_P G.1 classes (wT G a_t a_c a_mv a_fr a_br a_e0 a_e1 a_e2 a_e3 a_lo a_ho c_c c_cl c_mv c_ml c_en c_rt c_fr c_br c_fi c_st c_vz ++ wK G a_ko a_kq c_kb c_kn c_kt) H → va_D A (wT G a_t a_c a_mv a_fr a_br a_e0 a_e1 a_e2 a_e3 a_lo a_ho c_c c_cl c_mv c_ml c_en c_rt c_fr c_br c_fi c_st c_vz ++ wK G a_ko a_kq c_kb c_kn c_kt) → va_S A xs.heap H locs → (∀ q ∈ locs, xs.heap.size ≤ q.base) → lv_has ls 5 [(4, .int z10)] → W xp l xe { frames := 1, cells := 0, slots := 0, locals := 22 } xs xm ([.ref a_t, .ref a_ko, .int p_2] : List Value).toArray xb xme xc H locs 0 0 Q (F0 xm 46 ls []) := by
    intro z10 ey H locs ls hP hD hS hL hl
    subst ey
    try dsimp only at h
    refine lv_iload hx hb d_Tree_differs_46 (lv_at hl 0 rfl) ?_
    obtain rfl := Option.some.inj h
    exact zreti () hQ hL hx hb hr hlocks hP hD hS rfl (Nat.le_refl _) (Nat.le_refl _) d_Tree_differs_48
  have L18 : ∀ v : Int32, lp (fun v => s_Tree_differs_18 c_c c_cl c_kb p_2 v2 v) v = some y4 → ∀ (H : Heap) (locs : List Loc) (ls : Array Slot), va_P G.1 classes (wT G a_t a_c a_mv a_fr a_br a_e0 a_e1 a_e2 a_e3 a_lo a_ho c_c c_cl c_mv c_ml c_en c_rt c_fr c_br c_fi c_st c_vz ++ wK G a_ko a_kq c_kb c_kn c_kt) H → va_D A (wT G a_t a_c a_mv a_fr a_br a_e0 a_e1 a_e2 a_e3 a_lo a_ho c_c c_cl c_mv c_ml c_en c_rt c_fr c_br c_fi c_st c_vz ++ wK G a_ko a_kq c_kb c_kn c_kt) → va_S A xs.heap H locs → (∀ q ∈ locs, xs.heap.size ≤ q.base) → lv_has ls 5 [(0, .ref a_t), (1, .ref a_ko), (2, .int p_2), (3, .int v2), (4, .int v)] → W xp l xe { frames := 1, cells := 0, slots := 0, locals := 22 } xs xm ([.ref a_t, .ref a_ko, .int p_2] : List Value).toArray xb xme xc H locs 0 0 Q (F0 xm 18 ls []) := by
    refine lp_walk _ (fun v x h hc he => ?_)
    obtain ⟨x4_3, rfl⟩ : ∃ z, z = v := ⟨_, rfl⟩
    intro H locs ls hP hD hS hL hl
    have h : s_Tree_differs_18 c_c c_cl c_kb p_2 v2 x4_3 = some x := h
    unfold s_Tree_differs_18 at h
    refine lv_iload hx hb d_Tree_differs_18 (lv_at hl 4 rfl) ?_
    refine lv_iload_n hx hb d_Tree_differs_20 rfl (lv_at hl 3 rfl) ?_
    refine lv_icmp_ge (tgt := 46) hx hb d_Tree_differs_21 (by decide) (fun q5 => ?_) (fun q5 => ?_)
    · have h := it h q5
      exact E18 x4_3 (he _ (Option.some.inj h).symm) H locs ls hP hD hS hL (lv_sub hl [4] rfl)
    · have h := ie h q5
      refine lv_aload_n hx hb d_Tree_differs_24 rfl (lv_at hl 1 rfl) ?_
      refine lv_iload hx hb d_Tree_differs_25 (lv_at hl 4 rfl) ?_
      obtain ⟨r6, hr6, h⟩ := ob h
      refine zpcalli (wr := [(a_t, .inr (4, [.ref a_c, .ref a_mv, .int c_en, .int c_rt, .ref a_fr, .ref a_e0, .ref a_e1, .ref a_e2, .ref a_e3, .ref a_br, .ref a_lo, .ref a_ho, .long c_fi, .long c_st, .long c_vz])), (a_c, .inl (G.2.1, c_cl, .inl c_c)), (a_mv, .inl (G.2.1, c_ml, .inl c_mv)), (a_fr, .inl (G.2.1, 261, .inl c_fr)), (a_br, .inl (G.2.1, 4, .inl c_br)), (a_e0, .inr (1, [.int 0, .int 9, .int 4, .int 5])), (a_e1, .inr (1, [.int 1, .int 24, .int 16, .int 8])), (a_e2, .inr (2, [.int 2, .int 116, .int 48])), (a_e3, .inr (3, [.int 3, .int 260, .int 256]))]) (w2 := fun _ => (wT G a_t a_c a_mv a_fr a_br a_e0 a_e1 a_e2 a_e3 a_lo a_ho c_c c_cl c_mv c_ml c_en c_rt c_fr c_br c_fi c_st c_vz ++ wK G a_ko a_kq c_kb c_kn c_kt)) (zrunV (As := [.int x4_3]) (rest := []) ⟨hx, hb, hml, hown, hts⟩ hN hK (c_Key_at l G H.size a_ko a_kq c_kb c_kn c_kt x4_3 r6 hr6) ⟨rfl, rfl⟩ kv_Tree_92 ⟨Nat.le_of_ble_eq_true rfl, Nat.le_of_ble_eq_true rfl⟩ 0 rfl rfl rfl hl.1 (Nat.le_of_ble_eq_true rfl) d_Tree_differs_27 ⟨Nat.le_of_ble_eq_true rfl, Nat.le_of_ble_eq_true rfl⟩) hP hD hS hA [9, 10] [0, 1, 2, 3, 4, 5, 6, 7, 8] [0, 1, 2, 3, 4, 5, 6, 7, 8, 9, 10] rfl rfl rfl rfl (by decide) rfl (fun _ => rfl) (fun rr _ H hw hP hD hS => ?_)
      have hw := hw.symm
      subst hw
      refine lv_aload_n hx hb d_Tree_differs_30 rfl (lv_at hl 0 rfl) ?_
      refine lv_iload_n hx hb d_Tree_differs_31 rfl (lv_at hl 2 rfl) ?_
      refine lv_iload hx hb d_Tree_differs_32 (lv_at hl 4 rfl) ?_
      obtain ⟨r7, hr7, h⟩ := ob h
      refine zpcalli (wr := [(a_ko, .inr (0, [.ref a_kq, .int c_kn, .int c_kt])), (a_kq, .inl (G.2.2.1, 50, .inl c_kb))]) (w2 := fun _ => (wT G a_t a_c a_mv a_fr a_br a_e0 a_e1 a_e2 a_e3 a_lo a_ho c_c c_cl c_mv c_ml c_en c_rt c_fr c_br c_fi c_st c_vz ++ wK G a_ko a_kq c_kb c_kn c_kt)) (zrunV (As := [.int p_2, .int x4_3]) (rest := [.int r6]) ⟨hx, hb, hml, hown, hts⟩ hN hK (c_Tree_byteOf l G H.size a_t a_c a_mv a_fr a_br a_e0 a_e1 a_e2 a_e3 a_lo a_ho c_c c_cl c_mv c_ml c_en c_rt c_fr c_br c_fi c_st c_vz p_2 x4_3 r7 hr7) ⟨rfl, rfl⟩ kv_Tree_105 ⟨Nat.le_of_ble_eq_true rfl, Nat.le_of_ble_eq_true rfl⟩ 0 rfl rfl rfl hl.1 (Nat.le_of_ble_eq_true rfl) d_Tree_differs_34 ⟨Nat.le_of_ble_eq_true rfl, Nat.le_of_ble_eq_true rfl⟩) hP hD hS hA [0, 1, 2, 3, 4, 5, 6, 7, 8] [9, 10] [2, 3, 4, 5, 6, 7, 8, 9, 10, 0, 1] rfl rfl rfl rfl (by decide) rfl (fun _ => rfl) (fun rr _ H hw hP hD hS => ?_)
      have hw := hw.symm
      subst hw
      refine lv_icmp_ne (tgt := 46) hx hb d_Tree_differs_37 (by decide) (fun q8 => ?_) (fun q8 => ?_)
      · have h := ie h q8
        exact E18 x4_3 (he _ (Option.some.inj h).symm) H locs ls hP hD hS hL (lv_sub hl [4] rfl)
      · have h := it h q8
        obtain ⟨v9, ev9⟩ : ∃ y : Int32, y = x4_3 + 1 := ⟨_, rfl⟩
        have h := nm_k h v9 ev9
        refine lv_iinc (v := v9) (lv' := [(4, .int v9), (0, .ref a_t), (1, .ref a_ko), (2, .int p_2), (3, .int v2)]) hx hb d_Tree_differs_40 hl (k := 4) rfl (by rw [ev9]; rfl) (by decide) rfl (fun ls hl => ?_)
        refine lv_goto (tgt := 18) hx hb d_Tree_differs_43 (by decide) ?_
        exact hc _ (Option.some.inj h).symm H locs ls hP hD hS hL (lv_sub hl [1, 2, 3, 4, 0] rfl)
  exact L18 _ hy4 _ _ ls hP hD hS hL (lv_sub hl [2, 3, 4, 1, 0] rfl)

theorem kv_Tree_137 : zKV "BranchStore$Tree" 137 y_Tree_differs prog_7_method_19_code 5 (some .int) 2 := ⟨k_252, k_254, kp_5, k_2, k_255, by decide +kernel⟩
noncomputable def s_Tree_find_5 (c_c : (Nat → Int32)) (c_cl : Nat) (c_kb : (Nat → Int32)) (c_kn : Int32) (x2 : Int32) : Option (Int32 ⊕ Int32) :=
if x2 ≤ 0 then
(some (.inr x2))
else
(gi (x2 + 3) c_cl <|
(if c_kn ≤ (c_c (x2 + 3).toNatClampNeg) then
(some 0)
else
(gi (x2 + 3) c_cl <|
(f_Key_at c_kb (c_c (x2 + 3).toNatClampNeg)).bind fun r8 =>
(f_Tree_child c_c c_cl x2 r8).bind fun r9 =>
some r9)).bind fun y11 =>
some (.inl y11))
noncomputable def f_Tree_find (c_c : (Nat → Int32)) (c_cl : Nat) (c_rt : Int32) (c_kb : (Nat → Int32)) (c_kn : Int32)  : Option Int32 :=
(lp (fun v => s_Tree_find_5 c_c c_cl c_kb c_kn v) c_rt).bind fun y14 =>
if 0 ≤ y14 then
(some 0)
else
(gi (-y14) c_cl <|
if (c_c (-y14).toNatClampNeg) = c_kn then
((f_Tree_differs c_c c_cl c_kb c_kn y14).bind fun r18 =>
if r18 = c_kn then
(some y14)
else
(some 0))
else
(some 0))
set_option maxHeartbeats 8000000 in
set_option maxRecDepth 100000 in
theorem c_Tree_find (l : Launch) (G : zG) (sz : Nat) (a_t a_c a_mv a_fr a_br a_e0 a_e1 a_e2 a_e3 a_lo a_ho a_ko a_kq : Nat) (c_c : (Nat → Int32)) (c_cl : Nat) (c_mv : (Nat → Int32)) (c_ml : Nat) (c_en : Int32) (c_rt : Int32) (c_fr : (Nat → Int32)) (c_br : (Nat → Int32)) (c_fi : Int64) (c_st : Int64) (c_vz : Int64) (c_kb : (Nat → Int32)) (c_kn : Int32) (c_kt : Int32) (r0 : Int32) (hf : f_Tree_find c_c c_cl c_rt c_kb c_kn = some r0) :
    Met l y_Tree_find (Cond.code y_Tree_find prog_7_method_20_code 3 (some .int) :: lw_ok) { frames := 4, cells := 0, slots := 0, locals := 94 } (zPc G sz [.ref a_t, .ref a_ko] (wT G a_t a_c a_mv a_fr a_br a_e0 a_e1 a_e2 a_e3 a_lo a_ho c_c c_cl c_mv c_ml c_en c_rt c_fr c_br c_fi c_st c_vz ++ wK G a_ko a_kq c_kb c_kn c_kt))
      ((fun (A : Nat → Prop) => va_Qi (fun (r : Int32) (_ : Unit) => r = r0) (fun _ t => zB G A (wT G a_t a_c a_mv a_fr a_br a_e0 a_e1 a_e2 a_e3 a_lo a_ho c_c c_cl c_mv c_ml c_en c_rt c_fr c_br c_fi c_st c_vz ++ wK G a_ko a_kq c_kb c_kn c_kt) t) A) (va_A (wT G a_t a_c a_mv a_fr a_br a_e0 a_e1 a_e2 a_e3 a_lo a_ho c_c c_cl c_mv c_ml c_en c_rt c_fr c_br c_fi c_st c_vz ++ wK G a_ko a_kq c_kb c_kn c_kt) sz)) 0 0 (fun q => sz ≤ q) := by
  refine zMetR (Qc := fun (A : Nat → Prop) => va_Qi (fun (r : Int32) (_ : Unit) => r = r0) (fun _ t => zB G A (wT G a_t a_c a_mv a_fr a_br a_e0 a_e1 a_e2 a_e3 a_lo a_ho c_c c_cl c_mv c_ml c_en c_rt c_fr c_br c_fi c_st c_vz ++ wK G a_ko a_kq c_kb c_kn c_kt) t) A) (by decide) (Nat.le_of_ble_eq_true rfl) (fun xp xe xs xm xb xme xc A ls Q H locs C hN hK hP hD hS hL hA hl hQ => ?_)
  obtain ⟨hx, hb, hr, hts, hown, hlocks, hml, hin⟩ := C
  have hl : lv_has ls 3 [(0, .ref a_t), (1, .ref a_ko)] := hl
  have h := hf
  unfold f_Tree_find at h
  refine lv_aload_n hx hb d_Tree_find_0 rfl (lv_at hl 0 rfl) ?_
  refine va_get (D := G.1) (ci := 4) (v := .int c_rt) (C := "BranchStore$Tree") (T := F_Tree) (N := 15) hx hb hts i_Tree hown hK hP 0 rfl rfl 3 (by decide) (hts _ k_126) (fun _ h9 => h9) rfl d_Tree_find_1 ?_
  refine lv_istore_n (lv' := [(2, .int c_rt), (0, .ref a_t), (1, .ref a_ko)]) hx hb d_Tree_find_4 rfl hl (by decide) rfl (fun ls hl => ?_)
  obtain ⟨y2, hy2, h⟩ := ob h
  have E5 : ∀ (z13 : Int32), z13 = y2 → ∀ (H : Heap) (locs : List Loc) (ls : Array Slot), va_P G.1 classes (wT G a_t a_c a_mv a_fr a_br a_e0 a_e1 a_e2 a_e3 a_lo a_ho c_c c_cl c_mv c_ml c_en c_rt c_fr c_br c_fi c_st c_vz ++ wK G a_ko a_kq c_kb c_kn c_kt) H → va_D A (wT G a_t a_c a_mv a_fr a_br a_e0 a_e1 a_e2 a_e3 a_lo a_ho c_c c_cl c_mv c_ml c_en c_rt c_fr c_br c_fi c_st c_vz ++ wK G a_ko a_kq c_kb c_kn c_kt) → va_S A xs.heap H locs → (∀ q ∈ locs, xs.heap.size ≤ q.base) → lv_has ls 3 [(0, .ref a_t), (1, .ref a_ko), (2, .int z13)] → W xp l xe { frames := 4, cells := 0, slots := 0, locals := 94 } xs xm ([.ref a_t, .ref a_ko] : List Value).toArray xb xme xc H locs 0 0 Q (F0 xm 49 ls []) := by
    intro z13 ey H locs ls hP hD hS hL hl
    subst ey
    try dsimp only at h
    refine lv_iload_n hx hb d_Tree_find_49 rfl (lv_at hl 2 rfl) ?_
    refine lv_if_ge (tgt := 84) hx hb d_Tree_find_50 (by decide) (fun q15 => ?_) (fun q15 => ?_)
    · have h := it h q15
      refine lv_iconst (v := 0) hx hb d_Tree_find_84 (by decide) ?_
      obtain rfl := Option.some.inj h
      exact zreti () hQ hL hx hb hr hlocks hP hD hS rfl (Nat.le_refl _) (Nat.le_refl _) d_Tree_find_85
    · have h := ie h q15
      refine lv_aload_n hx hb d_Tree_find_53 rfl (lv_at hl 0 rfl) ?_
      refine va_get (D := G.1) (ci := 4) (v := .ref a_c) (C := "BranchStore$Tree") (T := F_Tree) (N := 15) hx hb hts i_Tree hown hK hP 0 rfl rfl 0 (by decide) (hts _ k_123) (fun _ h9 => h9) rfl d_Tree_find_54 ?_
      refine lv_iload_n hx hb d_Tree_find_57 rfl (lv_at hl 2 rfl) ?_
      refine lv_ineg hx hb d_Tree_find_58 ?_
      obtain ⟨h16, h⟩ := gi_k h
      refine va_iald hx hb hK hP 1 0 rfl rfl h16 d_Tree_find_59 ?_
      refine lv_aload_n hx hb d_Tree_find_60 rfl (lv_at hl 1 rfl) ?_
      refine va_get (D := G.1) (ci := 0) (v := .int c_kn) (C := "BranchStore$Key") (T := F_Key) (N := 3) hx hb hts i_Key hown hK hP 9 rfl rfl 1 (by decide) (hts _ k_110) (fun _ h9 => h9) rfl d_Tree_find_61 ?_
      refine lv_icmp_ne (tgt := 84) hx hb d_Tree_find_64 (by decide) (fun q17 => ?_) (fun q17 => ?_)
      · have h := ie h q17
        refine lv_iconst (v := 0) hx hb d_Tree_find_84 (by decide) ?_
        obtain rfl := Option.some.inj h
        exact zreti () hQ hL hx hb hr hlocks hP hD hS rfl (Nat.le_refl _) (Nat.le_refl _) d_Tree_find_85
      · have h := it h q17
        refine lv_aload_n hx hb d_Tree_find_67 rfl (lv_at hl 0 rfl) ?_
        refine lv_aload_n hx hb d_Tree_find_68 rfl (lv_at hl 1 rfl) ?_
        refine lv_iload_n hx hb d_Tree_find_69 rfl (lv_at hl 2 rfl) ?_
        obtain ⟨r18, hr18, h⟩ := ob h
        refine zpcalli (wr := []) (w2 := fun _ => (wT G a_t a_c a_mv a_fr a_br a_e0 a_e1 a_e2 a_e3 a_lo a_ho c_c c_cl c_mv c_ml c_en c_rt c_fr c_br c_fi c_st c_vz ++ wK G a_ko a_kq c_kb c_kn c_kt)) (zrunV (As := [.ref a_ko, .int z13]) (rest := []) ⟨hx, hb, hml, hown, hts⟩ hN hK (c_Tree_differs l G H.size a_t a_c a_mv a_fr a_br a_e0 a_e1 a_e2 a_e3 a_lo a_ho a_ko a_kq c_c c_cl c_mv c_ml c_en c_rt c_fr c_br c_fi c_st c_vz c_kb c_kn c_kt z13 r18 hr18) ⟨rfl, rfl⟩ kv_Tree_137 ⟨Nat.le_of_ble_eq_true rfl, Nat.le_of_ble_eq_true rfl⟩ 0 rfl rfl rfl hl.1 (Nat.le_of_ble_eq_true rfl) d_Tree_find_70 ⟨Nat.le_of_ble_eq_true rfl, Nat.le_of_ble_eq_true rfl⟩) hP hD hS hA [0, 1, 2, 3, 4, 5, 6, 7, 8, 9, 10] [] [0, 1, 2, 3, 4, 5, 6, 7, 8, 9, 10] rfl rfl rfl rfl (by decide) rfl (fun _ => rfl) (fun rr _ H hw hP hD hS => ?_)
        have hw := hw.symm
        subst hw
        refine lv_aload_n hx hb d_Tree_find_73 rfl (lv_at hl 1 rfl) ?_
        refine va_get (D := G.1) (ci := 0) (v := .int c_kn) (C := "BranchStore$Key") (T := F_Key) (N := 3) hx hb hts i_Key hown hK hP 9 rfl rfl 1 (by decide) (hts _ k_110) (fun _ h9 => h9) rfl d_Tree_find_74 ?_
        refine lv_icmp_ne (tgt := 84) hx hb d_Tree_find_77 (by decide) (fun q19 => ?_) (fun q19 => ?_)
        · have h := ie h q19
          refine lv_iconst (v := 0) hx hb d_Tree_find_84 (by decide) ?_
          obtain rfl := Option.some.inj h
          exact zreti () hQ hL hx hb hr hlocks hP hD hS rfl (Nat.le_refl _) (Nat.le_refl _) d_Tree_find_85
        · have h := it h q19
          refine lv_iload_n hx hb d_Tree_find_80 rfl (lv_at hl 2 rfl) ?_
          refine lv_goto (tgt := 85) hx hb d_Tree_find_81 (by decide) ?_
          obtain rfl := Option.some.inj h
          exact zreti () hQ hL hx hb hr hlocks hP hD hS rfl (Nat.le_refl _) (Nat.le_refl _) d_Tree_find_85
  have L5 : ∀ v : Int32, lp (fun v => s_Tree_find_5 c_c c_cl c_kb c_kn v) v = some y2 → ∀ (H : Heap) (locs : List Loc) (ls : Array Slot), va_P G.1 classes (wT G a_t a_c a_mv a_fr a_br a_e0 a_e1 a_e2 a_e3 a_lo a_ho c_c c_cl c_mv c_ml c_en c_rt c_fr c_br c_fi c_st c_vz ++ wK G a_ko a_kq c_kb c_kn c_kt) H → va_D A (wT G a_t a_c a_mv a_fr a_br a_e0 a_e1 a_e2 a_e3 a_lo a_ho c_c c_cl c_mv c_ml c_en c_rt c_fr c_br c_fi c_st c_vz ++ wK G a_ko a_kq c_kb c_kn c_kt) → va_S A xs.heap H locs → (∀ q ∈ locs, xs.heap.size ≤ q.base) → lv_has ls 3 [(0, .ref a_t), (1, .ref a_ko), (2, .int v)] → W xp l xe { frames := 4, cells := 0, slots := 0, locals := 94 } xs xm ([.ref a_t, .ref a_ko] : List Value).toArray xb xme xc H locs 0 0 Q (F0 xm 5 ls []) := by
    refine lp_walk _ (fun v x h hc he => ?_)
    obtain ⟨x2_1, rfl⟩ : ∃ z, z = v := ⟨_, rfl⟩
    intro H locs ls hP hD hS hL hl
    have h : s_Tree_find_5 c_c c_cl c_kb c_kn x2_1 = some x := h
    unfold s_Tree_find_5 at h
    refine lv_iload_n hx hb d_Tree_find_5 rfl (lv_at hl 2 rfl) ?_
    refine lv_if_le (tgt := 49) hx hb d_Tree_find_6 (by decide) (fun q3 => ?_) (fun q3 => ?_)
    · have h := it h q3
      exact E5 x2_1 (he _ (Option.some.inj h).symm) H locs ls hP hD hS hL (lv_sub hl [0, 1, 2] rfl)
    · have h := ie h q3
      refine lv_aload_n hx hb d_Tree_find_9 rfl (lv_at hl 0 rfl) ?_
      refine va_get (D := G.1) (ci := 4) (v := .ref a_c) (C := "BranchStore$Tree") (T := F_Tree) (N := 15) hx hb hts i_Tree hown hK hP 0 rfl rfl 0 (by decide) (hts _ k_123) (fun _ h9 => h9) rfl d_Tree_find_10 ?_
      refine lv_iload_n hx hb d_Tree_find_13 rfl (lv_at hl 2 rfl) ?_
      refine lv_iconst (v := 3) hx hb d_Tree_find_14 (by decide) ?_
      refine lv_iadd hx hb d_Tree_find_15 ?_
      obtain ⟨h4, h⟩ := gi_k h
      refine va_iald hx hb hK hP 1 0 rfl rfl h4 d_Tree_find_16 ?_
      refine lv_aload_n hx hb d_Tree_find_17 rfl (lv_at hl 1 rfl) ?_
      refine va_get (D := G.1) (ci := 0) (v := .int c_kn) (C := "BranchStore$Key") (T := F_Key) (N := 3) hx hb hts i_Key hown hK hP 9 rfl rfl 1 (by decide) (hts _ k_110) (fun _ h9 => h9) rfl d_Tree_find_18 ?_
      obtain ⟨y10, hy10, h⟩ := ob h
      have J45 : ∀ (z12 : Int32), z12 = y10 → ∀ (H : Heap) (locs : List Loc) (ls : Array Slot), va_P G.1 classes (wT G a_t a_c a_mv a_fr a_br a_e0 a_e1 a_e2 a_e3 a_lo a_ho c_c c_cl c_mv c_ml c_en c_rt c_fr c_br c_fi c_st c_vz ++ wK G a_ko a_kq c_kb c_kn c_kt) H → va_D A (wT G a_t a_c a_mv a_fr a_br a_e0 a_e1 a_e2 a_e3 a_lo a_ho c_c c_cl c_mv c_ml c_en c_rt c_fr c_br c_fi c_st c_vz ++ wK G a_ko a_kq c_kb c_kn c_kt) → va_S A xs.heap H locs → (∀ q ∈ locs, xs.heap.size ≤ q.base) → lv_has ls 3 [(0, .ref a_t), (1, .ref a_ko)] → W xp l xe { frames := 4, cells := 0, slots := 0, locals := 94 } xs xm ([.ref a_t, .ref a_ko] : List Value).toArray xb xme xc H locs 0 0 Q (F0 xm 45 ls [.int z12]) := by
        intro z12 ey H locs ls hP hD hS hL hl
        subst ey
        try dsimp only at h
        refine lv_istore_n (lv' := [(2, .int z12), (0, .ref a_t), (1, .ref a_ko)]) hx hb d_Tree_find_45 rfl hl (by decide) rfl (fun ls hl => ?_)
        refine lv_goto (tgt := 5) hx hb d_Tree_find_46 (by decide) ?_
        exact hc _ (Option.some.inj h).symm H locs ls hP hD hS hL (lv_sub hl [1, 2, 0] rfl)
      have h := hy10
      refine lv_icmp_ge (tgt := 44) hx hb d_Tree_find_21 (by decide) (fun q6 => ?_) (fun q6 => ?_)
      · have h := it h q6
        refine lv_iconst (v := 0) hx hb d_Tree_find_44 (by decide) ?_
        exact J45 0 (Option.some.inj h) H locs ls hP hD hS hL (lv_sub hl [0, 1] rfl)
      · have h := ie h q6
        refine lv_aload_n hx hb d_Tree_find_24 rfl (lv_at hl 0 rfl) ?_
        refine lv_iload_n hx hb d_Tree_find_25 rfl (lv_at hl 2 rfl) ?_
        refine lv_aload_n hx hb d_Tree_find_26 rfl (lv_at hl 1 rfl) ?_
        refine lv_aload_n hx hb d_Tree_find_27 rfl (lv_at hl 0 rfl) ?_
        refine va_get (D := G.1) (ci := 4) (v := .ref a_c) (C := "BranchStore$Tree") (T := F_Tree) (N := 15) hx hb hts i_Tree hown hK hP 0 rfl rfl 0 (by decide) (hts _ k_123) (fun _ h9 => h9) rfl d_Tree_find_28 ?_
        refine lv_iload_n hx hb d_Tree_find_31 rfl (lv_at hl 2 rfl) ?_
        refine lv_iconst (v := 3) hx hb d_Tree_find_32 (by decide) ?_
        refine lv_iadd hx hb d_Tree_find_33 ?_
        obtain ⟨h7, h⟩ := gi_k h
        refine va_iald hx hb hK hP 1 0 rfl rfl h7 d_Tree_find_34 ?_
        obtain ⟨r8, hr8, h⟩ := ob h
        refine zpcalli (wr := [(a_t, .inr (4, [.ref a_c, .ref a_mv, .int c_en, .int c_rt, .ref a_fr, .ref a_e0, .ref a_e1, .ref a_e2, .ref a_e3, .ref a_br, .ref a_lo, .ref a_ho, .long c_fi, .long c_st, .long c_vz])), (a_c, .inl (G.2.1, c_cl, .inl c_c)), (a_mv, .inl (G.2.1, c_ml, .inl c_mv)), (a_fr, .inl (G.2.1, 261, .inl c_fr)), (a_br, .inl (G.2.1, 4, .inl c_br)), (a_e0, .inr (1, [.int 0, .int 9, .int 4, .int 5])), (a_e1, .inr (1, [.int 1, .int 24, .int 16, .int 8])), (a_e2, .inr (2, [.int 2, .int 116, .int 48])), (a_e3, .inr (3, [.int 3, .int 260, .int 256]))]) (w2 := fun _ => (wT G a_t a_c a_mv a_fr a_br a_e0 a_e1 a_e2 a_e3 a_lo a_ho c_c c_cl c_mv c_ml c_en c_rt c_fr c_br c_fi c_st c_vz ++ wK G a_ko a_kq c_kb c_kn c_kt)) (zrunV (As := [.int (c_c (x2_1 + 3).toNatClampNeg)]) (rest := [.int x2_1, .ref a_t]) ⟨hx, hb, hml, hown, hts⟩ hN hK (c_Key_at l G H.size a_ko a_kq c_kb c_kn c_kt (c_c (x2_1 + 3).toNatClampNeg) r8 hr8) ⟨rfl, rfl⟩ kv_Tree_92 ⟨Nat.le_of_ble_eq_true rfl, Nat.le_of_ble_eq_true rfl⟩ 0 rfl rfl rfl hl.1 (Nat.le_of_ble_eq_true rfl) d_Tree_find_35 ⟨Nat.le_of_ble_eq_true rfl, Nat.le_of_ble_eq_true rfl⟩) hP hD hS hA [9, 10] [0, 1, 2, 3, 4, 5, 6, 7, 8] [0, 1, 2, 3, 4, 5, 6, 7, 8, 9, 10] rfl rfl rfl rfl (by decide) rfl (fun _ => rfl) (fun rr _ H hw hP hD hS => ?_)
        have hw := hw.symm
        subst hw
        obtain ⟨r9, hr9, h⟩ := ob h
        refine zpcalli (wr := [(a_ko, .inr (0, [.ref a_kq, .int c_kn, .int c_kt])), (a_kq, .inl (G.2.2.1, 50, .inl c_kb))]) (w2 := fun _ => (wT G a_t a_c a_mv a_fr a_br a_e0 a_e1 a_e2 a_e3 a_lo a_ho c_c c_cl c_mv c_ml c_en c_rt c_fr c_br c_fi c_st c_vz ++ wK G a_ko a_kq c_kb c_kn c_kt)) (zrunV (As := [.int x2_1, .int r8]) (rest := []) ⟨hx, hb, hml, hown, hts⟩ hN hK (c_Tree_child l G H.size a_t a_c a_mv a_fr a_br a_e0 a_e1 a_e2 a_e3 a_lo a_ho c_c c_cl c_mv c_ml c_en c_rt c_fr c_br c_fi c_st c_vz x2_1 r8 r9 hr9) ⟨rfl, rfl⟩ kv_Tree_126 ⟨Nat.le_of_ble_eq_true rfl, Nat.le_of_ble_eq_true rfl⟩ 0 rfl rfl rfl hl.1 (Nat.le_of_ble_eq_true rfl) d_Tree_find_38 ⟨Nat.le_of_ble_eq_true rfl, Nat.le_of_ble_eq_true rfl⟩) hP hD hS hA [0, 1, 2, 3, 4, 5, 6, 7, 8] [9, 10] [2, 3, 4, 5, 6, 7, 8, 9, 10, 0, 1] rfl rfl rfl rfl (by decide) rfl (fun _ => rfl) (fun rr _ H hw hP hD hS => ?_)
        have hw := hw.symm
        subst hw
        refine lv_goto (tgt := 45) hx hb d_Tree_find_41 (by decide) ?_
        exact J45 r9 (Option.some.inj h) H locs ls hP hD hS hL (lv_sub hl [0, 1] rfl)
  exact L5 _ hy2 _ _ ls hP hD hS hL (lv_sub hl [1, 2, 0] rfl)

noncomputable def s_Tree_before_22 (c_c : (Nat → Int32)) (c_cl : Nat) (x1 : Int32) (x2 : Int32) (x4 : Nat) (x3 : Int32) (x5 : Int32) : Option ((Int32 × Int32) ⊕ Int32) :=
if x5 = (-1) then
(some (.inr x3))
else
(if x2 ≤ x5 then
(some (.inr x3))
else
((f_Tree_child c_c c_cl x1 x5).bind fun r8 =>
(f_Tree_below c_c c_cl r8).bind fun r9 =>
nm (x3 + r9) fun v10 =>
(if x5 = 255 then
(some (-1))
else
((f_from x4 c_cl c_c x1 (x5 + 1)).bind fun r13 =>
some r13)).bind fun y15 =>
some (.inl (v10, y15))))
noncomputable def f_Tree_before (c_c : (Nat → Int32)) (c_cl : Nat) (p_1 : Int32) (p_2 : Int32) : Option Int32 :=
(f_Tree_shapeOf c_c c_cl p_1).bind fun r1 =>
(f_from r1 c_cl c_c p_1 0).bind fun r2 =>
(lp (fun v => s_Tree_before_22 c_c c_cl p_1 p_2 r1 v.1 v.2) (0, r2)).bind fun y18 =>
some y18
set_option maxHeartbeats 8000000 in
set_option maxRecDepth 100000 in
theorem c_Tree_before (l : Launch) (G : zG) (sz : Nat) (a_t a_c a_mv a_fr a_br a_e0 a_e1 a_e2 a_e3 a_lo a_ho : Nat) (c_c : (Nat → Int32)) (c_cl : Nat) (c_mv : (Nat → Int32)) (c_ml : Nat) (c_en : Int32) (c_rt : Int32) (c_fr : (Nat → Int32)) (c_br : (Nat → Int32)) (c_fi : Int64) (c_st : Int64) (c_vz : Int64) (p_1 : Int32) (p_2 : Int32) (r0 : Int32) (hf : f_Tree_before c_c c_cl p_1 p_2 = some r0) :
    Met l y_Tree_before (Cond.code y_Tree_before prog_7_method_21_code 6 (some .int) :: lw_ok) { frames := 4, cells := 0, slots := 0, locals := 94 } (zPc G sz [.ref a_t, .int p_1, .int p_2] (wT G a_t a_c a_mv a_fr a_br a_e0 a_e1 a_e2 a_e3 a_lo a_ho c_c c_cl c_mv c_ml c_en c_rt c_fr c_br c_fi c_st c_vz))
      ((fun (A : Nat → Prop) => va_Qi (fun (r : Int32) (_ : Unit) => r = r0) (fun _ t => zB G A (wT G a_t a_c a_mv a_fr a_br a_e0 a_e1 a_e2 a_e3 a_lo a_ho c_c c_cl c_mv c_ml c_en c_rt c_fr c_br c_fi c_st c_vz) t) A) (va_A (wT G a_t a_c a_mv a_fr a_br a_e0 a_e1 a_e2 a_e3 a_lo a_ho c_c c_cl c_mv c_ml c_en c_rt c_fr c_br c_fi c_st c_vz) sz)) 0 0 (fun q => sz ≤ q) := by
  refine zMetR (Qc := fun (A : Nat → Prop) => va_Qi (fun (r : Int32) (_ : Unit) => r = r0) (fun _ t => zB G A (wT G a_t a_c a_mv a_fr a_br a_e0 a_e1 a_e2 a_e3 a_lo a_ho c_c c_cl c_mv c_ml c_en c_rt c_fr c_br c_fi c_st c_vz) t) A) (by decide) (Nat.le_of_ble_eq_true rfl) (fun xp xe xs xm xb xme xc A ls Q H locs C hN hK hP hD hS hL hA hl hQ => ?_)
  obtain ⟨hx, hb, hr, hts, hown, hlocks, hml, hin⟩ := C
  have hl : lv_has ls 6 [(0, .ref a_t), (1, .int p_1), (2, .int p_2)] := hl
  have h := hf
  unfold f_Tree_before at h
  refine lv_iconst (v := 0) hx hb d_Tree_before_0 (by decide) ?_
  refine lv_istore_n (lv' := [(3, .int 0), (0, .ref a_t), (1, .int p_1), (2, .int p_2)]) hx hb d_Tree_before_1 rfl hl (by decide) rfl (fun ls hl => ?_)
  refine lv_aload_n hx hb d_Tree_before_2 rfl (lv_at hl 1 rfl) ?_
  refine lv_iload_n hx hb d_Tree_before_3 rfl (lv_at hl 2 rfl) ?_
  obtain ⟨r1, hr1, h⟩ := ob h
  refine zpcallr (wr := []) (w2 := fun _ => (wT G a_t a_c a_mv a_fr a_br a_e0 a_e1 a_e2 a_e3 a_lo a_ho c_c c_cl c_mv c_ml c_en c_rt c_fr c_br c_fi c_st c_vz)) (zrunV (As := [.int p_1]) (rest := []) ⟨hx, hb, hml, hown, hts⟩ hN hK (c_Tree_shapeOf l G H.size a_t a_c a_mv a_fr a_br a_e0 a_e1 a_e2 a_e3 a_lo a_ho c_c c_cl c_mv c_ml c_en c_rt c_fr c_br c_fi c_st c_vz p_1 r1 hr1) ⟨rfl, rfl⟩ kv_Tree_116 ⟨Nat.le_of_ble_eq_true rfl, Nat.le_of_ble_eq_true rfl⟩ 0 rfl rfl rfl hl.1 (Nat.le_of_ble_eq_true rfl) d_Tree_before_4 ⟨Nat.le_of_ble_eq_true rfl, Nat.le_of_ble_eq_true rfl⟩) hP hD hS hA [0, 1, 2, 3, 4, 5, 6, 7, 8] [] [0, 1, 2, 3, 4, 5, 6, 7, 8] rfl rfl rfl rfl (by decide) rfl (fun _ => rfl) (fun _ ra H hw hP hD hS => ?_)
  subst hw
  refine lv_astore (lv' := [(4, .ref (zsh a_e0 a_e1 a_e2 a_e3 r1)), (3, .int 0), (0, .ref a_t), (1, .int p_1), (2, .int p_2)]) hx hb d_Tree_before_7 hl (by decide) rfl (fun ls hl => ?_)
  refine lv_aload hx hb d_Tree_before_9 (lv_at hl 0 rfl) ?_
  refine lv_aload_n hx hb d_Tree_before_11 rfl (lv_at hl 2 rfl) ?_
  refine va_get (D := G.1) (ci := 4) (v := .ref a_c) (C := "BranchStore$Tree") (T := F_Tree) (N := 15) hx hb hts i_Tree hown hK hP 0 rfl rfl 0 (by decide) (hts _ k_123) (fun _ h9 => h9) rfl d_Tree_before_12 ?_
  refine lv_iload_n hx hb d_Tree_before_15 rfl (lv_at hl 3 rfl) ?_
  refine lv_iconst (v := 0) hx hb d_Tree_before_16 (by decide) ?_
  obtain ⟨r2, hr2, h⟩ := ob h
  refine zv_from (k := r1) ⟨hx, hb, hml, hown, hts⟩ hN hK hP hD hS hA (zE_mk rfl rfl rfl rfl) rfl hr2 (Nat.le_of_ble_eq_true rfl) (Nat.le_of_ble_eq_true rfl) hl.1 (Nat.le_of_ble_eq_true rfl) d_Tree_before_17 ⟨Nat.zero_le _, Nat.zero_le _⟩ (fun H hP hS => ?_)
  refine lv_istore (lv' := [(5, .int r2), (4, .ref (zsh a_e0 a_e1 a_e2 a_e3 r1)), (3, .int 0), (0, .ref a_t), (1, .int p_1), (2, .int p_2)]) hx hb d_Tree_before_20 hl (by decide) rfl (fun ls hl => ?_)
  obtain ⟨y5, hy5, h⟩ := ob h
  have E22 : ∀ (z17 : Int32), z17 = y5 → ∀ (H : Heap) (locs : List Loc) (ls : Array Slot), va_P G.1 classes (wT G a_t a_c a_mv a_fr a_br a_e0 a_e1 a_e2 a_e3 a_lo a_ho c_c c_cl c_mv c_ml c_en c_rt c_fr c_br c_fi c_st c_vz) H → va_D A (wT G a_t a_c a_mv a_fr a_br a_e0 a_e1 a_e2 a_e3 a_lo a_ho c_c c_cl c_mv c_ml c_en c_rt c_fr c_br c_fi c_st c_vz) → va_S A xs.heap H locs → (∀ q ∈ locs, xs.heap.size ≤ q.base) → lv_has ls 6 [(3, .int z17)] → W xp l xe { frames := 4, cells := 0, slots := 0, locals := 94 } xs xm ([.ref a_t, .int p_1, .int p_2] : List Value).toArray xb xme xc H locs 0 0 Q (F0 xm 79 ls []) := by
    intro z17 ey H locs ls hP hD hS hL hl
    subst ey
    try dsimp only at h
    refine lv_iload_n hx hb d_Tree_before_79 rfl (lv_at hl 0 rfl) ?_
    obtain rfl := Option.some.inj h
    exact zreti () hQ hL hx hb hr hlocks hP hD hS rfl (Nat.le_refl _) (Nat.le_refl _) d_Tree_before_80
  have L22 : ∀ v : (Int32 × Int32), lp (fun v => s_Tree_before_22 c_c c_cl p_1 p_2 r1 v.1 v.2) v = some y5 → ∀ (H : Heap) (locs : List Loc) (ls : Array Slot), va_P G.1 classes (wT G a_t a_c a_mv a_fr a_br a_e0 a_e1 a_e2 a_e3 a_lo a_ho c_c c_cl c_mv c_ml c_en c_rt c_fr c_br c_fi c_st c_vz) H → va_D A (wT G a_t a_c a_mv a_fr a_br a_e0 a_e1 a_e2 a_e3 a_lo a_ho c_c c_cl c_mv c_ml c_en c_rt c_fr c_br c_fi c_st c_vz) → va_S A xs.heap H locs → (∀ q ∈ locs, xs.heap.size ≤ q.base) → lv_has ls 6 [(0, .ref a_t), (1, .int p_1), (2, .int p_2), (3, .int v.1), (4, .ref (zsh a_e0 a_e1 a_e2 a_e3 r1)), (5, .int v.2)] → W xp l xe { frames := 4, cells := 0, slots := 0, locals := 94 } xs xm ([.ref a_t, .int p_1, .int p_2] : List Value).toArray xb xme xc H locs 0 0 Q (F0 xm 22 ls []) := by
    refine lp_walk _ (fun v x h hc he => ?_)
    obtain ⟨x3_3, x5_4⟩ := v
    intro H locs ls hP hD hS hL hl
    have h : s_Tree_before_22 c_c c_cl p_1 p_2 r1 x3_3 x5_4 = some x := h
    unfold s_Tree_before_22 at h
    refine lv_iload hx hb d_Tree_before_22 (lv_at hl 5 rfl) ?_
    refine lv_iconst (v := (-1)) hx hb d_Tree_before_24 (by decide) ?_
    refine lv_icmp_eq (tgt := 79) hx hb d_Tree_before_25 (by decide) (fun q6 => ?_) (fun q6 => ?_)
    · have h := it h q6
      exact E22 x3_3 (he _ (Option.some.inj h).symm) H locs ls hP hD hS hL (lv_sub hl [3] rfl)
    · have h := ie h q6
      refine lv_iload hx hb d_Tree_before_28 (lv_at hl 5 rfl) ?_
      refine lv_iload_n hx hb d_Tree_before_30 rfl (lv_at hl 2 rfl) ?_
      refine lv_icmp_ge (tgt := 79) hx hb d_Tree_before_31 (by decide) (fun q7 => ?_) (fun q7 => ?_)
      · have h := it h q7
        exact E22 x3_3 (he _ (Option.some.inj h).symm) H locs ls hP hD hS hL (lv_sub hl [3] rfl)
      · have h := ie h q7
        refine lv_iload_n hx hb d_Tree_before_34 rfl (lv_at hl 3 rfl) ?_
        refine lv_aload_n hx hb d_Tree_before_35 rfl (lv_at hl 0 rfl) ?_
        refine lv_aload_n hx hb d_Tree_before_36 rfl (lv_at hl 0 rfl) ?_
        refine lv_iload_n hx hb d_Tree_before_37 rfl (lv_at hl 1 rfl) ?_
        refine lv_iload hx hb d_Tree_before_38 (lv_at hl 5 rfl) ?_
        obtain ⟨r8, hr8, h⟩ := ob h
        refine zpcalli (wr := []) (w2 := fun _ => (wT G a_t a_c a_mv a_fr a_br a_e0 a_e1 a_e2 a_e3 a_lo a_ho c_c c_cl c_mv c_ml c_en c_rt c_fr c_br c_fi c_st c_vz)) (zrunV (As := [.int p_1, .int x5_4]) (rest := [.ref a_t, .int x3_3]) ⟨hx, hb, hml, hown, hts⟩ hN hK (c_Tree_child l G H.size a_t a_c a_mv a_fr a_br a_e0 a_e1 a_e2 a_e3 a_lo a_ho c_c c_cl c_mv c_ml c_en c_rt c_fr c_br c_fi c_st c_vz p_1 x5_4 r8 hr8) ⟨rfl, rfl⟩ kv_Tree_126 ⟨Nat.le_of_ble_eq_true rfl, Nat.le_of_ble_eq_true rfl⟩ 0 rfl rfl rfl hl.1 (Nat.le_of_ble_eq_true rfl) d_Tree_before_40 ⟨Nat.le_of_ble_eq_true rfl, Nat.le_of_ble_eq_true rfl⟩) hP hD hS hA [0, 1, 2, 3, 4, 5, 6, 7, 8] [] [0, 1, 2, 3, 4, 5, 6, 7, 8] rfl rfl rfl rfl (by decide) rfl (fun _ => rfl) (fun rr _ H hw hP hD hS => ?_)
        have hw := hw.symm
        subst hw
        obtain ⟨r9, hr9, h⟩ := ob h
        refine zpcalli (wr := []) (w2 := fun _ => (wT G a_t a_c a_mv a_fr a_br a_e0 a_e1 a_e2 a_e3 a_lo a_ho c_c c_cl c_mv c_ml c_en c_rt c_fr c_br c_fi c_st c_vz)) (zrunV (As := [.int r8]) (rest := [.int x3_3]) ⟨hx, hb, hml, hown, hts⟩ hN hK (c_Tree_below l G H.size a_t a_c a_mv a_fr a_br a_e0 a_e1 a_e2 a_e3 a_lo a_ho c_c c_cl c_mv c_ml c_en c_rt c_fr c_br c_fi c_st c_vz r8 r9 hr9) ⟨rfl, rfl⟩ kv_Tree_113 ⟨Nat.le_of_ble_eq_true rfl, Nat.le_of_ble_eq_true rfl⟩ 0 rfl rfl rfl hl.1 (Nat.le_of_ble_eq_true rfl) d_Tree_before_43 ⟨Nat.le_of_ble_eq_true rfl, Nat.le_of_ble_eq_true rfl⟩) hP hD hS hA [0, 1, 2, 3, 4, 5, 6, 7, 8] [] [0, 1, 2, 3, 4, 5, 6, 7, 8] rfl rfl rfl rfl (by decide) rfl (fun _ => rfl) (fun rr _ H hw hP hD hS => ?_)
        have hw := hw.symm
        subst hw
        refine lv_iadd hx hb d_Tree_before_46 ?_
        refine lv_topi (fun v10 ev10 => ?_)
        have h := nm_k h v10 ev10
        refine lv_istore_n (lv' := [(3, .int v10), (0, .ref a_t), (1, .int p_1), (2, .int p_2), (4, .ref (zsh a_e0 a_e1 a_e2 a_e3 r1)), (5, .int x5_4)]) hx hb d_Tree_before_47 rfl hl (by decide) rfl (fun ls hl => ?_)
        refine lv_iload hx hb d_Tree_before_48 (lv_at hl 5 rfl) ?_
        refine lv_sipush (v := 255) hx hb d_Tree_before_50 (by decide) ?_
        obtain ⟨y14, hy14, h⟩ := ob h
        have J74 : ∀ (z16 : Int32), z16 = y14 → ∀ (H : Heap) (locs : List Loc) (ls : Array Slot), va_P G.1 classes (wT G a_t a_c a_mv a_fr a_br a_e0 a_e1 a_e2 a_e3 a_lo a_ho c_c c_cl c_mv c_ml c_en c_rt c_fr c_br c_fi c_st c_vz) H → va_D A (wT G a_t a_c a_mv a_fr a_br a_e0 a_e1 a_e2 a_e3 a_lo a_ho c_c c_cl c_mv c_ml c_en c_rt c_fr c_br c_fi c_st c_vz) → va_S A xs.heap H locs → (∀ q ∈ locs, xs.heap.size ≤ q.base) → lv_has ls 6 [(0, .ref a_t), (1, .int p_1), (2, .int p_2), (3, .int v10), (4, .ref (zsh a_e0 a_e1 a_e2 a_e3 r1))] → W xp l xe { frames := 4, cells := 0, slots := 0, locals := 94 } xs xm ([.ref a_t, .int p_1, .int p_2] : List Value).toArray xb xme xc H locs 0 0 Q (F0 xm 74 ls [.int z16]) := by
          intro z16 ey H locs ls hP hD hS hL hl
          subst ey
          try dsimp only at h
          refine lv_istore (lv' := [(5, .int z16), (0, .ref a_t), (1, .int p_1), (2, .int p_2), (3, .int v10), (4, .ref (zsh a_e0 a_e1 a_e2 a_e3 r1))]) hx hb d_Tree_before_74 hl (by decide) rfl (fun ls hl => ?_)
          refine lv_goto (tgt := 22) hx hb d_Tree_before_76 (by decide) ?_
          exact hc _ (Option.some.inj h).symm H locs ls hP hD hS hL (lv_sub hl [1, 2, 3, 4, 5, 0] rfl)
        have h := hy14
        refine lv_icmp_ne (tgt := 60) hx hb d_Tree_before_53 (by decide) (fun q12 => ?_) (fun q12 => ?_)
        · have h := ie h q12
          refine lv_aload hx hb d_Tree_before_60 (lv_at hl 4 rfl) ?_
          refine lv_aload_n hx hb d_Tree_before_62 rfl (lv_at hl 1 rfl) ?_
          refine va_get (D := G.1) (ci := 4) (v := .ref a_c) (C := "BranchStore$Tree") (T := F_Tree) (N := 15) hx hb hts i_Tree hown hK hP 0 rfl rfl 0 (by decide) (hts _ k_123) (fun _ h9 => h9) rfl d_Tree_before_63 ?_
          refine lv_iload_n hx hb d_Tree_before_66 rfl (lv_at hl 2 rfl) ?_
          refine lv_iload hx hb d_Tree_before_67 (lv_at hl 5 rfl) ?_
          refine lv_iconst (v := 1) hx hb d_Tree_before_69 (by decide) ?_
          refine lv_iadd hx hb d_Tree_before_70 ?_
          obtain ⟨r13, hr13, h⟩ := ob h
          refine zv_from (k := r1) ⟨hx, hb, hml, hown, hts⟩ hN hK hP hD hS hA (zE_mk rfl rfl rfl rfl) rfl hr13 (Nat.le_of_ble_eq_true rfl) (Nat.le_of_ble_eq_true rfl) hl.1 (Nat.le_of_ble_eq_true rfl) d_Tree_before_71 ⟨Nat.zero_le _, Nat.zero_le _⟩ (fun H hP hS => ?_)
          exact J74 r13 (Option.some.inj h) H locs ls hP hD hS hL (lv_sub hl [1, 2, 3, 0, 4] rfl)
        · have h := it h q12
          refine lv_iconst (v := (-1)) hx hb d_Tree_before_56 (by decide) ?_
          refine lv_goto (tgt := 74) hx hb d_Tree_before_57 (by decide) ?_
          exact J74 (-1) (Option.some.inj h) H locs ls hP hD hS hL (lv_sub hl [1, 2, 3, 0, 4] rfl)
  exact L22 _ hy5 _ _ ls hP hD hS hL (lv_sub hl [3, 4, 5, 2, 1, 0] rfl)

theorem kv_Tree_141 : zKV "BranchStore$Tree" 141 y_Tree_nearest prog_7_method_18_code 4 (some .int) 1 := ⟨k_271, k_273, kp_7, k_2, k_274, by decide +kernel⟩
theorem kv_Tree_145 : zKV "BranchStore$Tree" 145 y_Tree_before prog_7_method_21_code 6 (some .int) 2 := ⟨k_291, k_293, kp_9, k_2, k_294, by decide +kernel⟩
noncomputable def s_Tree_rank_31 (c_c : (Nat → Int32)) (c_cl : Nat) (c_kb : (Nat → Int32)) (x3 : Int32) (x4 : Int32) (x5 : Int32) : Option ((Int32 × Int32) ⊕ (Int32 × Int32)) :=
if x5 ≤ 0 then
(some (.inr (x4, x5)))
else
(gi (x5 + 3) c_cl <|
if x3 ≤ (c_c (x5 + 3).toNatClampNeg) then
(some (.inr (x4, x5)))
else
(gi (x5 + 3) c_cl <|
(f_Key_at c_kb (c_c (x5 + 3).toNatClampNeg)).bind fun r11 =>
(f_Tree_before c_c c_cl x5 r11).bind fun r12 =>
nm (x4 + r12) fun v13 =>
(f_Tree_child c_c c_cl x5 r11).bind fun r14 =>
some (.inl (v13, r14))))
noncomputable def f_Tree_rank (c_c : (Nat → Int32)) (c_cl : Nat) (c_rt : Int32) (c_kb : (Nat → Int32)) (c_kn : Int32)  : Option Int32 :=
if c_rt = 0 then
(some 0)
else
((f_Tree_nearest c_c c_cl c_rt c_kb c_kn).bind fun r2 =>
(f_Tree_differs c_c c_cl c_kb c_kn r2).bind fun r3 =>
(lp (fun v => s_Tree_rank_31 c_c c_cl c_kb r3 v.1 v.2) (0, c_rt)).bind fun y17 =>
if r3 = c_kn then
(some y17.1)
else
(if y17.2 ≤ 0 then
((f_Tree_byteOf c_c c_cl r2 r3).bind fun r20 =>
(f_Key_at c_kb r3).bind fun r21 =>
if r21 ≤ r20 then
(some y17.1)
else
((f_Tree_below c_c c_cl y17.2).bind fun r23 =>
some (y17.1 + r23)))
else
(gi (y17.2 + 3) c_cl <|
if (c_c (y17.2 + 3).toNatClampNeg) = r3 then
((f_Key_at c_kb r3).bind fun r30 =>
(f_Tree_before c_c c_cl y17.2 r30).bind fun r31 =>
some (y17.1 + r31))
else
((f_Tree_byteOf c_c c_cl r2 r3).bind fun r26 =>
(f_Key_at c_kb r3).bind fun r27 =>
if r27 ≤ r26 then
(some y17.1)
else
((f_Tree_below c_c c_cl y17.2).bind fun r29 =>
some (y17.1 + r29))))))
set_option maxHeartbeats 8000000 in
set_option maxRecDepth 100000 in
theorem c_Tree_rank (l : Launch) (G : zG) (sz : Nat) (a_t a_c a_mv a_fr a_br a_e0 a_e1 a_e2 a_e3 a_lo a_ho a_ko a_kq : Nat) (c_c : (Nat → Int32)) (c_cl : Nat) (c_mv : (Nat → Int32)) (c_ml : Nat) (c_en : Int32) (c_rt : Int32) (c_fr : (Nat → Int32)) (c_br : (Nat → Int32)) (c_fi : Int64) (c_st : Int64) (c_vz : Int64) (c_kb : (Nat → Int32)) (c_kn : Int32) (c_kt : Int32) (r0 : Int32) (hf : f_Tree_rank c_c c_cl c_rt c_kb c_kn = some r0) :
    Met l y_Tree_rank (Cond.code y_Tree_rank prog_7_method_22_code 7 (some .int) :: lw_ok) { frames := 6, cells := 0, slots := 0, locals := 139 } (zPc G sz [.ref a_t, .ref a_ko] (wT G a_t a_c a_mv a_fr a_br a_e0 a_e1 a_e2 a_e3 a_lo a_ho c_c c_cl c_mv c_ml c_en c_rt c_fr c_br c_fi c_st c_vz ++ wK G a_ko a_kq c_kb c_kn c_kt))
      ((fun (A : Nat → Prop) => va_Qi (fun (r : Int32) (_ : Unit) => r = r0) (fun _ t => zB G A (wT G a_t a_c a_mv a_fr a_br a_e0 a_e1 a_e2 a_e3 a_lo a_ho c_c c_cl c_mv c_ml c_en c_rt c_fr c_br c_fi c_st c_vz ++ wK G a_ko a_kq c_kb c_kn c_kt) t) A) (va_A (wT G a_t a_c a_mv a_fr a_br a_e0 a_e1 a_e2 a_e3 a_lo a_ho c_c c_cl c_mv c_ml c_en c_rt c_fr c_br c_fi c_st c_vz ++ wK G a_ko a_kq c_kb c_kn c_kt) sz)) 0 0 (fun q => sz ≤ q) := by
  refine zMetR (Qc := fun (A : Nat → Prop) => va_Qi (fun (r : Int32) (_ : Unit) => r = r0) (fun _ t => zB G A (wT G a_t a_c a_mv a_fr a_br a_e0 a_e1 a_e2 a_e3 a_lo a_ho c_c c_cl c_mv c_ml c_en c_rt c_fr c_br c_fi c_st c_vz ++ wK G a_ko a_kq c_kb c_kn c_kt) t) A) (by decide) (Nat.le_of_ble_eq_true rfl) (fun xp xe xs xm xb xme xc A ls Q H locs C hN hK hP hD hS hL hA hl hQ => ?_)
  obtain ⟨hx, hb, hr, hts, hown, hlocks, hml, hin⟩ := C
  have hl : lv_has ls 7 [(0, .ref a_t), (1, .ref a_ko)] := hl
  have h := hf
  unfold f_Tree_rank at h
  refine lv_aload_n hx hb d_Tree_rank_0 rfl (lv_at hl 0 rfl) ?_
  refine va_get (D := G.1) (ci := 4) (v := .int c_rt) (C := "BranchStore$Tree") (T := F_Tree) (N := 15) hx hb hts i_Tree hown hK hP 0 rfl rfl 3 (by decide) (hts _ k_126) (fun _ h9 => h9) rfl d_Tree_rank_1 ?_
  refine lv_if_ne (tgt := 9) hx hb d_Tree_rank_4 (by decide) (fun q1 => ?_) (fun q1 => ?_)
  · have h := ie h q1
    refine lv_aload_n hx hb d_Tree_rank_9 rfl (lv_at hl 0 rfl) ?_
    refine lv_aload_n hx hb d_Tree_rank_10 rfl (lv_at hl 1 rfl) ?_
    obtain ⟨r2, hr2, h⟩ := ob h
    refine zpcalli (wr := []) (w2 := fun _ => (wT G a_t a_c a_mv a_fr a_br a_e0 a_e1 a_e2 a_e3 a_lo a_ho c_c c_cl c_mv c_ml c_en c_rt c_fr c_br c_fi c_st c_vz ++ wK G a_ko a_kq c_kb c_kn c_kt)) (zrunV (As := [.ref a_ko]) (rest := []) ⟨hx, hb, hml, hown, hts⟩ hN hK (c_Tree_nearest l G H.size a_t a_c a_mv a_fr a_br a_e0 a_e1 a_e2 a_e3 a_lo a_ho a_ko a_kq c_c c_cl c_mv c_ml c_en c_rt c_fr c_br c_fi c_st c_vz c_kb c_kn c_kt r2 hr2) ⟨rfl, rfl⟩ kv_Tree_141 ⟨Nat.le_of_ble_eq_true rfl, Nat.le_of_ble_eq_true rfl⟩ 0 rfl rfl rfl hl.1 (Nat.le_of_ble_eq_true rfl) d_Tree_rank_11 ⟨Nat.le_of_ble_eq_true rfl, Nat.le_of_ble_eq_true rfl⟩) hP hD hS hA [0, 1, 2, 3, 4, 5, 6, 7, 8, 9, 10] [] [0, 1, 2, 3, 4, 5, 6, 7, 8, 9, 10] rfl rfl rfl rfl (by decide) rfl (fun _ => rfl) (fun rr _ H hw hP hD hS => ?_)
    have hw := hw.symm
    subst hw
    refine lv_istore_n (lv' := [(2, .int r2), (0, .ref a_t), (1, .ref a_ko)]) hx hb d_Tree_rank_14 rfl hl (by decide) rfl (fun ls hl => ?_)
    refine lv_aload_n hx hb d_Tree_rank_15 rfl (lv_at hl 1 rfl) ?_
    refine lv_aload_n hx hb d_Tree_rank_16 rfl (lv_at hl 2 rfl) ?_
    refine lv_iload_n hx hb d_Tree_rank_17 rfl (lv_at hl 0 rfl) ?_
    obtain ⟨r3, hr3, h⟩ := ob h
    refine zpcalli (wr := []) (w2 := fun _ => (wT G a_t a_c a_mv a_fr a_br a_e0 a_e1 a_e2 a_e3 a_lo a_ho c_c c_cl c_mv c_ml c_en c_rt c_fr c_br c_fi c_st c_vz ++ wK G a_ko a_kq c_kb c_kn c_kt)) (zrunV (As := [.ref a_ko, .int r2]) (rest := []) ⟨hx, hb, hml, hown, hts⟩ hN hK (c_Tree_differs l G H.size a_t a_c a_mv a_fr a_br a_e0 a_e1 a_e2 a_e3 a_lo a_ho a_ko a_kq c_c c_cl c_mv c_ml c_en c_rt c_fr c_br c_fi c_st c_vz c_kb c_kn c_kt r2 r3 hr3) ⟨rfl, rfl⟩ kv_Tree_137 ⟨Nat.le_of_ble_eq_true rfl, Nat.le_of_ble_eq_true rfl⟩ 0 rfl rfl rfl hl.1 (Nat.le_of_ble_eq_true rfl) d_Tree_rank_18 ⟨Nat.le_of_ble_eq_true rfl, Nat.le_of_ble_eq_true rfl⟩) hP hD hS hA [0, 1, 2, 3, 4, 5, 6, 7, 8, 9, 10] [] [0, 1, 2, 3, 4, 5, 6, 7, 8, 9, 10] rfl rfl rfl rfl (by decide) rfl (fun _ => rfl) (fun rr _ H hw hP hD hS => ?_)
    have hw := hw.symm
    subst hw
    refine lv_istore_n (lv' := [(3, .int r3), (2, .int r2), (0, .ref a_t), (1, .ref a_ko)]) hx hb d_Tree_rank_21 rfl hl (by decide) rfl (fun ls hl => ?_)
    refine lv_iconst (v := 0) hx hb d_Tree_rank_22 (by decide) ?_
    refine lv_istore (lv' := [(4, .int 0), (3, .int r3), (2, .int r2), (0, .ref a_t), (1, .ref a_ko)]) hx hb d_Tree_rank_23 hl (by decide) rfl (fun ls hl => ?_)
    refine lv_aload_n hx hb d_Tree_rank_25 rfl (lv_at hl 3 rfl) ?_
    refine va_get (D := G.1) (ci := 4) (v := .int c_rt) (C := "BranchStore$Tree") (T := F_Tree) (N := 15) hx hb hts i_Tree hown hK hP 0 rfl rfl 3 (by decide) (hts _ k_126) (fun _ h9 => h9) rfl d_Tree_rank_26 ?_
    refine lv_istore (lv' := [(5, .int c_rt), (4, .int 0), (3, .int r3), (2, .int r2), (0, .ref a_t), (1, .ref a_ko)]) hx hb d_Tree_rank_29 hl (by decide) rfl (fun ls hl => ?_)
    obtain ⟨y6, hy6, h⟩ := ob h
    have E31 : ∀ (z15 : Int32) (z16 : Int32), (z15, z16) = y6 → ∀ (H : Heap) (locs : List Loc) (ls : Array Slot), va_P G.1 classes (wT G a_t a_c a_mv a_fr a_br a_e0 a_e1 a_e2 a_e3 a_lo a_ho c_c c_cl c_mv c_ml c_en c_rt c_fr c_br c_fi c_st c_vz ++ wK G a_ko a_kq c_kb c_kn c_kt) H → va_D A (wT G a_t a_c a_mv a_fr a_br a_e0 a_e1 a_e2 a_e3 a_lo a_ho c_c c_cl c_mv c_ml c_en c_rt c_fr c_br c_fi c_st c_vz ++ wK G a_ko a_kq c_kb c_kn c_kt) → va_S A xs.heap H locs → (∀ q ∈ locs, xs.heap.size ≤ q.base) → lv_has ls 7 [(0, .ref a_t), (1, .ref a_ko), (2, .int r2), (3, .int r3), (4, .int z15), (5, .int z16)] → W xp l xe { frames := 6, cells := 0, slots := 0, locals := 139 } xs xm ([.ref a_t, .ref a_ko] : List Value).toArray xb xme xc H locs 0 0 Q (F0 xm 90 ls []) := by
      intro z15 z16 ey H locs ls hP hD hS hL hl
      subst ey
      try dsimp only at h
      refine lv_iload_n hx hb d_Tree_rank_90 rfl (lv_at hl 3 rfl) ?_
      refine lv_aload_n hx hb d_Tree_rank_91 rfl (lv_at hl 1 rfl) ?_
      refine va_get (D := G.1) (ci := 0) (v := .int c_kn) (C := "BranchStore$Key") (T := F_Key) (N := 3) hx hb hts i_Key hown hK hP 9 rfl rfl 1 (by decide) (hts _ k_110) (fun _ h9 => h9) rfl d_Tree_rank_92 ?_
      refine lv_icmp_ne (tgt := 101) hx hb d_Tree_rank_95 (by decide) (fun q18 => ?_) (fun q18 => ?_)
      · have h := ie h q18
        refine lv_iload hx hb d_Tree_rank_101 (lv_at hl 5 rfl) ?_
        refine lv_if_le (tgt := 134) hx hb d_Tree_rank_103 (by decide) (fun q19 => ?_) (fun q19 => ?_)
        · have h := it h q19
          refine lv_aload_n hx hb d_Tree_rank_134 rfl (lv_at hl 0 rfl) ?_
          refine lv_iload_n hx hb d_Tree_rank_135 rfl (lv_at hl 2 rfl) ?_
          refine lv_iload_n hx hb d_Tree_rank_136 rfl (lv_at hl 3 rfl) ?_
          obtain ⟨r20, hr20, h⟩ := ob h
          refine zpcalli (wr := [(a_ko, .inr (0, [.ref a_kq, .int c_kn, .int c_kt])), (a_kq, .inl (G.2.2.1, 50, .inl c_kb))]) (w2 := fun _ => (wT G a_t a_c a_mv a_fr a_br a_e0 a_e1 a_e2 a_e3 a_lo a_ho c_c c_cl c_mv c_ml c_en c_rt c_fr c_br c_fi c_st c_vz ++ wK G a_ko a_kq c_kb c_kn c_kt)) (zrunV (As := [.int r2, .int r3]) (rest := []) ⟨hx, hb, hml, hown, hts⟩ hN hK (c_Tree_byteOf l G H.size a_t a_c a_mv a_fr a_br a_e0 a_e1 a_e2 a_e3 a_lo a_ho c_c c_cl c_mv c_ml c_en c_rt c_fr c_br c_fi c_st c_vz r2 r3 r20 hr20) ⟨rfl, rfl⟩ kv_Tree_105 ⟨Nat.le_of_ble_eq_true rfl, Nat.le_of_ble_eq_true rfl⟩ 0 rfl rfl rfl hl.1 (Nat.le_of_ble_eq_true rfl) d_Tree_rank_137 ⟨Nat.le_of_ble_eq_true rfl, Nat.le_of_ble_eq_true rfl⟩) hP hD hS hA [0, 1, 2, 3, 4, 5, 6, 7, 8] [9, 10] [2, 3, 4, 5, 6, 7, 8, 9, 10, 0, 1] rfl rfl rfl rfl (by decide) rfl (fun _ => rfl) (fun rr _ H hw hP hD hS => ?_)
          have hw := hw.symm
          subst hw
          refine lv_aload_n hx hb d_Tree_rank_140 rfl (lv_at hl 1 rfl) ?_
          refine lv_iload_n hx hb d_Tree_rank_141 rfl (lv_at hl 3 rfl) ?_
          obtain ⟨r21, hr21, h⟩ := ob h
          refine zpcalli (wr := [(a_t, .inr (4, [.ref a_c, .ref a_mv, .int c_en, .int c_rt, .ref a_fr, .ref a_e0, .ref a_e1, .ref a_e2, .ref a_e3, .ref a_br, .ref a_lo, .ref a_ho, .long c_fi, .long c_st, .long c_vz])), (a_c, .inl (G.2.1, c_cl, .inl c_c)), (a_mv, .inl (G.2.1, c_ml, .inl c_mv)), (a_fr, .inl (G.2.1, 261, .inl c_fr)), (a_br, .inl (G.2.1, 4, .inl c_br)), (a_e0, .inr (1, [.int 0, .int 9, .int 4, .int 5])), (a_e1, .inr (1, [.int 1, .int 24, .int 16, .int 8])), (a_e2, .inr (2, [.int 2, .int 116, .int 48])), (a_e3, .inr (3, [.int 3, .int 260, .int 256]))]) (w2 := fun _ => (wT G a_t a_c a_mv a_fr a_br a_e0 a_e1 a_e2 a_e3 a_lo a_ho c_c c_cl c_mv c_ml c_en c_rt c_fr c_br c_fi c_st c_vz ++ wK G a_ko a_kq c_kb c_kn c_kt)) (zrunV (As := [.int r3]) (rest := [.int r20]) ⟨hx, hb, hml, hown, hts⟩ hN hK (c_Key_at l G H.size a_ko a_kq c_kb c_kn c_kt r3 r21 hr21) ⟨rfl, rfl⟩ kv_Tree_92 ⟨Nat.le_of_ble_eq_true rfl, Nat.le_of_ble_eq_true rfl⟩ 0 rfl rfl rfl hl.1 (Nat.le_of_ble_eq_true rfl) d_Tree_rank_142 ⟨Nat.le_of_ble_eq_true rfl, Nat.le_of_ble_eq_true rfl⟩) hP hD hS hA [9, 10] [0, 1, 2, 3, 4, 5, 6, 7, 8] [0, 1, 2, 3, 4, 5, 6, 7, 8, 9, 10] rfl rfl rfl rfl (by decide) rfl (fun _ => rfl) (fun rr _ H hw hP hD hS => ?_)
          have hw := hw.symm
          subst hw
          refine lv_icmp_ge (tgt := 160) hx hb d_Tree_rank_145 (by decide) (fun q22 => ?_) (fun q22 => ?_)
          · have h := it h q22
            refine lv_iload hx hb d_Tree_rank_160 (lv_at hl 4 rfl) ?_
            obtain rfl := Option.some.inj h
            exact zreti () hQ hL hx hb hr hlocks hP hD hS rfl (Nat.le_refl _) (Nat.le_refl _) d_Tree_rank_162
          · have h := ie h q22
            refine lv_iload hx hb d_Tree_rank_148 (lv_at hl 4 rfl) ?_
            refine lv_aload_n hx hb d_Tree_rank_150 rfl (lv_at hl 0 rfl) ?_
            refine lv_iload hx hb d_Tree_rank_151 (lv_at hl 5 rfl) ?_
            obtain ⟨r23, hr23, h⟩ := ob h
            refine zpcalli (wr := [(a_ko, .inr (0, [.ref a_kq, .int c_kn, .int c_kt])), (a_kq, .inl (G.2.2.1, 50, .inl c_kb))]) (w2 := fun _ => (wT G a_t a_c a_mv a_fr a_br a_e0 a_e1 a_e2 a_e3 a_lo a_ho c_c c_cl c_mv c_ml c_en c_rt c_fr c_br c_fi c_st c_vz ++ wK G a_ko a_kq c_kb c_kn c_kt)) (zrunV (As := [.int z16]) (rest := [.int z15]) ⟨hx, hb, hml, hown, hts⟩ hN hK (c_Tree_below l G H.size a_t a_c a_mv a_fr a_br a_e0 a_e1 a_e2 a_e3 a_lo a_ho c_c c_cl c_mv c_ml c_en c_rt c_fr c_br c_fi c_st c_vz z16 r23 hr23) ⟨rfl, rfl⟩ kv_Tree_113 ⟨Nat.le_of_ble_eq_true rfl, Nat.le_of_ble_eq_true rfl⟩ 0 rfl rfl rfl hl.1 (Nat.le_of_ble_eq_true rfl) d_Tree_rank_153 ⟨Nat.le_of_ble_eq_true rfl, Nat.le_of_ble_eq_true rfl⟩) hP hD hS hA [0, 1, 2, 3, 4, 5, 6, 7, 8] [9, 10] [2, 3, 4, 5, 6, 7, 8, 9, 10, 0, 1] rfl rfl rfl rfl (by decide) rfl (fun _ => rfl) (fun rr _ H hw hP hD hS => ?_)
            have hw := hw.symm
            subst hw
            refine lv_iadd hx hb d_Tree_rank_156 ?_
            refine lv_goto (tgt := 162) hx hb d_Tree_rank_157 (by decide) ?_
            obtain rfl := Option.some.inj h
            exact zreti () hQ hL hx hb hr hlocks hP hD hS rfl (Nat.le_refl _) (Nat.le_refl _) d_Tree_rank_162
        · have h := ie h q19
          refine lv_aload_n hx hb d_Tree_rank_106 rfl (lv_at hl 0 rfl) ?_
          refine va_get (D := G.1) (ci := 4) (v := .ref a_c) (C := "BranchStore$Tree") (T := F_Tree) (N := 15) hx hb hts i_Tree hown hK hP 0 rfl rfl 0 (by decide) (hts _ k_123) (fun _ h9 => h9) rfl d_Tree_rank_107 ?_
          refine lv_iload hx hb d_Tree_rank_110 (lv_at hl 5 rfl) ?_
          refine lv_iconst (v := 3) hx hb d_Tree_rank_112 (by decide) ?_
          refine lv_iadd hx hb d_Tree_rank_113 ?_
          obtain ⟨h24, h⟩ := gi_k h
          refine va_iald hx hb hK hP 1 0 rfl rfl h24 d_Tree_rank_114 ?_
          refine lv_iload_n hx hb d_Tree_rank_115 rfl (lv_at hl 3 rfl) ?_
          refine lv_icmp_ne (tgt := 134) hx hb d_Tree_rank_116 (by decide) (fun q25 => ?_) (fun q25 => ?_)
          · have h := ie h q25
            refine lv_aload_n hx hb d_Tree_rank_134 rfl (lv_at hl 0 rfl) ?_
            refine lv_iload_n hx hb d_Tree_rank_135 rfl (lv_at hl 2 rfl) ?_
            refine lv_iload_n hx hb d_Tree_rank_136 rfl (lv_at hl 3 rfl) ?_
            obtain ⟨r26, hr26, h⟩ := ob h
            refine zpcalli (wr := [(a_ko, .inr (0, [.ref a_kq, .int c_kn, .int c_kt])), (a_kq, .inl (G.2.2.1, 50, .inl c_kb))]) (w2 := fun _ => (wT G a_t a_c a_mv a_fr a_br a_e0 a_e1 a_e2 a_e3 a_lo a_ho c_c c_cl c_mv c_ml c_en c_rt c_fr c_br c_fi c_st c_vz ++ wK G a_ko a_kq c_kb c_kn c_kt)) (zrunV (As := [.int r2, .int r3]) (rest := []) ⟨hx, hb, hml, hown, hts⟩ hN hK (c_Tree_byteOf l G H.size a_t a_c a_mv a_fr a_br a_e0 a_e1 a_e2 a_e3 a_lo a_ho c_c c_cl c_mv c_ml c_en c_rt c_fr c_br c_fi c_st c_vz r2 r3 r26 hr26) ⟨rfl, rfl⟩ kv_Tree_105 ⟨Nat.le_of_ble_eq_true rfl, Nat.le_of_ble_eq_true rfl⟩ 0 rfl rfl rfl hl.1 (Nat.le_of_ble_eq_true rfl) d_Tree_rank_137 ⟨Nat.le_of_ble_eq_true rfl, Nat.le_of_ble_eq_true rfl⟩) hP hD hS hA [0, 1, 2, 3, 4, 5, 6, 7, 8] [9, 10] [2, 3, 4, 5, 6, 7, 8, 9, 10, 0, 1] rfl rfl rfl rfl (by decide) rfl (fun _ => rfl) (fun rr _ H hw hP hD hS => ?_)
            have hw := hw.symm
            subst hw
            refine lv_aload_n hx hb d_Tree_rank_140 rfl (lv_at hl 1 rfl) ?_
            refine lv_iload_n hx hb d_Tree_rank_141 rfl (lv_at hl 3 rfl) ?_
            obtain ⟨r27, hr27, h⟩ := ob h
            refine zpcalli (wr := [(a_t, .inr (4, [.ref a_c, .ref a_mv, .int c_en, .int c_rt, .ref a_fr, .ref a_e0, .ref a_e1, .ref a_e2, .ref a_e3, .ref a_br, .ref a_lo, .ref a_ho, .long c_fi, .long c_st, .long c_vz])), (a_c, .inl (G.2.1, c_cl, .inl c_c)), (a_mv, .inl (G.2.1, c_ml, .inl c_mv)), (a_fr, .inl (G.2.1, 261, .inl c_fr)), (a_br, .inl (G.2.1, 4, .inl c_br)), (a_e0, .inr (1, [.int 0, .int 9, .int 4, .int 5])), (a_e1, .inr (1, [.int 1, .int 24, .int 16, .int 8])), (a_e2, .inr (2, [.int 2, .int 116, .int 48])), (a_e3, .inr (3, [.int 3, .int 260, .int 256]))]) (w2 := fun _ => (wT G a_t a_c a_mv a_fr a_br a_e0 a_e1 a_e2 a_e3 a_lo a_ho c_c c_cl c_mv c_ml c_en c_rt c_fr c_br c_fi c_st c_vz ++ wK G a_ko a_kq c_kb c_kn c_kt)) (zrunV (As := [.int r3]) (rest := [.int r26]) ⟨hx, hb, hml, hown, hts⟩ hN hK (c_Key_at l G H.size a_ko a_kq c_kb c_kn c_kt r3 r27 hr27) ⟨rfl, rfl⟩ kv_Tree_92 ⟨Nat.le_of_ble_eq_true rfl, Nat.le_of_ble_eq_true rfl⟩ 0 rfl rfl rfl hl.1 (Nat.le_of_ble_eq_true rfl) d_Tree_rank_142 ⟨Nat.le_of_ble_eq_true rfl, Nat.le_of_ble_eq_true rfl⟩) hP hD hS hA [9, 10] [0, 1, 2, 3, 4, 5, 6, 7, 8] [0, 1, 2, 3, 4, 5, 6, 7, 8, 9, 10] rfl rfl rfl rfl (by decide) rfl (fun _ => rfl) (fun rr _ H hw hP hD hS => ?_)
            have hw := hw.symm
            subst hw
            refine lv_icmp_ge (tgt := 160) hx hb d_Tree_rank_145 (by decide) (fun q28 => ?_) (fun q28 => ?_)
            · have h := it h q28
              refine lv_iload hx hb d_Tree_rank_160 (lv_at hl 4 rfl) ?_
              obtain rfl := Option.some.inj h
              exact zreti () hQ hL hx hb hr hlocks hP hD hS rfl (Nat.le_refl _) (Nat.le_refl _) d_Tree_rank_162
            · have h := ie h q28
              refine lv_iload hx hb d_Tree_rank_148 (lv_at hl 4 rfl) ?_
              refine lv_aload_n hx hb d_Tree_rank_150 rfl (lv_at hl 0 rfl) ?_
              refine lv_iload hx hb d_Tree_rank_151 (lv_at hl 5 rfl) ?_
              obtain ⟨r29, hr29, h⟩ := ob h
              refine zpcalli (wr := [(a_ko, .inr (0, [.ref a_kq, .int c_kn, .int c_kt])), (a_kq, .inl (G.2.2.1, 50, .inl c_kb))]) (w2 := fun _ => (wT G a_t a_c a_mv a_fr a_br a_e0 a_e1 a_e2 a_e3 a_lo a_ho c_c c_cl c_mv c_ml c_en c_rt c_fr c_br c_fi c_st c_vz ++ wK G a_ko a_kq c_kb c_kn c_kt)) (zrunV (As := [.int z16]) (rest := [.int z15]) ⟨hx, hb, hml, hown, hts⟩ hN hK (c_Tree_below l G H.size a_t a_c a_mv a_fr a_br a_e0 a_e1 a_e2 a_e3 a_lo a_ho c_c c_cl c_mv c_ml c_en c_rt c_fr c_br c_fi c_st c_vz z16 r29 hr29) ⟨rfl, rfl⟩ kv_Tree_113 ⟨Nat.le_of_ble_eq_true rfl, Nat.le_of_ble_eq_true rfl⟩ 0 rfl rfl rfl hl.1 (Nat.le_of_ble_eq_true rfl) d_Tree_rank_153 ⟨Nat.le_of_ble_eq_true rfl, Nat.le_of_ble_eq_true rfl⟩) hP hD hS hA [0, 1, 2, 3, 4, 5, 6, 7, 8] [9, 10] [2, 3, 4, 5, 6, 7, 8, 9, 10, 0, 1] rfl rfl rfl rfl (by decide) rfl (fun _ => rfl) (fun rr _ H hw hP hD hS => ?_)
              have hw := hw.symm
              subst hw
              refine lv_iadd hx hb d_Tree_rank_156 ?_
              refine lv_goto (tgt := 162) hx hb d_Tree_rank_157 (by decide) ?_
              obtain rfl := Option.some.inj h
              exact zreti () hQ hL hx hb hr hlocks hP hD hS rfl (Nat.le_refl _) (Nat.le_refl _) d_Tree_rank_162
          · have h := it h q25
            refine lv_iload hx hb d_Tree_rank_119 (lv_at hl 4 rfl) ?_
            refine lv_aload_n hx hb d_Tree_rank_121 rfl (lv_at hl 0 rfl) ?_
            refine lv_iload hx hb d_Tree_rank_122 (lv_at hl 5 rfl) ?_
            refine lv_aload_n hx hb d_Tree_rank_124 rfl (lv_at hl 1 rfl) ?_
            refine lv_iload_n hx hb d_Tree_rank_125 rfl (lv_at hl 3 rfl) ?_
            obtain ⟨r30, hr30, h⟩ := ob h
            refine zpcalli (wr := [(a_t, .inr (4, [.ref a_c, .ref a_mv, .int c_en, .int c_rt, .ref a_fr, .ref a_e0, .ref a_e1, .ref a_e2, .ref a_e3, .ref a_br, .ref a_lo, .ref a_ho, .long c_fi, .long c_st, .long c_vz])), (a_c, .inl (G.2.1, c_cl, .inl c_c)), (a_mv, .inl (G.2.1, c_ml, .inl c_mv)), (a_fr, .inl (G.2.1, 261, .inl c_fr)), (a_br, .inl (G.2.1, 4, .inl c_br)), (a_e0, .inr (1, [.int 0, .int 9, .int 4, .int 5])), (a_e1, .inr (1, [.int 1, .int 24, .int 16, .int 8])), (a_e2, .inr (2, [.int 2, .int 116, .int 48])), (a_e3, .inr (3, [.int 3, .int 260, .int 256]))]) (w2 := fun _ => (wT G a_t a_c a_mv a_fr a_br a_e0 a_e1 a_e2 a_e3 a_lo a_ho c_c c_cl c_mv c_ml c_en c_rt c_fr c_br c_fi c_st c_vz ++ wK G a_ko a_kq c_kb c_kn c_kt)) (zrunV (As := [.int r3]) (rest := [.int z16, .ref a_t, .int z15]) ⟨hx, hb, hml, hown, hts⟩ hN hK (c_Key_at l G H.size a_ko a_kq c_kb c_kn c_kt r3 r30 hr30) ⟨rfl, rfl⟩ kv_Tree_92 ⟨Nat.le_of_ble_eq_true rfl, Nat.le_of_ble_eq_true rfl⟩ 0 rfl rfl rfl hl.1 (Nat.le_of_ble_eq_true rfl) d_Tree_rank_126 ⟨Nat.le_of_ble_eq_true rfl, Nat.le_of_ble_eq_true rfl⟩) hP hD hS hA [9, 10] [0, 1, 2, 3, 4, 5, 6, 7, 8] [0, 1, 2, 3, 4, 5, 6, 7, 8, 9, 10] rfl rfl rfl rfl (by decide) rfl (fun _ => rfl) (fun rr _ H hw hP hD hS => ?_)
            have hw := hw.symm
            subst hw
            obtain ⟨r31, hr31, h⟩ := ob h
            refine zpcalli (wr := [(a_ko, .inr (0, [.ref a_kq, .int c_kn, .int c_kt])), (a_kq, .inl (G.2.2.1, 50, .inl c_kb))]) (w2 := fun _ => (wT G a_t a_c a_mv a_fr a_br a_e0 a_e1 a_e2 a_e3 a_lo a_ho c_c c_cl c_mv c_ml c_en c_rt c_fr c_br c_fi c_st c_vz ++ wK G a_ko a_kq c_kb c_kn c_kt)) (zrunV (As := [.int z16, .int r30]) (rest := [.int z15]) ⟨hx, hb, hml, hown, hts⟩ hN hK (c_Tree_before l G H.size a_t a_c a_mv a_fr a_br a_e0 a_e1 a_e2 a_e3 a_lo a_ho c_c c_cl c_mv c_ml c_en c_rt c_fr c_br c_fi c_st c_vz z16 r30 r31 hr31) ⟨rfl, rfl⟩ kv_Tree_145 ⟨Nat.le_of_ble_eq_true rfl, Nat.le_of_ble_eq_true rfl⟩ 0 rfl rfl rfl hl.1 (Nat.le_of_ble_eq_true rfl) d_Tree_rank_129 ⟨Nat.le_of_ble_eq_true rfl, Nat.le_of_ble_eq_true rfl⟩) hP hD hS hA [0, 1, 2, 3, 4, 5, 6, 7, 8] [9, 10] [2, 3, 4, 5, 6, 7, 8, 9, 10, 0, 1] rfl rfl rfl rfl (by decide) rfl (fun _ => rfl) (fun rr _ H hw hP hD hS => ?_)
            have hw := hw.symm
            subst hw
            refine lv_iadd hx hb d_Tree_rank_132 ?_
            obtain rfl := Option.some.inj h
            exact zreti () hQ hL hx hb hr hlocks hP hD hS rfl (Nat.le_refl _) (Nat.le_refl _) d_Tree_rank_133
      · have h := it h q18
        refine lv_iload hx hb d_Tree_rank_98 (lv_at hl 4 rfl) ?_
        obtain rfl := Option.some.inj h
        exact zreti () hQ hL hx hb hr hlocks hP hD hS rfl (Nat.le_refl _) (Nat.le_refl _) d_Tree_rank_100
    have L31 : ∀ v : (Int32 × Int32), lp (fun v => s_Tree_rank_31 c_c c_cl c_kb r3 v.1 v.2) v = some y6 → ∀ (H : Heap) (locs : List Loc) (ls : Array Slot), va_P G.1 classes (wT G a_t a_c a_mv a_fr a_br a_e0 a_e1 a_e2 a_e3 a_lo a_ho c_c c_cl c_mv c_ml c_en c_rt c_fr c_br c_fi c_st c_vz ++ wK G a_ko a_kq c_kb c_kn c_kt) H → va_D A (wT G a_t a_c a_mv a_fr a_br a_e0 a_e1 a_e2 a_e3 a_lo a_ho c_c c_cl c_mv c_ml c_en c_rt c_fr c_br c_fi c_st c_vz ++ wK G a_ko a_kq c_kb c_kn c_kt) → va_S A xs.heap H locs → (∀ q ∈ locs, xs.heap.size ≤ q.base) → lv_has ls 7 [(0, .ref a_t), (1, .ref a_ko), (2, .int r2), (3, .int r3), (4, .int v.1), (5, .int v.2)] → W xp l xe { frames := 6, cells := 0, slots := 0, locals := 139 } xs xm ([.ref a_t, .ref a_ko] : List Value).toArray xb xme xc H locs 0 0 Q (F0 xm 31 ls []) := by
      refine lp_walk _ (fun v x h hc he => ?_)
      obtain ⟨x4_4, x5_5⟩ := v
      intro H locs ls hP hD hS hL hl
      have h : s_Tree_rank_31 c_c c_cl c_kb r3 x4_4 x5_5 = some x := h
      unfold s_Tree_rank_31 at h
      refine lv_iload hx hb d_Tree_rank_31 (lv_at hl 5 rfl) ?_
      refine lv_if_le (tgt := 90) hx hb d_Tree_rank_33 (by decide) (fun q7 => ?_) (fun q7 => ?_)
      · have h := it h q7
        exact E31 x4_4 x5_5 (he _ (Option.some.inj h).symm) H locs ls hP hD hS hL (lv_sub hl [0, 1, 2, 3, 4, 5] rfl)
      · have h := ie h q7
        refine lv_aload_n hx hb d_Tree_rank_36 rfl (lv_at hl 0 rfl) ?_
        refine va_get (D := G.1) (ci := 4) (v := .ref a_c) (C := "BranchStore$Tree") (T := F_Tree) (N := 15) hx hb hts i_Tree hown hK hP 0 rfl rfl 0 (by decide) (hts _ k_123) (fun _ h9 => h9) rfl d_Tree_rank_37 ?_
        refine lv_iload hx hb d_Tree_rank_40 (lv_at hl 5 rfl) ?_
        refine lv_iconst (v := 3) hx hb d_Tree_rank_42 (by decide) ?_
        refine lv_iadd hx hb d_Tree_rank_43 ?_
        obtain ⟨h8, h⟩ := gi_k h
        refine va_iald hx hb hK hP 1 0 rfl rfl h8 d_Tree_rank_44 ?_
        refine lv_iload_n hx hb d_Tree_rank_45 rfl (lv_at hl 3 rfl) ?_
        refine lv_icmp_ge (tgt := 90) hx hb d_Tree_rank_46 (by decide) (fun q9 => ?_) (fun q9 => ?_)
        · have h := it h q9
          exact E31 x4_4 x5_5 (he _ (Option.some.inj h).symm) H locs ls hP hD hS hL (lv_sub hl [0, 1, 2, 3, 4, 5] rfl)
        · have h := ie h q9
          refine lv_aload_n hx hb d_Tree_rank_49 rfl (lv_at hl 1 rfl) ?_
          refine lv_aload_n hx hb d_Tree_rank_50 rfl (lv_at hl 0 rfl) ?_
          refine va_get (D := G.1) (ci := 4) (v := .ref a_c) (C := "BranchStore$Tree") (T := F_Tree) (N := 15) hx hb hts i_Tree hown hK hP 0 rfl rfl 0 (by decide) (hts _ k_123) (fun _ h9 => h9) rfl d_Tree_rank_51 ?_
          refine lv_iload hx hb d_Tree_rank_54 (lv_at hl 5 rfl) ?_
          refine lv_iconst (v := 3) hx hb d_Tree_rank_56 (by decide) ?_
          refine lv_iadd hx hb d_Tree_rank_57 ?_
          obtain ⟨h10, h⟩ := gi_k h
          refine va_iald hx hb hK hP 1 0 rfl rfl h10 d_Tree_rank_58 ?_
          obtain ⟨r11, hr11, h⟩ := ob h
          refine zpcalli (wr := [(a_t, .inr (4, [.ref a_c, .ref a_mv, .int c_en, .int c_rt, .ref a_fr, .ref a_e0, .ref a_e1, .ref a_e2, .ref a_e3, .ref a_br, .ref a_lo, .ref a_ho, .long c_fi, .long c_st, .long c_vz])), (a_c, .inl (G.2.1, c_cl, .inl c_c)), (a_mv, .inl (G.2.1, c_ml, .inl c_mv)), (a_fr, .inl (G.2.1, 261, .inl c_fr)), (a_br, .inl (G.2.1, 4, .inl c_br)), (a_e0, .inr (1, [.int 0, .int 9, .int 4, .int 5])), (a_e1, .inr (1, [.int 1, .int 24, .int 16, .int 8])), (a_e2, .inr (2, [.int 2, .int 116, .int 48])), (a_e3, .inr (3, [.int 3, .int 260, .int 256]))]) (w2 := fun _ => (wT G a_t a_c a_mv a_fr a_br a_e0 a_e1 a_e2 a_e3 a_lo a_ho c_c c_cl c_mv c_ml c_en c_rt c_fr c_br c_fi c_st c_vz ++ wK G a_ko a_kq c_kb c_kn c_kt)) (zrunV (As := [.int (c_c (x5_5 + 3).toNatClampNeg)]) (rest := []) ⟨hx, hb, hml, hown, hts⟩ hN hK (c_Key_at l G H.size a_ko a_kq c_kb c_kn c_kt (c_c (x5_5 + 3).toNatClampNeg) r11 hr11) ⟨rfl, rfl⟩ kv_Tree_92 ⟨Nat.le_of_ble_eq_true rfl, Nat.le_of_ble_eq_true rfl⟩ 0 rfl rfl rfl hl.1 (Nat.le_of_ble_eq_true rfl) d_Tree_rank_59 ⟨Nat.le_of_ble_eq_true rfl, Nat.le_of_ble_eq_true rfl⟩) hP hD hS hA [9, 10] [0, 1, 2, 3, 4, 5, 6, 7, 8] [0, 1, 2, 3, 4, 5, 6, 7, 8, 9, 10] rfl rfl rfl rfl (by decide) rfl (fun _ => rfl) (fun rr _ H hw hP hD hS => ?_)
          have hw := hw.symm
          subst hw
          refine lv_istore (lv' := [(6, .int r11), (0, .ref a_t), (1, .ref a_ko), (2, .int r2), (3, .int r3), (4, .int x4_4), (5, .int x5_5)]) hx hb d_Tree_rank_62 hl (by decide) rfl (fun ls hl => ?_)
          refine lv_iload hx hb d_Tree_rank_64 (lv_at hl 5 rfl) ?_
          refine lv_aload_n hx hb d_Tree_rank_66 rfl (lv_at hl 1 rfl) ?_
          refine lv_iload hx hb d_Tree_rank_67 (lv_at hl 6 rfl) ?_
          refine lv_iload hx hb d_Tree_rank_69 (lv_at hl 0 rfl) ?_
          obtain ⟨r12, hr12, h⟩ := ob h
          refine zpcalli (wr := [(a_ko, .inr (0, [.ref a_kq, .int c_kn, .int c_kt])), (a_kq, .inl (G.2.2.1, 50, .inl c_kb))]) (w2 := fun _ => (wT G a_t a_c a_mv a_fr a_br a_e0 a_e1 a_e2 a_e3 a_lo a_ho c_c c_cl c_mv c_ml c_en c_rt c_fr c_br c_fi c_st c_vz ++ wK G a_ko a_kq c_kb c_kn c_kt)) (zrunV (As := [.int x5_5, .int r11]) (rest := [.int x4_4]) ⟨hx, hb, hml, hown, hts⟩ hN hK (c_Tree_before l G H.size a_t a_c a_mv a_fr a_br a_e0 a_e1 a_e2 a_e3 a_lo a_ho c_c c_cl c_mv c_ml c_en c_rt c_fr c_br c_fi c_st c_vz x5_5 r11 r12 hr12) ⟨rfl, rfl⟩ kv_Tree_145 ⟨Nat.le_of_ble_eq_true rfl, Nat.le_of_ble_eq_true rfl⟩ 0 rfl rfl rfl hl.1 (Nat.le_of_ble_eq_true rfl) d_Tree_rank_71 ⟨Nat.le_of_ble_eq_true rfl, Nat.le_of_ble_eq_true rfl⟩) hP hD hS hA [0, 1, 2, 3, 4, 5, 6, 7, 8] [9, 10] [2, 3, 4, 5, 6, 7, 8, 9, 10, 0, 1] rfl rfl rfl rfl (by decide) rfl (fun _ => rfl) (fun rr _ H hw hP hD hS => ?_)
          have hw := hw.symm
          subst hw
          refine lv_iadd hx hb d_Tree_rank_74 ?_
          refine lv_topi (fun v13 ev13 => ?_)
          have h := nm_k h v13 ev13
          refine lv_istore (lv' := [(4, .int v13), (6, .int r11), (0, .ref a_t), (1, .ref a_ko), (2, .int r2), (3, .int r3), (5, .int x5_5)]) hx hb d_Tree_rank_75 hl (by decide) rfl (fun ls hl => ?_)
          refine lv_aload_n hx hb d_Tree_rank_77 rfl (lv_at hl 2 rfl) ?_
          refine lv_iload hx hb d_Tree_rank_78 (lv_at hl 6 rfl) ?_
          refine lv_iload hx hb d_Tree_rank_80 (lv_at hl 1 rfl) ?_
          obtain ⟨r14, hr14, h⟩ := ob h
          refine zpcalli (wr := [(a_ko, .inr (0, [.ref a_kq, .int c_kn, .int c_kt])), (a_kq, .inl (G.2.2.1, 50, .inl c_kb))]) (w2 := fun _ => (wT G a_t a_c a_mv a_fr a_br a_e0 a_e1 a_e2 a_e3 a_lo a_ho c_c c_cl c_mv c_ml c_en c_rt c_fr c_br c_fi c_st c_vz ++ wK G a_ko a_kq c_kb c_kn c_kt)) (zrunV (As := [.int x5_5, .int r11]) (rest := []) ⟨hx, hb, hml, hown, hts⟩ hN hK (c_Tree_child l G H.size a_t a_c a_mv a_fr a_br a_e0 a_e1 a_e2 a_e3 a_lo a_ho c_c c_cl c_mv c_ml c_en c_rt c_fr c_br c_fi c_st c_vz x5_5 r11 r14 hr14) ⟨rfl, rfl⟩ kv_Tree_126 ⟨Nat.le_of_ble_eq_true rfl, Nat.le_of_ble_eq_true rfl⟩ 0 rfl rfl rfl hl.1 (Nat.le_of_ble_eq_true rfl) d_Tree_rank_82 ⟨Nat.le_of_ble_eq_true rfl, Nat.le_of_ble_eq_true rfl⟩) hP hD hS hA [0, 1, 2, 3, 4, 5, 6, 7, 8] [9, 10] [2, 3, 4, 5, 6, 7, 8, 9, 10, 0, 1] rfl rfl rfl rfl (by decide) rfl (fun _ => rfl) (fun rr _ H hw hP hD hS => ?_)
          have hw := hw.symm
          subst hw
          refine lv_istore (lv' := [(5, .int r14), (4, .int v13), (6, .int r11), (0, .ref a_t), (1, .ref a_ko), (2, .int r2), (3, .int r3)]) hx hb d_Tree_rank_85 hl (by decide) rfl (fun ls hl => ?_)
          refine lv_goto (tgt := 31) hx hb d_Tree_rank_87 (by decide) ?_
          exact hc _ (Option.some.inj h).symm H locs ls hP hD hS hL (lv_sub hl [3, 4, 5, 6, 1, 0] rfl)
    exact L31 _ hy6 _ _ ls hP hD hS hL (lv_sub hl [4, 5, 3, 2, 1, 0] rfl)
  · have h := it h q1
    refine lv_iconst (v := 0) hx hb d_Tree_rank_7 (by decide) ?_
    obtain rfl := Option.some.inj h
    exact zreti () hQ hL hx hb hr hlocks hP hD hS rfl (Nat.le_refl _) (Nat.le_refl _) d_Tree_rank_8

noncomputable def s_Tree_select_40 (c_c : (Nat → Int32)) (c_cl : Nat) (x3 : Int32) (x4 : Nat) (x2 : Int32) (x5 : Int32) (x6 : Int32) : Option ((Int32 × Int32 × Int32) ⊕ (Int32 × Int32)) :=
(f_Tree_below c_c c_cl x6).bind fun r12 =>
if x2 < r12 then
(some (.inr (x2, x6)))
else
((f_Tree_below c_c c_cl x6).bind fun r14 =>
nm (x2 - r14) fun v15 =>
(f_from x4 c_cl c_c x3 (x5 + 1)).bind fun r16 =>
(f_Tree_child c_c c_cl x3 r16).bind fun r17 =>
some (.inl (v15, r16, r17)))
noncomputable def s_Tree_select_7 (c_c : (Nat → Int32)) (c_cl : Nat) (x2 : Int32) (x3 : Int32) : Option ((Int32 × Int32) ⊕ Int32) :=
if x3 ≤ 0 then
(some (.inr x3))
else
((f_Tree_shapeOf c_c c_cl x3).bind fun r5 =>
(f_from r5 c_cl c_c x3 0).bind fun r6 =>
(f_Tree_child c_c c_cl x3 r6).bind fun r7 =>
(lp (fun v => s_Tree_select_40 c_c c_cl x3 r5 v.1 v.2.1 v.2.2) (x2, r6, r7)).bind fun y20 =>
some (.inl (y20.1, y20.2)))
noncomputable def f_Tree_select (c_c : (Nat → Int32)) (c_cl : Nat) (c_rt : Int32) (p_1 : Int32) : Option Int32 :=
(lp (fun v => s_Tree_select_7 c_c c_cl v.1 v.2) (p_1, c_rt)).bind fun y22 =>
some y22
set_option maxHeartbeats 8000000 in
set_option maxRecDepth 100000 in
theorem c_Tree_select (l : Launch) (G : zG) (sz : Nat) (a_t a_c a_mv a_fr a_br a_e0 a_e1 a_e2 a_e3 a_lo a_ho : Nat) (c_c : (Nat → Int32)) (c_cl : Nat) (c_mv : (Nat → Int32)) (c_ml : Nat) (c_en : Int32) (c_rt : Int32) (c_fr : (Nat → Int32)) (c_br : (Nat → Int32)) (c_fi : Int64) (c_st : Int64) (c_vz : Int64) (p_1 : Int32) (r0 : Int32) (hf : f_Tree_select c_c c_cl c_rt p_1 = some r0) :
    Met l y_Tree_select (Cond.code y_Tree_select prog_7_method_23_code 7 (some .int) :: lw_ok) { frames := 4, cells := 0, slots := 0, locals := 94 } (zPc G sz [.ref a_t, .int p_1] (wT G a_t a_c a_mv a_fr a_br a_e0 a_e1 a_e2 a_e3 a_lo a_ho c_c c_cl c_mv c_ml c_en c_rt c_fr c_br c_fi c_st c_vz))
      ((fun (A : Nat → Prop) => va_Qi (fun (r : Int32) (_ : Unit) => r = r0) (fun _ t => zB G A (wT G a_t a_c a_mv a_fr a_br a_e0 a_e1 a_e2 a_e3 a_lo a_ho c_c c_cl c_mv c_ml c_en c_rt c_fr c_br c_fi c_st c_vz) t) A) (va_A (wT G a_t a_c a_mv a_fr a_br a_e0 a_e1 a_e2 a_e3 a_lo a_ho c_c c_cl c_mv c_ml c_en c_rt c_fr c_br c_fi c_st c_vz) sz)) 0 0 (fun q => sz ≤ q) := by
  refine zMetR (Qc := fun (A : Nat → Prop) => va_Qi (fun (r : Int32) (_ : Unit) => r = r0) (fun _ t => zB G A (wT G a_t a_c a_mv a_fr a_br a_e0 a_e1 a_e2 a_e3 a_lo a_ho c_c c_cl c_mv c_ml c_en c_rt c_fr c_br c_fi c_st c_vz) t) A) (by decide) (Nat.le_of_ble_eq_true rfl) (fun xp xe xs xm xb xme xc A ls Q H locs C hN hK hP hD hS hL hA hl hQ => ?_)
  obtain ⟨hx, hb, hr, hts, hown, hlocks, hml, hin⟩ := C
  have hl : lv_has ls 7 [(0, .ref a_t), (1, .int p_1)] := hl
  have h := hf
  unfold f_Tree_select at h
  refine lv_iload_n hx hb d_Tree_select_0 rfl (lv_at hl 1 rfl) ?_
  refine lv_istore_n (lv' := [(2, .int p_1), (0, .ref a_t), (1, .int p_1)]) hx hb d_Tree_select_1 rfl hl (by decide) rfl (fun ls hl => ?_)
  refine lv_aload_n hx hb d_Tree_select_2 rfl (lv_at hl 1 rfl) ?_
  refine va_get (D := G.1) (ci := 4) (v := .int c_rt) (C := "BranchStore$Tree") (T := F_Tree) (N := 15) hx hb hts i_Tree hown hK hP 0 rfl rfl 3 (by decide) (hts _ k_126) (fun _ h9 => h9) rfl d_Tree_select_3 ?_
  refine lv_istore_n (lv' := [(3, .int c_rt), (2, .int p_1), (0, .ref a_t), (1, .int p_1)]) hx hb d_Tree_select_6 rfl hl (by decide) rfl (fun ls hl => ?_)
  obtain ⟨y3, hy3, h⟩ := ob h
  have E7 : ∀ (z21 : Int32), z21 = y3 → ∀ (H : Heap) (locs : List Loc) (ls : Array Slot), va_P G.1 classes (wT G a_t a_c a_mv a_fr a_br a_e0 a_e1 a_e2 a_e3 a_lo a_ho c_c c_cl c_mv c_ml c_en c_rt c_fr c_br c_fi c_st c_vz) H → va_D A (wT G a_t a_c a_mv a_fr a_br a_e0 a_e1 a_e2 a_e3 a_lo a_ho c_c c_cl c_mv c_ml c_en c_rt c_fr c_br c_fi c_st c_vz) → va_S A xs.heap H locs → (∀ q ∈ locs, xs.heap.size ≤ q.base) → lv_has ls 7 [(3, .int z21)] → W xp l xe { frames := 4, cells := 0, slots := 0, locals := 94 } xs xm ([.ref a_t, .int p_1] : List Value).toArray xb xme xc H locs 0 0 Q (F0 xm 93 ls []) := by
    intro z21 ey H locs ls hP hD hS hL hl
    subst ey
    try dsimp only at h
    refine lv_iload_n hx hb d_Tree_select_93 rfl (lv_at hl 0 rfl) ?_
    obtain rfl := Option.some.inj h
    exact zreti () hQ hL hx hb hr hlocks hP hD hS rfl (Nat.le_refl _) (Nat.le_refl _) d_Tree_select_94
  have L7 : ∀ v : (Int32 × Int32), lp (fun v => s_Tree_select_7 c_c c_cl v.1 v.2) v = some y3 → ∀ (H : Heap) (locs : List Loc) (ls : Array Slot), va_P G.1 classes (wT G a_t a_c a_mv a_fr a_br a_e0 a_e1 a_e2 a_e3 a_lo a_ho c_c c_cl c_mv c_ml c_en c_rt c_fr c_br c_fi c_st c_vz) H → va_D A (wT G a_t a_c a_mv a_fr a_br a_e0 a_e1 a_e2 a_e3 a_lo a_ho c_c c_cl c_mv c_ml c_en c_rt c_fr c_br c_fi c_st c_vz) → va_S A xs.heap H locs → (∀ q ∈ locs, xs.heap.size ≤ q.base) → lv_has ls 7 [(0, .ref a_t), (2, .int v.1), (3, .int v.2)] → W xp l xe { frames := 4, cells := 0, slots := 0, locals := 94 } xs xm ([.ref a_t, .int p_1] : List Value).toArray xb xme xc H locs 0 0 Q (F0 xm 7 ls []) := by
    refine lp_walk _ (fun v x h hc he => ?_)
    obtain ⟨x2_1, x3_2⟩ := v
    intro H locs ls hP hD hS hL hl
    have h : s_Tree_select_7 c_c c_cl x2_1 x3_2 = some x := h
    unfold s_Tree_select_7 at h
    refine lv_iload_n hx hb d_Tree_select_7 rfl (lv_at hl 2 rfl) ?_
    refine lv_if_le (tgt := 93) hx hb d_Tree_select_8 (by decide) (fun q4 => ?_) (fun q4 => ?_)
    · have h := it h q4
      exact E7 x3_2 (he _ (Option.some.inj h).symm) H locs ls hP hD hS hL (lv_sub hl [2] rfl)
    · have h := ie h q4
      refine lv_aload_n hx hb d_Tree_select_11 rfl (lv_at hl 0 rfl) ?_
      refine lv_iload_n hx hb d_Tree_select_12 rfl (lv_at hl 2 rfl) ?_
      obtain ⟨r5, hr5, h⟩ := ob h
      refine zpcallr (wr := []) (w2 := fun _ => (wT G a_t a_c a_mv a_fr a_br a_e0 a_e1 a_e2 a_e3 a_lo a_ho c_c c_cl c_mv c_ml c_en c_rt c_fr c_br c_fi c_st c_vz)) (zrunV (As := [.int x3_2]) (rest := []) ⟨hx, hb, hml, hown, hts⟩ hN hK (c_Tree_shapeOf l G H.size a_t a_c a_mv a_fr a_br a_e0 a_e1 a_e2 a_e3 a_lo a_ho c_c c_cl c_mv c_ml c_en c_rt c_fr c_br c_fi c_st c_vz x3_2 r5 hr5) ⟨rfl, rfl⟩ kv_Tree_116 ⟨Nat.le_of_ble_eq_true rfl, Nat.le_of_ble_eq_true rfl⟩ 0 rfl rfl rfl hl.1 (Nat.le_of_ble_eq_true rfl) d_Tree_select_13 ⟨Nat.le_of_ble_eq_true rfl, Nat.le_of_ble_eq_true rfl⟩) hP hD hS hA [0, 1, 2, 3, 4, 5, 6, 7, 8] [] [0, 1, 2, 3, 4, 5, 6, 7, 8] rfl rfl rfl rfl (by decide) rfl (fun _ => rfl) (fun _ ra H hw hP hD hS => ?_)
      subst hw
      refine lv_astore (lv' := [(4, .ref (zsh a_e0 a_e1 a_e2 a_e3 r5)), (0, .ref a_t), (2, .int x2_1), (3, .int x3_2)]) hx hb d_Tree_select_16 hl (by decide) rfl (fun ls hl => ?_)
      refine lv_aload hx hb d_Tree_select_18 (lv_at hl 0 rfl) ?_
      refine lv_aload_n hx hb d_Tree_select_20 rfl (lv_at hl 1 rfl) ?_
      refine va_get (D := G.1) (ci := 4) (v := .ref a_c) (C := "BranchStore$Tree") (T := F_Tree) (N := 15) hx hb hts i_Tree hown hK hP 0 rfl rfl 0 (by decide) (hts _ k_123) (fun _ h9 => h9) rfl d_Tree_select_21 ?_
      refine lv_iload_n hx hb d_Tree_select_24 rfl (lv_at hl 3 rfl) ?_
      refine lv_iconst (v := 0) hx hb d_Tree_select_25 (by decide) ?_
      obtain ⟨r6, hr6, h⟩ := ob h
      refine zv_from (k := r5) ⟨hx, hb, hml, hown, hts⟩ hN hK hP hD hS hA (zE_mk rfl rfl rfl rfl) rfl hr6 (Nat.le_of_ble_eq_true rfl) (Nat.le_of_ble_eq_true rfl) hl.1 (Nat.le_of_ble_eq_true rfl) d_Tree_select_26 ⟨Nat.zero_le _, Nat.zero_le _⟩ (fun H hP hS => ?_)
      refine lv_istore (lv' := [(5, .int r6), (4, .ref (zsh a_e0 a_e1 a_e2 a_e3 r5)), (0, .ref a_t), (2, .int x2_1), (3, .int x3_2)]) hx hb d_Tree_select_29 hl (by decide) rfl (fun ls hl => ?_)
      refine lv_aload_n hx hb d_Tree_select_31 rfl (lv_at hl 2 rfl) ?_
      refine lv_iload_n hx hb d_Tree_select_32 rfl (lv_at hl 4 rfl) ?_
      refine lv_iload hx hb d_Tree_select_33 (lv_at hl 0 rfl) ?_
      obtain ⟨r7, hr7, h⟩ := ob h
      refine zpcalli (wr := []) (w2 := fun _ => (wT G a_t a_c a_mv a_fr a_br a_e0 a_e1 a_e2 a_e3 a_lo a_ho c_c c_cl c_mv c_ml c_en c_rt c_fr c_br c_fi c_st c_vz)) (zrunV (As := [.int x3_2, .int r6]) (rest := []) ⟨hx, hb, hml, hown, hts⟩ hN hK (c_Tree_child l G H.size a_t a_c a_mv a_fr a_br a_e0 a_e1 a_e2 a_e3 a_lo a_ho c_c c_cl c_mv c_ml c_en c_rt c_fr c_br c_fi c_st c_vz x3_2 r6 r7 hr7) ⟨rfl, rfl⟩ kv_Tree_126 ⟨Nat.le_of_ble_eq_true rfl, Nat.le_of_ble_eq_true rfl⟩ 0 rfl rfl rfl hl.1 (Nat.le_of_ble_eq_true rfl) d_Tree_select_35 ⟨Nat.le_of_ble_eq_true rfl, Nat.le_of_ble_eq_true rfl⟩) hP hD hS hA [0, 1, 2, 3, 4, 5, 6, 7, 8] [] [0, 1, 2, 3, 4, 5, 6, 7, 8] rfl rfl rfl rfl (by decide) rfl (fun _ => rfl) (fun rr _ H hw hP hD hS => ?_)
      have hw := hw.symm
      subst hw
      refine lv_istore (lv' := [(6, .int r7), (5, .int r6), (4, .ref (zsh a_e0 a_e1 a_e2 a_e3 r5)), (0, .ref a_t), (2, .int x2_1), (3, .int x3_2)]) hx hb d_Tree_select_38 hl (by decide) rfl (fun ls hl => ?_)
      obtain ⟨y11, hy11, h⟩ := ob h
      have E40 : ∀ (z18 : Int32) (z19 : Int32), (z18, z19) = y11 → ∀ (H : Heap) (locs : List Loc) (ls : Array Slot), va_P G.1 classes (wT G a_t a_c a_mv a_fr a_br a_e0 a_e1 a_e2 a_e3 a_lo a_ho c_c c_cl c_mv c_ml c_en c_rt c_fr c_br c_fi c_st c_vz) H → va_D A (wT G a_t a_c a_mv a_fr a_br a_e0 a_e1 a_e2 a_e3 a_lo a_ho c_c c_cl c_mv c_ml c_en c_rt c_fr c_br c_fi c_st c_vz) → va_S A xs.heap H locs → (∀ q ∈ locs, xs.heap.size ≤ q.base) → lv_has ls 7 [(0, .ref a_t), (2, .int z18), (6, .int z19)] → W xp l xe { frames := 4, cells := 0, slots := 0, locals := 94 } xs xm ([.ref a_t, .int p_1] : List Value).toArray xb xme xc H locs 0 0 Q (F0 xm 87 ls []) := by
        intro z18 z19 ey H locs ls hP hD hS hL hl
        subst ey
        try dsimp only at h
        refine lv_iload hx hb d_Tree_select_87 (lv_at hl 2 rfl) ?_
        refine lv_istore_n (lv' := [(3, .int z19), (0, .ref a_t), (2, .int z18), (6, .int z19)]) hx hb d_Tree_select_89 rfl hl (by decide) rfl (fun ls hl => ?_)
        refine lv_goto (tgt := 7) hx hb d_Tree_select_90 (by decide) ?_
        exact hc _ (Option.some.inj h).symm H locs ls hP hD hS hL (lv_sub hl [1, 2, 0] rfl)
      have L40 : ∀ v : (Int32 × Int32 × Int32), lp (fun v => s_Tree_select_40 c_c c_cl x3_2 r5 v.1 v.2.1 v.2.2) v = some y11 → ∀ (H : Heap) (locs : List Loc) (ls : Array Slot), va_P G.1 classes (wT G a_t a_c a_mv a_fr a_br a_e0 a_e1 a_e2 a_e3 a_lo a_ho c_c c_cl c_mv c_ml c_en c_rt c_fr c_br c_fi c_st c_vz) H → va_D A (wT G a_t a_c a_mv a_fr a_br a_e0 a_e1 a_e2 a_e3 a_lo a_ho c_c c_cl c_mv c_ml c_en c_rt c_fr c_br c_fi c_st c_vz) → va_S A xs.heap H locs → (∀ q ∈ locs, xs.heap.size ≤ q.base) → lv_has ls 7 [(0, .ref a_t), (2, .int v.1), (3, .int x3_2), (4, .ref (zsh a_e0 a_e1 a_e2 a_e3 r5)), (5, .int v.2.1), (6, .int v.2.2)] → W xp l xe { frames := 4, cells := 0, slots := 0, locals := 94 } xs xm ([.ref a_t, .int p_1] : List Value).toArray xb xme xc H locs 0 0 Q (F0 xm 40 ls []) := by
        refine lp_walk _ (fun v x h hc he => ?_)
        obtain ⟨x2_8, x5_9, x6_10⟩ := v
        intro H locs ls hP hD hS hL hl
        have h : s_Tree_select_40 c_c c_cl x3_2 r5 x2_8 x5_9 x6_10 = some x := h
        unfold s_Tree_select_40 at h
        refine lv_aload_n hx hb d_Tree_select_40 rfl (lv_at hl 0 rfl) ?_
        refine lv_iload hx hb d_Tree_select_41 (lv_at hl 5 rfl) ?_
        obtain ⟨r12, hr12, h⟩ := ob h
        refine zpcalli (wr := []) (w2 := fun _ => (wT G a_t a_c a_mv a_fr a_br a_e0 a_e1 a_e2 a_e3 a_lo a_ho c_c c_cl c_mv c_ml c_en c_rt c_fr c_br c_fi c_st c_vz)) (zrunV (As := [.int x6_10]) (rest := []) ⟨hx, hb, hml, hown, hts⟩ hN hK (c_Tree_below l G H.size a_t a_c a_mv a_fr a_br a_e0 a_e1 a_e2 a_e3 a_lo a_ho c_c c_cl c_mv c_ml c_en c_rt c_fr c_br c_fi c_st c_vz x6_10 r12 hr12) ⟨rfl, rfl⟩ kv_Tree_113 ⟨Nat.le_of_ble_eq_true rfl, Nat.le_of_ble_eq_true rfl⟩ 0 rfl rfl rfl hl.1 (Nat.le_of_ble_eq_true rfl) d_Tree_select_43 ⟨Nat.le_of_ble_eq_true rfl, Nat.le_of_ble_eq_true rfl⟩) hP hD hS hA [0, 1, 2, 3, 4, 5, 6, 7, 8] [] [0, 1, 2, 3, 4, 5, 6, 7, 8] rfl rfl rfl rfl (by decide) rfl (fun _ => rfl) (fun rr _ H hw hP hD hS => ?_)
        have hw := hw.symm
        subst hw
        refine lv_iload_n hx hb d_Tree_select_46 rfl (lv_at hl 1 rfl) ?_
        refine lv_icmp_gt (tgt := 87) hx hb d_Tree_select_47 (by decide) (fun q13 => ?_) (fun q13 => ?_)
        · have h := it h q13
          exact E40 x2_8 x6_10 (he _ (Option.some.inj h).symm) H locs ls hP hD hS hL (lv_sub hl [0, 1, 5] rfl)
        · have h := ie h q13
          refine lv_iload_n hx hb d_Tree_select_50 rfl (lv_at hl 1 rfl) ?_
          refine lv_aload_n hx hb d_Tree_select_51 rfl (lv_at hl 0 rfl) ?_
          refine lv_iload hx hb d_Tree_select_52 (lv_at hl 5 rfl) ?_
          obtain ⟨r14, hr14, h⟩ := ob h
          refine zpcalli (wr := []) (w2 := fun _ => (wT G a_t a_c a_mv a_fr a_br a_e0 a_e1 a_e2 a_e3 a_lo a_ho c_c c_cl c_mv c_ml c_en c_rt c_fr c_br c_fi c_st c_vz)) (zrunV (As := [.int x6_10]) (rest := [.int x2_8]) ⟨hx, hb, hml, hown, hts⟩ hN hK (c_Tree_below l G H.size a_t a_c a_mv a_fr a_br a_e0 a_e1 a_e2 a_e3 a_lo a_ho c_c c_cl c_mv c_ml c_en c_rt c_fr c_br c_fi c_st c_vz x6_10 r14 hr14) ⟨rfl, rfl⟩ kv_Tree_113 ⟨Nat.le_of_ble_eq_true rfl, Nat.le_of_ble_eq_true rfl⟩ 0 rfl rfl rfl hl.1 (Nat.le_of_ble_eq_true rfl) d_Tree_select_54 ⟨Nat.le_of_ble_eq_true rfl, Nat.le_of_ble_eq_true rfl⟩) hP hD hS hA [0, 1, 2, 3, 4, 5, 6, 7, 8] [] [0, 1, 2, 3, 4, 5, 6, 7, 8] rfl rfl rfl rfl (by decide) rfl (fun _ => rfl) (fun rr _ H hw hP hD hS => ?_)
          have hw := hw.symm
          subst hw
          refine lv_isub hx hb d_Tree_select_57 ?_
          refine lv_topi (fun v15 ev15 => ?_)
          have h := nm_k h v15 ev15
          refine lv_istore_n (lv' := [(2, .int v15), (0, .ref a_t), (3, .int x3_2), (4, .ref (zsh a_e0 a_e1 a_e2 a_e3 r5)), (5, .int x5_9), (6, .int x6_10)]) hx hb d_Tree_select_58 rfl hl (by decide) rfl (fun ls hl => ?_)
          refine lv_aload hx hb d_Tree_select_59 (lv_at hl 3 rfl) ?_
          refine lv_aload_n hx hb d_Tree_select_61 rfl (lv_at hl 1 rfl) ?_
          refine va_get (D := G.1) (ci := 4) (v := .ref a_c) (C := "BranchStore$Tree") (T := F_Tree) (N := 15) hx hb hts i_Tree hown hK hP 0 rfl rfl 0 (by decide) (hts _ k_123) (fun _ h9 => h9) rfl d_Tree_select_62 ?_
          refine lv_iload_n hx hb d_Tree_select_65 rfl (lv_at hl 2 rfl) ?_
          refine lv_iload hx hb d_Tree_select_66 (lv_at hl 4 rfl) ?_
          refine lv_iconst (v := 1) hx hb d_Tree_select_68 (by decide) ?_
          refine lv_iadd hx hb d_Tree_select_69 ?_
          obtain ⟨r16, hr16, h⟩ := ob h
          refine zv_from (k := r5) ⟨hx, hb, hml, hown, hts⟩ hN hK hP hD hS hA (zE_mk rfl rfl rfl rfl) rfl hr16 (Nat.le_of_ble_eq_true rfl) (Nat.le_of_ble_eq_true rfl) hl.1 (Nat.le_of_ble_eq_true rfl) d_Tree_select_70 ⟨Nat.zero_le _, Nat.zero_le _⟩ (fun H hP hS => ?_)
          refine lv_istore (lv' := [(5, .int r16), (2, .int v15), (0, .ref a_t), (3, .int x3_2), (4, .ref (zsh a_e0 a_e1 a_e2 a_e3 r5)), (6, .int x6_10)]) hx hb d_Tree_select_73 hl (by decide) rfl (fun ls hl => ?_)
          refine lv_aload_n hx hb d_Tree_select_75 rfl (lv_at hl 2 rfl) ?_
          refine lv_iload_n hx hb d_Tree_select_76 rfl (lv_at hl 3 rfl) ?_
          refine lv_iload hx hb d_Tree_select_77 (lv_at hl 0 rfl) ?_
          obtain ⟨r17, hr17, h⟩ := ob h
          refine zpcalli (wr := []) (w2 := fun _ => (wT G a_t a_c a_mv a_fr a_br a_e0 a_e1 a_e2 a_e3 a_lo a_ho c_c c_cl c_mv c_ml c_en c_rt c_fr c_br c_fi c_st c_vz)) (zrunV (As := [.int x3_2, .int r16]) (rest := []) ⟨hx, hb, hml, hown, hts⟩ hN hK (c_Tree_child l G H.size a_t a_c a_mv a_fr a_br a_e0 a_e1 a_e2 a_e3 a_lo a_ho c_c c_cl c_mv c_ml c_en c_rt c_fr c_br c_fi c_st c_vz x3_2 r16 r17 hr17) ⟨rfl, rfl⟩ kv_Tree_126 ⟨Nat.le_of_ble_eq_true rfl, Nat.le_of_ble_eq_true rfl⟩ 0 rfl rfl rfl hl.1 (Nat.le_of_ble_eq_true rfl) d_Tree_select_79 ⟨Nat.le_of_ble_eq_true rfl, Nat.le_of_ble_eq_true rfl⟩) hP hD hS hA [0, 1, 2, 3, 4, 5, 6, 7, 8] [] [0, 1, 2, 3, 4, 5, 6, 7, 8] rfl rfl rfl rfl (by decide) rfl (fun _ => rfl) (fun rr _ H hw hP hD hS => ?_)
          have hw := hw.symm
          subst hw
          refine lv_istore (lv' := [(6, .int r17), (5, .int r16), (2, .int v15), (0, .ref a_t), (3, .int x3_2), (4, .ref (zsh a_e0 a_e1 a_e2 a_e3 r5))]) hx hb d_Tree_select_82 hl (by decide) rfl (fun ls hl => ?_)
          refine lv_goto (tgt := 40) hx hb d_Tree_select_84 (by decide) ?_
          exact hc _ (Option.some.inj h).symm H locs ls hP hD hS hL (lv_sub hl [3, 2, 4, 5, 1, 0] rfl)
      exact L40 _ hy11 _ _ ls hP hD hS hL (lv_sub hl [3, 4, 5, 2, 1, 0] rfl)
  exact L7 _ hy3 _ _ ls hP hD hS hL (lv_sub hl [2, 1, 0] rfl)

noncomputable def s_Tree_begins_5 (c_c : (Nat → Int32)) (c_cl : Nat) (c_kb : (Nat → Int32)) (x2 : Int32) (x3 : Int32) : Option (Int32 ⊕ Int32) :=
if x3 ≤ 0 then
(some (.inr x3))
else
(gi (x3 + 3) c_cl <|
if x2 ≤ (c_c (x3 + 3).toNatClampNeg) then
(some (.inr x3))
else
(gi (x3 + 3) c_cl <|
(f_Key_at c_kb (c_c (x3 + 3).toNatClampNeg)).bind fun r7 =>
(f_Tree_child c_c c_cl x3 r7).bind fun r8 =>
some (.inl r8)))
noncomputable def f_Tree_begins (c_c : (Nat → Int32)) (c_cl : Nat) (c_rt : Int32) (c_kb : (Nat → Int32)) (c_kn : Int32) (p_2 : Int32) : Option Int32 :=
(lp (fun v => s_Tree_begins_5 c_c c_cl c_kb p_2 v) c_rt).bind fun y10 =>
if y10 = 0 then
(some 0)
else
((f_Tree_least c_c c_cl y10).bind fun r12 =>
(f_Tree_differs c_c c_cl c_kb c_kn r12).bind fun r13 =>
gi (-r12) c_cl <|
if (if (c_c (-r12).toNatClampNeg) < r13 then (c_c (-r12).toNatClampNeg) else r13) < p_2 then
(some 0)
else
((f_Tree_below c_c c_cl y10).bind fun r16 =>
some r16))
set_option maxHeartbeats 8000000 in
set_option maxRecDepth 100000 in
theorem c_Tree_begins (l : Launch) (G : zG) (sz : Nat) (a_t a_c a_mv a_fr a_br a_e0 a_e1 a_e2 a_e3 a_lo a_ho a_ko a_kq : Nat) (c_c : (Nat → Int32)) (c_cl : Nat) (c_mv : (Nat → Int32)) (c_ml : Nat) (c_en : Int32) (c_rt : Int32) (c_fr : (Nat → Int32)) (c_br : (Nat → Int32)) (c_fi : Int64) (c_st : Int64) (c_vz : Int64) (c_kb : (Nat → Int32)) (c_kn : Int32) (c_kt : Int32) (p_2 : Int32) (r0 : Int32) (hf : f_Tree_begins c_c c_cl c_rt c_kb c_kn p_2 = some r0) :
    Met l y_Tree_begins (Cond.code y_Tree_begins prog_7_method_24_code 5 (some .int) :: lw_ok) { frames := 5, cells := 0, slots := 0, locals := 116 } (zPc G sz [.ref a_t, .ref a_ko, .int p_2] (wT G a_t a_c a_mv a_fr a_br a_e0 a_e1 a_e2 a_e3 a_lo a_ho c_c c_cl c_mv c_ml c_en c_rt c_fr c_br c_fi c_st c_vz ++ wK G a_ko a_kq c_kb c_kn c_kt))
      ((fun (A : Nat → Prop) => va_Qi (fun (r : Int32) (_ : Unit) => r = r0) (fun _ t => zB G A (wT G a_t a_c a_mv a_fr a_br a_e0 a_e1 a_e2 a_e3 a_lo a_ho c_c c_cl c_mv c_ml c_en c_rt c_fr c_br c_fi c_st c_vz ++ wK G a_ko a_kq c_kb c_kn c_kt) t) A) (va_A (wT G a_t a_c a_mv a_fr a_br a_e0 a_e1 a_e2 a_e3 a_lo a_ho c_c c_cl c_mv c_ml c_en c_rt c_fr c_br c_fi c_st c_vz ++ wK G a_ko a_kq c_kb c_kn c_kt) sz)) 0 0 (fun q => sz ≤ q) := by
  refine zMetR (Qc := fun (A : Nat → Prop) => va_Qi (fun (r : Int32) (_ : Unit) => r = r0) (fun _ t => zB G A (wT G a_t a_c a_mv a_fr a_br a_e0 a_e1 a_e2 a_e3 a_lo a_ho c_c c_cl c_mv c_ml c_en c_rt c_fr c_br c_fi c_st c_vz ++ wK G a_ko a_kq c_kb c_kn c_kt) t) A) (by decide) (Nat.le_of_ble_eq_true rfl) (fun xp xe xs xm xb xme xc A ls Q H locs C hN hK hP hD hS hL hA hl hQ => ?_)
  obtain ⟨hx, hb, hr, hts, hown, hlocks, hml, hin⟩ := C
  have hl : lv_has ls 5 [(0, .ref a_t), (1, .ref a_ko), (2, .int p_2)] := hl
  have h := hf
  unfold f_Tree_begins at h
  refine lv_aload_n hx hb d_Tree_begins_0 rfl (lv_at hl 0 rfl) ?_
  refine va_get (D := G.1) (ci := 4) (v := .int c_rt) (C := "BranchStore$Tree") (T := F_Tree) (N := 15) hx hb hts i_Tree hown hK hP 0 rfl rfl 3 (by decide) (hts _ k_126) (fun _ h9 => h9) rfl d_Tree_begins_1 ?_
  refine lv_istore_n (lv' := [(3, .int c_rt), (0, .ref a_t), (1, .ref a_ko), (2, .int p_2)]) hx hb d_Tree_begins_4 rfl hl (by decide) rfl (fun ls hl => ?_)
  obtain ⟨y2, hy2, h⟩ := ob h
  have E5 : ∀ (z9 : Int32), z9 = y2 → ∀ (H : Heap) (locs : List Loc) (ls : Array Slot), va_P G.1 classes (wT G a_t a_c a_mv a_fr a_br a_e0 a_e1 a_e2 a_e3 a_lo a_ho c_c c_cl c_mv c_ml c_en c_rt c_fr c_br c_fi c_st c_vz ++ wK G a_ko a_kq c_kb c_kn c_kt) H → va_D A (wT G a_t a_c a_mv a_fr a_br a_e0 a_e1 a_e2 a_e3 a_lo a_ho c_c c_cl c_mv c_ml c_en c_rt c_fr c_br c_fi c_st c_vz ++ wK G a_ko a_kq c_kb c_kn c_kt) → va_S A xs.heap H locs → (∀ q ∈ locs, xs.heap.size ≤ q.base) → lv_has ls 5 [(0, .ref a_t), (1, .ref a_ko), (2, .int p_2), (3, .int z9)] → W xp l xe { frames := 5, cells := 0, slots := 0, locals := 116 } xs xm ([.ref a_t, .ref a_ko, .int p_2] : List Value).toArray xb xme xc H locs 0 0 Q (F0 xm 42 ls []) := by
    intro z9 ey H locs ls hP hD hS hL hl
    subst ey
    try dsimp only at h
    refine lv_iload_n hx hb d_Tree_begins_42 rfl (lv_at hl 3 rfl) ?_
    refine lv_if_ne (tgt := 48) hx hb d_Tree_begins_43 (by decide) (fun q11 => ?_) (fun q11 => ?_)
    · have h := ie h q11
      refine lv_aload_n hx hb d_Tree_begins_48 rfl (lv_at hl 0 rfl) ?_
      refine lv_iload_n hx hb d_Tree_begins_49 rfl (lv_at hl 3 rfl) ?_
      obtain ⟨r12, hr12, h⟩ := ob h
      refine zpcalli (wr := [(a_ko, .inr (0, [.ref a_kq, .int c_kn, .int c_kt])), (a_kq, .inl (G.2.2.1, 50, .inl c_kb))]) (w2 := fun _ => (wT G a_t a_c a_mv a_fr a_br a_e0 a_e1 a_e2 a_e3 a_lo a_ho c_c c_cl c_mv c_ml c_en c_rt c_fr c_br c_fi c_st c_vz ++ wK G a_ko a_kq c_kb c_kn c_kt)) (zrunV (As := [.int z9]) (rest := []) ⟨hx, hb, hml, hown, hts⟩ hN hK (c_Tree_least l G H.size a_t a_c a_mv a_fr a_br a_e0 a_e1 a_e2 a_e3 a_lo a_ho c_c c_cl c_mv c_ml c_en c_rt c_fr c_br c_fi c_st c_vz z9 r12 hr12) ⟨rfl, rfl⟩ kv_Tree_129 ⟨Nat.le_of_ble_eq_true rfl, Nat.le_of_ble_eq_true rfl⟩ 0 rfl rfl rfl hl.1 (Nat.le_of_ble_eq_true rfl) d_Tree_begins_50 ⟨Nat.le_of_ble_eq_true rfl, Nat.le_of_ble_eq_true rfl⟩) hP hD hS hA [0, 1, 2, 3, 4, 5, 6, 7, 8] [9, 10] [2, 3, 4, 5, 6, 7, 8, 9, 10, 0, 1] rfl rfl rfl rfl (by decide) rfl (fun _ => rfl) (fun rr _ H hw hP hD hS => ?_)
      have hw := hw.symm
      subst hw
      refine lv_istore (lv' := [(4, .int r12), (0, .ref a_t), (1, .ref a_ko), (2, .int p_2), (3, .int z9)]) hx hb d_Tree_begins_53 hl (by decide) rfl (fun ls hl => ?_)
      refine lv_aload_n hx hb d_Tree_begins_55 rfl (lv_at hl 1 rfl) ?_
      refine lv_aload_n hx hb d_Tree_begins_56 rfl (lv_at hl 2 rfl) ?_
      refine lv_iload hx hb d_Tree_begins_57 (lv_at hl 0 rfl) ?_
      obtain ⟨r13, hr13, h⟩ := ob h
      refine zpcalli (wr := []) (w2 := fun _ => (wT G a_t a_c a_mv a_fr a_br a_e0 a_e1 a_e2 a_e3 a_lo a_ho c_c c_cl c_mv c_ml c_en c_rt c_fr c_br c_fi c_st c_vz ++ wK G a_ko a_kq c_kb c_kn c_kt)) (zrunV (As := [.ref a_ko, .int r12]) (rest := []) ⟨hx, hb, hml, hown, hts⟩ hN hK (c_Tree_differs l G H.size a_t a_c a_mv a_fr a_br a_e0 a_e1 a_e2 a_e3 a_lo a_ho a_ko a_kq c_c c_cl c_mv c_ml c_en c_rt c_fr c_br c_fi c_st c_vz c_kb c_kn c_kt r12 r13 hr13) ⟨rfl, rfl⟩ kv_Tree_137 ⟨Nat.le_of_ble_eq_true rfl, Nat.le_of_ble_eq_true rfl⟩ 0 rfl rfl rfl hl.1 (Nat.le_of_ble_eq_true rfl) d_Tree_begins_59 ⟨Nat.le_of_ble_eq_true rfl, Nat.le_of_ble_eq_true rfl⟩) hP hD hS hA [0, 1, 2, 3, 4, 5, 6, 7, 8, 9, 10] [] [0, 1, 2, 3, 4, 5, 6, 7, 8, 9, 10] rfl rfl rfl rfl (by decide) rfl (fun _ => rfl) (fun rr _ H hw hP hD hS => ?_)
      have hw := hw.symm
      subst hw
      refine lv_aload_n hx hb d_Tree_begins_62 rfl (lv_at hl 1 rfl) ?_
      refine va_get (D := G.1) (ci := 4) (v := .ref a_c) (C := "BranchStore$Tree") (T := F_Tree) (N := 15) hx hb hts i_Tree hown hK hP 0 rfl rfl 0 (by decide) (hts _ k_123) (fun _ h9 => h9) rfl d_Tree_begins_63 ?_
      refine lv_iload hx hb d_Tree_begins_66 (lv_at hl 0 rfl) ?_
      refine lv_ineg hx hb d_Tree_begins_68 ?_
      obtain ⟨h14, h⟩ := gi_k h
      refine va_iald hx hb hK hP 1 0 rfl rfl h14 d_Tree_begins_69 ?_
      refine va_mmin hx hb (hml.trans hl.1.symm) hown (hts _ k_256) (hts _ k_257) (hts _ k_16) (hts _ k_258) (Nat.le_of_ble_eq_true rfl) (Nat.le_of_ble_eq_true rfl) (Nat.zero_le _) (Nat.zero_le _) d_Tree_begins_70 ?_
      refine lv_iload_n hx hb d_Tree_begins_73 rfl (lv_at hl 3 rfl) ?_
      refine lv_icmp_lt (tgt := 85) hx hb d_Tree_begins_74 (by decide) (fun q15 => ?_) (fun q15 => ?_)
      · have h := it h q15
        refine lv_iconst (v := 0) hx hb d_Tree_begins_85 (by decide) ?_
        obtain rfl := Option.some.inj h
        exact zreti () hQ hL hx hb hr hlocks hP hD hS rfl (Nat.le_refl _) (Nat.le_refl _) d_Tree_begins_86
      · have h := ie h q15
        refine lv_aload_n hx hb d_Tree_begins_77 rfl (lv_at hl 1 rfl) ?_
        refine lv_iload_n hx hb d_Tree_begins_78 rfl (lv_at hl 4 rfl) ?_
        obtain ⟨r16, hr16, h⟩ := ob h
        refine zpcalli (wr := [(a_ko, .inr (0, [.ref a_kq, .int c_kn, .int c_kt])), (a_kq, .inl (G.2.2.1, 50, .inl c_kb))]) (w2 := fun _ => (wT G a_t a_c a_mv a_fr a_br a_e0 a_e1 a_e2 a_e3 a_lo a_ho c_c c_cl c_mv c_ml c_en c_rt c_fr c_br c_fi c_st c_vz ++ wK G a_ko a_kq c_kb c_kn c_kt)) (zrunV (As := [.int z9]) (rest := []) ⟨hx, hb, hml, hown, hts⟩ hN hK (c_Tree_below l G H.size a_t a_c a_mv a_fr a_br a_e0 a_e1 a_e2 a_e3 a_lo a_ho c_c c_cl c_mv c_ml c_en c_rt c_fr c_br c_fi c_st c_vz z9 r16 hr16) ⟨rfl, rfl⟩ kv_Tree_113 ⟨Nat.le_of_ble_eq_true rfl, Nat.le_of_ble_eq_true rfl⟩ 0 rfl rfl rfl hl.1 (Nat.le_of_ble_eq_true rfl) d_Tree_begins_79 ⟨Nat.le_of_ble_eq_true rfl, Nat.le_of_ble_eq_true rfl⟩) hP hD hS hA [0, 1, 2, 3, 4, 5, 6, 7, 8] [9, 10] [2, 3, 4, 5, 6, 7, 8, 9, 10, 0, 1] rfl rfl rfl rfl (by decide) rfl (fun _ => rfl) (fun rr _ H hw hP hD hS => ?_)
        have hw := hw.symm
        subst hw
        refine lv_goto (tgt := 86) hx hb d_Tree_begins_82 (by decide) ?_
        obtain rfl := Option.some.inj h
        exact zreti () hQ hL hx hb hr hlocks hP hD hS rfl (Nat.le_refl _) (Nat.le_refl _) d_Tree_begins_86
    · have h := it h q11
      refine lv_iconst (v := 0) hx hb d_Tree_begins_46 (by decide) ?_
      obtain rfl := Option.some.inj h
      exact zreti () hQ hL hx hb hr hlocks hP hD hS rfl (Nat.le_refl _) (Nat.le_refl _) d_Tree_begins_47
  have L5 : ∀ v : Int32, lp (fun v => s_Tree_begins_5 c_c c_cl c_kb p_2 v) v = some y2 → ∀ (H : Heap) (locs : List Loc) (ls : Array Slot), va_P G.1 classes (wT G a_t a_c a_mv a_fr a_br a_e0 a_e1 a_e2 a_e3 a_lo a_ho c_c c_cl c_mv c_ml c_en c_rt c_fr c_br c_fi c_st c_vz ++ wK G a_ko a_kq c_kb c_kn c_kt) H → va_D A (wT G a_t a_c a_mv a_fr a_br a_e0 a_e1 a_e2 a_e3 a_lo a_ho c_c c_cl c_mv c_ml c_en c_rt c_fr c_br c_fi c_st c_vz ++ wK G a_ko a_kq c_kb c_kn c_kt) → va_S A xs.heap H locs → (∀ q ∈ locs, xs.heap.size ≤ q.base) → lv_has ls 5 [(0, .ref a_t), (1, .ref a_ko), (2, .int p_2), (3, .int v)] → W xp l xe { frames := 5, cells := 0, slots := 0, locals := 116 } xs xm ([.ref a_t, .ref a_ko, .int p_2] : List Value).toArray xb xme xc H locs 0 0 Q (F0 xm 5 ls []) := by
    refine lp_walk _ (fun v x h hc he => ?_)
    obtain ⟨x3_1, rfl⟩ : ∃ z, z = v := ⟨_, rfl⟩
    intro H locs ls hP hD hS hL hl
    have h : s_Tree_begins_5 c_c c_cl c_kb p_2 x3_1 = some x := h
    unfold s_Tree_begins_5 at h
    refine lv_iload_n hx hb d_Tree_begins_5 rfl (lv_at hl 3 rfl) ?_
    refine lv_if_le (tgt := 42) hx hb d_Tree_begins_6 (by decide) (fun q3 => ?_) (fun q3 => ?_)
    · have h := it h q3
      exact E5 x3_1 (he _ (Option.some.inj h).symm) H locs ls hP hD hS hL (lv_sub hl [0, 1, 2, 3] rfl)
    · have h := ie h q3
      refine lv_aload_n hx hb d_Tree_begins_9 rfl (lv_at hl 0 rfl) ?_
      refine va_get (D := G.1) (ci := 4) (v := .ref a_c) (C := "BranchStore$Tree") (T := F_Tree) (N := 15) hx hb hts i_Tree hown hK hP 0 rfl rfl 0 (by decide) (hts _ k_123) (fun _ h9 => h9) rfl d_Tree_begins_10 ?_
      refine lv_iload_n hx hb d_Tree_begins_13 rfl (lv_at hl 3 rfl) ?_
      refine lv_iconst (v := 3) hx hb d_Tree_begins_14 (by decide) ?_
      refine lv_iadd hx hb d_Tree_begins_15 ?_
      obtain ⟨h4, h⟩ := gi_k h
      refine va_iald hx hb hK hP 1 0 rfl rfl h4 d_Tree_begins_16 ?_
      refine lv_iload_n hx hb d_Tree_begins_17 rfl (lv_at hl 2 rfl) ?_
      refine lv_icmp_ge (tgt := 42) hx hb d_Tree_begins_18 (by decide) (fun q5 => ?_) (fun q5 => ?_)
      · have h := it h q5
        exact E5 x3_1 (he _ (Option.some.inj h).symm) H locs ls hP hD hS hL (lv_sub hl [0, 1, 2, 3] rfl)
      · have h := ie h q5
        refine lv_aload_n hx hb d_Tree_begins_21 rfl (lv_at hl 0 rfl) ?_
        refine lv_iload_n hx hb d_Tree_begins_22 rfl (lv_at hl 3 rfl) ?_
        refine lv_aload_n hx hb d_Tree_begins_23 rfl (lv_at hl 1 rfl) ?_
        refine lv_aload_n hx hb d_Tree_begins_24 rfl (lv_at hl 0 rfl) ?_
        refine va_get (D := G.1) (ci := 4) (v := .ref a_c) (C := "BranchStore$Tree") (T := F_Tree) (N := 15) hx hb hts i_Tree hown hK hP 0 rfl rfl 0 (by decide) (hts _ k_123) (fun _ h9 => h9) rfl d_Tree_begins_25 ?_
        refine lv_iload_n hx hb d_Tree_begins_28 rfl (lv_at hl 3 rfl) ?_
        refine lv_iconst (v := 3) hx hb d_Tree_begins_29 (by decide) ?_
        refine lv_iadd hx hb d_Tree_begins_30 ?_
        obtain ⟨h6, h⟩ := gi_k h
        refine va_iald hx hb hK hP 1 0 rfl rfl h6 d_Tree_begins_31 ?_
        obtain ⟨r7, hr7, h⟩ := ob h
        refine zpcalli (wr := [(a_t, .inr (4, [.ref a_c, .ref a_mv, .int c_en, .int c_rt, .ref a_fr, .ref a_e0, .ref a_e1, .ref a_e2, .ref a_e3, .ref a_br, .ref a_lo, .ref a_ho, .long c_fi, .long c_st, .long c_vz])), (a_c, .inl (G.2.1, c_cl, .inl c_c)), (a_mv, .inl (G.2.1, c_ml, .inl c_mv)), (a_fr, .inl (G.2.1, 261, .inl c_fr)), (a_br, .inl (G.2.1, 4, .inl c_br)), (a_e0, .inr (1, [.int 0, .int 9, .int 4, .int 5])), (a_e1, .inr (1, [.int 1, .int 24, .int 16, .int 8])), (a_e2, .inr (2, [.int 2, .int 116, .int 48])), (a_e3, .inr (3, [.int 3, .int 260, .int 256]))]) (w2 := fun _ => (wT G a_t a_c a_mv a_fr a_br a_e0 a_e1 a_e2 a_e3 a_lo a_ho c_c c_cl c_mv c_ml c_en c_rt c_fr c_br c_fi c_st c_vz ++ wK G a_ko a_kq c_kb c_kn c_kt)) (zrunV (As := [.int (c_c (x3_1 + 3).toNatClampNeg)]) (rest := [.int x3_1, .ref a_t]) ⟨hx, hb, hml, hown, hts⟩ hN hK (c_Key_at l G H.size a_ko a_kq c_kb c_kn c_kt (c_c (x3_1 + 3).toNatClampNeg) r7 hr7) ⟨rfl, rfl⟩ kv_Tree_92 ⟨Nat.le_of_ble_eq_true rfl, Nat.le_of_ble_eq_true rfl⟩ 0 rfl rfl rfl hl.1 (Nat.le_of_ble_eq_true rfl) d_Tree_begins_32 ⟨Nat.le_of_ble_eq_true rfl, Nat.le_of_ble_eq_true rfl⟩) hP hD hS hA [9, 10] [0, 1, 2, 3, 4, 5, 6, 7, 8] [0, 1, 2, 3, 4, 5, 6, 7, 8, 9, 10] rfl rfl rfl rfl (by decide) rfl (fun _ => rfl) (fun rr _ H hw hP hD hS => ?_)
        have hw := hw.symm
        subst hw
        obtain ⟨r8, hr8, h⟩ := ob h
        refine zpcalli (wr := [(a_ko, .inr (0, [.ref a_kq, .int c_kn, .int c_kt])), (a_kq, .inl (G.2.2.1, 50, .inl c_kb))]) (w2 := fun _ => (wT G a_t a_c a_mv a_fr a_br a_e0 a_e1 a_e2 a_e3 a_lo a_ho c_c c_cl c_mv c_ml c_en c_rt c_fr c_br c_fi c_st c_vz ++ wK G a_ko a_kq c_kb c_kn c_kt)) (zrunV (As := [.int x3_1, .int r7]) (rest := []) ⟨hx, hb, hml, hown, hts⟩ hN hK (c_Tree_child l G H.size a_t a_c a_mv a_fr a_br a_e0 a_e1 a_e2 a_e3 a_lo a_ho c_c c_cl c_mv c_ml c_en c_rt c_fr c_br c_fi c_st c_vz x3_1 r7 r8 hr8) ⟨rfl, rfl⟩ kv_Tree_126 ⟨Nat.le_of_ble_eq_true rfl, Nat.le_of_ble_eq_true rfl⟩ 0 rfl rfl rfl hl.1 (Nat.le_of_ble_eq_true rfl) d_Tree_begins_35 ⟨Nat.le_of_ble_eq_true rfl, Nat.le_of_ble_eq_true rfl⟩) hP hD hS hA [0, 1, 2, 3, 4, 5, 6, 7, 8] [9, 10] [2, 3, 4, 5, 6, 7, 8, 9, 10, 0, 1] rfl rfl rfl rfl (by decide) rfl (fun _ => rfl) (fun rr _ H hw hP hD hS => ?_)
        have hw := hw.symm
        subst hw
        refine lv_istore_n (lv' := [(3, .int r8), (0, .ref a_t), (1, .ref a_ko), (2, .int p_2)]) hx hb d_Tree_begins_38 rfl hl (by decide) rfl (fun ls hl => ?_)
        refine lv_goto (tgt := 5) hx hb d_Tree_begins_39 (by decide) ?_
        exact hc _ (Option.some.inj h).symm H locs ls hP hD hS hL (lv_sub hl [1, 2, 3, 0] rfl)
  exact L5 _ hy2 _ _ ls hP hD hS hL (lv_sub hl [1, 2, 3, 0] rfl)

noncomputable def f_Tree_relink (c_c : (Nat → Int32)) (c_cl : Nat) (c_rt : Int32) (p_1 : Int32) (p_2 : Int32) (p_3 : Int32) : Option ((Nat → Int32) × Int32) :=
if p_1 = 0 then
(some (c_c, p_3))
else
((f_Tree_shapeOf c_c c_cl p_1).bind fun r2 =>
(f_place r2 c_cl c_c p_1 p_2).bind fun r3 =>
gi r3 c_cl <|
nm (upd c_c r3.toNatClampNeg p_3) fun c5 =>
some (c5, c_rt))
set_option maxHeartbeats 8000000 in
set_option maxRecDepth 100000 in
theorem c_Tree_relink (l : Launch) (G : zG) (sz : Nat) (a_t a_c a_mv a_fr a_br a_e0 a_e1 a_e2 a_e3 a_lo a_ho : Nat) (c_c : (Nat → Int32)) (c_cl : Nat) (c_mv : (Nat → Int32)) (c_ml : Nat) (c_en : Int32) (c_rt : Int32) (c_fr : (Nat → Int32)) (c_br : (Nat → Int32)) (c_fi : Int64) (c_st : Int64) (c_vz : Int64) (p_1 : Int32) (p_2 : Int32) (p_3 : Int32) (r0 : ((Nat → Int32) × Int32)) (hf : f_Tree_relink c_c c_cl c_rt p_1 p_2 p_3 = some r0) :
    Met l y_Tree_relink (Cond.code y_Tree_relink prog_7_method_25_code 4 none :: lw_ok) { frames := 3, cells := 0, slots := 0, locals := 71 } (zPc G sz [.ref a_t, .int p_1, .int p_2, .int p_3] (wT G a_t a_c a_mv a_fr a_br a_e0 a_e1 a_e2 a_e3 a_lo a_ho c_c c_cl c_mv c_ml c_en c_rt c_fr c_br c_fi c_st c_vz))
      ((fun (A : Nat → Prop) => va_Qv (fun (_ : Unit) => True) (fun _ t => zB G A (wT G a_t a_c a_mv a_fr a_br a_e0 a_e1 a_e2 a_e3 a_lo a_ho r0.1 c_cl c_mv c_ml c_en r0.2 c_fr c_br c_fi c_st c_vz) t) A) (va_A (wT G a_t a_c a_mv a_fr a_br a_e0 a_e1 a_e2 a_e3 a_lo a_ho c_c c_cl c_mv c_ml c_en c_rt c_fr c_br c_fi c_st c_vz) sz)) 0 0 (va_A (wT G a_t a_c a_mv a_fr a_br a_e0 a_e1 a_e2 a_e3 a_lo a_ho c_c c_cl c_mv c_ml c_en c_rt c_fr c_br c_fi c_st c_vz) sz) := by
  refine zMet (Qc := fun (A : Nat → Prop) => va_Qv (fun (_ : Unit) => True) (fun _ t => zB G A (wT G a_t a_c a_mv a_fr a_br a_e0 a_e1 a_e2 a_e3 a_lo a_ho r0.1 c_cl c_mv c_ml c_en r0.2 c_fr c_br c_fi c_st c_vz) t) A) (by decide) (Nat.le_of_ble_eq_true rfl) (fun xp xe xs xm xb xme xc A ls Q H locs C hN hK hP hD hS hA hl hQ => ?_)
  obtain ⟨hx, hb, hr, hts, hown, hlocks, hml, hin⟩ := C
  have hl : lv_has ls 4 [(0, .ref a_t), (1, .int p_1), (2, .int p_2), (3, .int p_3)] := hl
  have h := hf
  unfold f_Tree_relink at h
  refine lv_iload_n hx hb d_Tree_relink_0 rfl (lv_at hl 1 rfl) ?_
  refine lv_if_ne (tgt := 12) hx hb d_Tree_relink_1 (by decide) (fun q1 => ?_) (fun q1 => ?_)
  · have h := ie h q1
    refine lv_aload_n hx hb d_Tree_relink_12 rfl (lv_at hl 0 rfl) ?_
    refine va_get (D := G.1) (ci := 4) (v := .ref a_c) (C := "BranchStore$Tree") (T := F_Tree) (N := 15) hx hb hts i_Tree hown hK hP 0 rfl rfl 0 (by decide) (hts _ k_123) (fun _ h9 => h9) rfl d_Tree_relink_13 ?_
    refine lv_aload_n hx hb d_Tree_relink_16 rfl (lv_at hl 0 rfl) ?_
    refine lv_iload_n hx hb d_Tree_relink_17 rfl (lv_at hl 1 rfl) ?_
    obtain ⟨r2, hr2, h⟩ := ob h
    refine zpcallr (wr := []) (w2 := fun _ => (wT G a_t a_c a_mv a_fr a_br a_e0 a_e1 a_e2 a_e3 a_lo a_ho c_c c_cl c_mv c_ml c_en c_rt c_fr c_br c_fi c_st c_vz)) (zrunV (As := [.int p_1]) (rest := [.ref a_c]) ⟨hx, hb, hml, hown, hts⟩ hN hK (c_Tree_shapeOf l G H.size a_t a_c a_mv a_fr a_br a_e0 a_e1 a_e2 a_e3 a_lo a_ho c_c c_cl c_mv c_ml c_en c_rt c_fr c_br c_fi c_st c_vz p_1 r2 hr2) ⟨rfl, rfl⟩ kv_Tree_116 ⟨Nat.le_of_ble_eq_true rfl, Nat.le_of_ble_eq_true rfl⟩ 0 rfl rfl rfl hl.1 (Nat.le_of_ble_eq_true rfl) d_Tree_relink_18 ⟨Nat.le_of_ble_eq_true rfl, Nat.le_of_ble_eq_true rfl⟩) hP hD hS hA [0, 1, 2, 3, 4, 5, 6, 7, 8] [] [0, 1, 2, 3, 4, 5, 6, 7, 8] rfl rfl rfl rfl (by decide) rfl (fun _ => rfl) (fun _ ra H hw hP hD hS => ?_)
    subst hw
    refine lv_aload_n hx hb d_Tree_relink_21 rfl (lv_at hl 0 rfl) ?_
    refine va_get (D := G.1) (ci := 4) (v := .ref a_c) (C := "BranchStore$Tree") (T := F_Tree) (N := 15) hx hb hts i_Tree hown hK hP 0 rfl rfl 0 (by decide) (hts _ k_123) (fun _ h9 => h9) rfl d_Tree_relink_22 ?_
    refine lv_iload_n hx hb d_Tree_relink_25 rfl (lv_at hl 1 rfl) ?_
    refine lv_iload_n hx hb d_Tree_relink_26 rfl (lv_at hl 2 rfl) ?_
    obtain ⟨r3, hr3, h⟩ := ob h
    refine zv_place (k := r2) ⟨hx, hb, hml, hown, hts⟩ hN hK hP hD hS hA (zE_mk rfl rfl rfl rfl) rfl hr3 (Nat.le_of_ble_eq_true rfl) (Nat.le_of_ble_eq_true rfl) hl.1 (Nat.le_of_ble_eq_true rfl) d_Tree_relink_27 ⟨Nat.zero_le _, Nat.zero_le _⟩ (fun H hP hS => ?_)
    refine lv_iload_n hx hb d_Tree_relink_30 rfl (lv_at hl 3 rfl) ?_
    obtain ⟨h4, h⟩ := gi_k h
    refine va_iast hx hb hK hP hD hS 1 0 rfl rfl h4 d_Tree_relink_31 (fun H locs hP hD hS => ?_)
    obtain ⟨c5, ec5⟩ : ∃ y, y = upd c_c r3.toNatClampNeg p_3 := ⟨_, rfl⟩
    have h := nm_k h c5 ec5
    have hP : va_P G.1 classes (wT G a_t a_c a_mv a_fr a_br a_e0 a_e1 a_e2 a_e3 a_lo a_ho c5 c_cl c_mv c_ml c_en c_rt c_fr c_br c_fi c_st c_vz) H := by rw [ec5]; exact hP
    have hD : va_D A (wT G a_t a_c a_mv a_fr a_br a_e0 a_e1 a_e2 a_e3 a_lo a_ho c5 c_cl c_mv c_ml c_en c_rt c_fr c_br c_fi c_st c_vz) := by rw [ec5]; exact hD
    obtain rfl := Option.some.inj h
    exact zretv () hQ hS.2.2 hx hb hr hlocks hP hD hS trivial (Nat.le_refl _) (Nat.le_refl _) d_Tree_relink_32
  · have h := it h q1
    refine lv_aload_n hx hb d_Tree_relink_4 rfl (lv_at hl 0 rfl) ?_
    refine lv_iload_n hx hb d_Tree_relink_5 rfl (lv_at hl 3 rfl) ?_
    refine va_put (D := G.1) (ci := 4) (v := .int p_3) (ty := .int) (C := "BranchStore$Tree") (T := F_Tree) (N := 15) hx hb hts i_Tree t_Tree t_Tree_ok n_Tree hown hK hP hD hS 0 rfl rfl 3 (by decide) (hts _ k_126) (fun _ h9 => h9) rfl (by decide +kernel) rfl rfl (Nat.le_of_ble_eq_true rfl) d_Tree_relink_6 (fun H locs hP hD hS => ?_)
    have hP : va_P G.1 classes (wT G a_t a_c a_mv a_fr a_br a_e0 a_e1 a_e2 a_e3 a_lo a_ho c_c c_cl c_mv c_ml c_en p_3 c_fr c_br c_fi c_st c_vz) H := hP
    have hD : va_D A (wT G a_t a_c a_mv a_fr a_br a_e0 a_e1 a_e2 a_e3 a_lo a_ho c_c c_cl c_mv c_ml c_en p_3 c_fr c_br c_fi c_st c_vz) := hD
    refine lv_goto (tgt := 32) hx hb d_Tree_relink_9 (by decide) ?_
    obtain rfl := Option.some.inj h
    exact zretv () hQ hS.2.2 hx hb hr hlocks hP hD hS trivial (Nat.le_refl _) (Nat.le_refl _) d_Tree_relink_32

theorem kv_Tree_179 : zKV "BranchStore$Tree" 179 y_Key_begin prog_4_method_2_code 1 none 0 := ⟨k_732, k_91, k_92, k_7, k_93, by decide +kernel⟩
theorem kv_Tree_189 : zKV "BranchStore$Tree" 189 y_Key_number prog_4_method_5_code 6 none 1 := ⟨k_733, k_103, k_104, k_7, k_105, by decide +kernel⟩
noncomputable def f_Tree_number (c_fi : Int64) (c_st : Int64) (c_kb : (Nat → Int32)) (c_kn : Int32) (c_kt : Int32) (p_2 : Int32) : Option ((Nat → Int32) × Int32 × Int32) :=
(f_Key_begin c_kn c_kt).bind fun r1 =>
(f_Key_number c_kb r1.1 (c_fi + (c_st * p_2.toInt64))).bind fun r2 =>
some (r2.1, r2.2, r1.2)
set_option maxHeartbeats 8000000 in
set_option maxRecDepth 100000 in
theorem c_Tree_number (l : Launch) (G : zG) (sz : Nat) (a_t a_c a_mv a_fr a_br a_e0 a_e1 a_e2 a_e3 a_lo a_ho a_ko a_kq : Nat) (c_c : (Nat → Int32)) (c_cl : Nat) (c_mv : (Nat → Int32)) (c_ml : Nat) (c_en : Int32) (c_rt : Int32) (c_fr : (Nat → Int32)) (c_br : (Nat → Int32)) (c_fi : Int64) (c_st : Int64) (c_vz : Int64) (c_kb : (Nat → Int32)) (c_kn : Int32) (c_kt : Int32) (p_2 : Int32) (r0 : ((Nat → Int32) × Int32 × Int32)) (hf : f_Tree_number c_fi c_st c_kb c_kn c_kt p_2 = some r0) :
    Met l y_Tree_number (Cond.code y_Tree_number prog_7_method_29_code 3 none :: lw_ok) { frames := 2, cells := 0, slots := 0, locals := 46 } (zPc G sz [.ref a_t, .ref a_ko, .int p_2] (wT G a_t a_c a_mv a_fr a_br a_e0 a_e1 a_e2 a_e3 a_lo a_ho c_c c_cl c_mv c_ml c_en c_rt c_fr c_br c_fi c_st c_vz ++ wK G a_ko a_kq c_kb c_kn c_kt))
      ((fun (A : Nat → Prop) => va_Qv (fun (_ : Unit) => True) (fun _ t => zB G A (wT G a_t a_c a_mv a_fr a_br a_e0 a_e1 a_e2 a_e3 a_lo a_ho c_c c_cl c_mv c_ml c_en c_rt c_fr c_br c_fi c_st c_vz ++ wK G a_ko a_kq r0.1 r0.2.1 r0.2.2) t) A) (va_A (wT G a_t a_c a_mv a_fr a_br a_e0 a_e1 a_e2 a_e3 a_lo a_ho c_c c_cl c_mv c_ml c_en c_rt c_fr c_br c_fi c_st c_vz ++ wK G a_ko a_kq c_kb c_kn c_kt) sz)) 0 0 (va_A (wT G a_t a_c a_mv a_fr a_br a_e0 a_e1 a_e2 a_e3 a_lo a_ho c_c c_cl c_mv c_ml c_en c_rt c_fr c_br c_fi c_st c_vz ++ wK G a_ko a_kq c_kb c_kn c_kt) sz) := by
  refine zMet (Qc := fun (A : Nat → Prop) => va_Qv (fun (_ : Unit) => True) (fun _ t => zB G A (wT G a_t a_c a_mv a_fr a_br a_e0 a_e1 a_e2 a_e3 a_lo a_ho c_c c_cl c_mv c_ml c_en c_rt c_fr c_br c_fi c_st c_vz ++ wK G a_ko a_kq r0.1 r0.2.1 r0.2.2) t) A) (by decide) (Nat.le_of_ble_eq_true rfl) (fun xp xe xs xm xb xme xc A ls Q H locs C hN hK hP hD hS hA hl hQ => ?_)
  obtain ⟨hx, hb, hr, hts, hown, hlocks, hml, hin⟩ := C
  have hl : lv_has ls 3 [(0, .ref a_t), (1, .ref a_ko), (2, .int p_2)] := hl
  have h := hf
  unfold f_Tree_number at h
  refine lv_aload_n hx hb d_Tree_number_0 rfl (lv_at hl 1 rfl) ?_
  obtain ⟨r1, hr1, h⟩ := ob h
  refine zcallv (wr := [(a_t, .inr (4, [.ref a_c, .ref a_mv, .int c_en, .int c_rt, .ref a_fr, .ref a_e0, .ref a_e1, .ref a_e2, .ref a_e3, .ref a_br, .ref a_lo, .ref a_ho, .long c_fi, .long c_st, .long c_vz])), (a_c, .inl (G.2.1, c_cl, .inl c_c)), (a_mv, .inl (G.2.1, c_ml, .inl c_mv)), (a_fr, .inl (G.2.1, 261, .inl c_fr)), (a_br, .inl (G.2.1, 4, .inl c_br)), (a_e0, .inr (1, [.int 0, .int 9, .int 4, .int 5])), (a_e1, .inr (1, [.int 1, .int 24, .int 16, .int 8])), (a_e2, .inr (2, [.int 2, .int 116, .int 48])), (a_e3, .inr (3, [.int 3, .int 260, .int 256]))]) (w2 := fun _ => (wT G a_t a_c a_mv a_fr a_br a_e0 a_e1 a_e2 a_e3 a_lo a_ho c_c c_cl c_mv c_ml c_en c_rt c_fr c_br c_fi c_st c_vz ++ wK G a_ko a_kq c_kb r1.1 r1.2)) (zrunV (As := []) (rest := []) ⟨hx, hb, hml, hown, hts⟩ hN hK (c_Key_begin l G H.size a_ko a_kq c_kb c_kn c_kt r1 hr1) ⟨rfl, rfl⟩ kv_Tree_179 ⟨Nat.le_of_ble_eq_true rfl, Nat.le_of_ble_eq_true rfl⟩ 0 rfl rfl rfl hl.1 (Nat.le_of_ble_eq_true rfl) d_Tree_number_1 ⟨Nat.le_of_ble_eq_true rfl, Nat.le_of_ble_eq_true rfl⟩) hP hD hS hA [9, 10] [0, 1, 2, 3, 4, 5, 6, 7, 8] [0, 1, 2, 3, 4, 5, 6, 7, 8, 9, 10] rfl rfl rfl rfl (by decide) rfl (fun _ => rfl) (fun _ H locs _ hP hD hS => ?_)
  refine lv_aload_n hx hb d_Tree_number_4 rfl (lv_at hl 1 rfl) ?_
  refine lv_aload_n hx hb d_Tree_number_5 rfl (lv_at hl 0 rfl) ?_
  refine va_get (D := G.1) (ci := 4) (v := .long c_fi) (C := "BranchStore$Tree") (T := F_Tree) (N := 15) hx hb hts i_Tree hown hK hP 0 rfl rfl 12 (by decide) (hts _ k_136) (fun _ h9 => h9) rfl d_Tree_number_6 ?_
  refine lv_aload_n hx hb d_Tree_number_9 rfl (lv_at hl 0 rfl) ?_
  refine va_get (D := G.1) (ci := 4) (v := .long c_st) (C := "BranchStore$Tree") (T := F_Tree) (N := 15) hx hb hts i_Tree hown hK hP 0 rfl rfl 13 (by decide) (hts _ k_137) (fun _ h9 => h9) rfl d_Tree_number_10 ?_
  refine lv_iload_n hx hb d_Tree_number_13 rfl (lv_at hl 2 rfl) ?_
  refine lv_i2l (v := p_2.toInt64) hx hb d_Tree_number_14 rfl ?_
  refine lv_lmul hx hb d_Tree_number_15 ?_
  refine lv_ladd hx hb d_Tree_number_16 ?_
  obtain ⟨r2, hr2, h⟩ := ob h
  refine zcallv (wr := [(a_t, .inr (4, [.ref a_c, .ref a_mv, .int c_en, .int c_rt, .ref a_fr, .ref a_e0, .ref a_e1, .ref a_e2, .ref a_e3, .ref a_br, .ref a_lo, .ref a_ho, .long c_fi, .long c_st, .long c_vz])), (a_c, .inl (G.2.1, c_cl, .inl c_c)), (a_mv, .inl (G.2.1, c_ml, .inl c_mv)), (a_fr, .inl (G.2.1, 261, .inl c_fr)), (a_br, .inl (G.2.1, 4, .inl c_br)), (a_e0, .inr (1, [.int 0, .int 9, .int 4, .int 5])), (a_e1, .inr (1, [.int 1, .int 24, .int 16, .int 8])), (a_e2, .inr (2, [.int 2, .int 116, .int 48])), (a_e3, .inr (3, [.int 3, .int 260, .int 256]))]) (w2 := fun _ => (wT G a_t a_c a_mv a_fr a_br a_e0 a_e1 a_e2 a_e3 a_lo a_ho c_c c_cl c_mv c_ml c_en c_rt c_fr c_br c_fi c_st c_vz ++ wK G a_ko a_kq r2.1 r2.2 r1.2)) (zrunV (As := [.long (c_fi + (c_st * p_2.toInt64))]) (rest := []) ⟨hx, hb, hml, hown, hts⟩ hN hK (c_Key_number l G H.size a_ko a_kq c_kb r1.1 r1.2 (c_fi + (c_st * p_2.toInt64)) r2 hr2) ⟨rfl, rfl⟩ kv_Tree_189 ⟨Nat.le_of_ble_eq_true rfl, Nat.le_of_ble_eq_true rfl⟩ 0 rfl rfl rfl hl.1 (Nat.le_of_ble_eq_true rfl) d_Tree_number_17 ⟨Nat.le_of_ble_eq_true rfl, Nat.le_of_ble_eq_true rfl⟩) hP hD hS hA [9, 10] [0, 1, 2, 3, 4, 5, 6, 7, 8] [0, 1, 2, 3, 4, 5, 6, 7, 8, 9, 10] rfl rfl rfl rfl (by decide) rfl (fun _ => rfl) (fun _ H locs _ hP hD hS => ?_)
  obtain rfl := Option.some.inj h
  exact zretv () hQ hS.2.2 hx hb hr hlocks hP hD hS trivial (Nat.le_refl _) (Nat.le_refl _) d_Tree_number_20

theorem kv_Tree_199 : zKV "BranchStore$Tree" 199 y_Tree_number prog_7_method_29_code 3 none 2 := ⟨k_728, k_730, kp_24, k_2, k_731, by decide +kernel⟩
noncomputable def s_Tree_behind_25 (c_fi : Int64) (c_st : Int64) (x3 : Int32) (x4 : Int32) (x5 : Int32) (x6 : Int32) (c_lb : (Nat → Int32)) (c_ln : Int32) (c_lt : Int32) : Option ((Int32 × Int32 × (Nat → Int32) × Int32 × Int32) ⊕ (Int32 × (Nat → Int32) × Int32 × Int32)) :=
if (x6 - x5) ≤ 1 then
(some (.inr (x6, c_lb, c_ln, c_lt)))
else
(nm (ziushr (x5 + x6) 1) fun v10 =>
(f_Tree_number c_fi c_st c_lb c_ln c_lt v10).bind fun r11 =>
(f_Key_at r11.1 x3).bind fun r12 =>
if r12 = x4 then
(some (.inl (v10, x6, r11.1, r11.2.1, r11.2.2)))
else
(some (.inl (x5, v10, r11.1, r11.2.1, r11.2.2))))
noncomputable def f_Tree_behind (c_fi : Int64) (c_st : Int64) (c_lb : (Nat → Int32)) (c_ln : Int32) (c_lt : Int32) (p_1 : Int32) (p_2 : Int32) (p_3 : Int32) : Option (Int32 × (Nat → Int32) × Int32 × Int32) :=
(f_Tree_number c_fi c_st c_lb c_ln c_lt p_1).bind fun r1 =>
(f_Key_at r1.1 p_3).bind fun r2 =>
(lp (fun v => s_Tree_behind_25 c_fi c_st p_3 r2 v.1 v.2.1 v.2.2.1 v.2.2.2.1 v.2.2.2.2) (p_1, p_2, r1.1, r1.2.1, r1.2.2)).bind fun y18 =>
some (y18.1, y18.2.1, y18.2.2.1, y18.2.2.2)
set_option maxHeartbeats 8000000 in
set_option maxRecDepth 100000 in
theorem c_Tree_behind (l : Launch) (G : zG) (sz : Nat) (a_t a_c a_mv a_fr a_br a_e0 a_e1 a_e2 a_e3 a_lo a_ho a_lq : Nat) (c_c : (Nat → Int32)) (c_cl : Nat) (c_mv : (Nat → Int32)) (c_ml : Nat) (c_en : Int32) (c_rt : Int32) (c_fr : (Nat → Int32)) (c_br : (Nat → Int32)) (c_fi : Int64) (c_st : Int64) (c_vz : Int64) (c_lb : (Nat → Int32)) (c_ln : Int32) (c_lt : Int32) (p_1 : Int32) (p_2 : Int32) (p_3 : Int32) (r0 : (Int32 × (Nat → Int32) × Int32 × Int32)) (hf : f_Tree_behind c_fi c_st c_lb c_ln c_lt p_1 p_2 p_3 = some r0) :
    Met l y_Tree_behind (Cond.code y_Tree_behind prog_7_method_32_code 8 (some .int) :: lw_ok) { frames := 3, cells := 0, slots := 0, locals := 68 } (zPc G sz [.ref a_t, .int p_1, .int p_2, .int p_3] (wT G a_t a_c a_mv a_fr a_br a_e0 a_e1 a_e2 a_e3 a_lo a_ho c_c c_cl c_mv c_ml c_en c_rt c_fr c_br c_fi c_st c_vz ++ wK G a_lo a_lq c_lb c_ln c_lt))
      ((fun (A : Nat → Prop) => va_Qi (fun (r : Int32) (_ : Unit) => r = r0.1) (fun _ t => zB G A (wT G a_t a_c a_mv a_fr a_br a_e0 a_e1 a_e2 a_e3 a_lo a_ho c_c c_cl c_mv c_ml c_en c_rt c_fr c_br c_fi c_st c_vz ++ wK G a_lo a_lq r0.2.1 r0.2.2.1 r0.2.2.2) t) A) (va_A (wT G a_t a_c a_mv a_fr a_br a_e0 a_e1 a_e2 a_e3 a_lo a_ho c_c c_cl c_mv c_ml c_en c_rt c_fr c_br c_fi c_st c_vz ++ wK G a_lo a_lq c_lb c_ln c_lt) sz)) 0 0 (va_A (wT G a_t a_c a_mv a_fr a_br a_e0 a_e1 a_e2 a_e3 a_lo a_ho c_c c_cl c_mv c_ml c_en c_rt c_fr c_br c_fi c_st c_vz ++ wK G a_lo a_lq c_lb c_ln c_lt) sz) := by
  refine zMet (Qc := fun (A : Nat → Prop) => va_Qi (fun (r : Int32) (_ : Unit) => r = r0.1) (fun _ t => zB G A (wT G a_t a_c a_mv a_fr a_br a_e0 a_e1 a_e2 a_e3 a_lo a_ho c_c c_cl c_mv c_ml c_en c_rt c_fr c_br c_fi c_st c_vz ++ wK G a_lo a_lq r0.2.1 r0.2.2.1 r0.2.2.2) t) A) (by decide) (Nat.le_of_ble_eq_true rfl) (fun xp xe xs xm xb xme xc A ls Q H locs C hN hK hP hD hS hA hl hQ => ?_)
  obtain ⟨hx, hb, hr, hts, hown, hlocks, hml, hin⟩ := C
  have hl : lv_has ls 8 [(0, .ref a_t), (1, .int p_1), (2, .int p_2), (3, .int p_3)] := hl
  have h := hf
  unfold f_Tree_behind at h
  refine lv_aload_n hx hb d_Tree_behind_0 rfl (lv_at hl 0 rfl) ?_
  refine lv_aload_n hx hb d_Tree_behind_1 rfl (lv_at hl 0 rfl) ?_
  refine va_get (D := G.1) (ci := 4) (v := .ref a_lo) (C := "BranchStore$Tree") (T := F_Tree) (N := 15) hx hb hts i_Tree hown hK hP 0 rfl rfl 10 (by decide) (hts _ k_134) (fun _ h9 => h9) rfl d_Tree_behind_2 ?_
  refine lv_iload_n hx hb d_Tree_behind_5 rfl (lv_at hl 1 rfl) ?_
  obtain ⟨r1, hr1, h⟩ := ob h
  refine zcallv (wr := []) (w2 := fun _ => (wT G a_t a_c a_mv a_fr a_br a_e0 a_e1 a_e2 a_e3 a_lo a_ho c_c c_cl c_mv c_ml c_en c_rt c_fr c_br c_fi c_st c_vz ++ wK G a_lo a_lq r1.1 r1.2.1 r1.2.2)) (zrunV (As := [.ref a_lo, .int p_1]) (rest := []) ⟨hx, hb, hml, hown, hts⟩ hN hK (c_Tree_number l G H.size a_t a_c a_mv a_fr a_br a_e0 a_e1 a_e2 a_e3 a_lo a_ho a_lo a_lq c_c c_cl c_mv c_ml c_en c_rt c_fr c_br c_fi c_st c_vz c_lb c_ln c_lt p_1 r1 hr1) ⟨rfl, rfl⟩ kv_Tree_199 ⟨Nat.le_of_ble_eq_true rfl, Nat.le_of_ble_eq_true rfl⟩ 0 rfl rfl rfl hl.1 (Nat.le_of_ble_eq_true rfl) d_Tree_behind_6 ⟨Nat.le_of_ble_eq_true rfl, Nat.le_of_ble_eq_true rfl⟩) hP hD hS hA [0, 1, 2, 3, 4, 5, 6, 7, 8, 9, 10] [] [0, 1, 2, 3, 4, 5, 6, 7, 8, 9, 10] rfl rfl rfl rfl (by decide) rfl (fun _ => rfl) (fun _ H locs _ hP hD hS => ?_)
  refine lv_aload_n hx hb d_Tree_behind_9 rfl (lv_at hl 0 rfl) ?_
  refine va_get (D := G.1) (ci := 4) (v := .ref a_lo) (C := "BranchStore$Tree") (T := F_Tree) (N := 15) hx hb hts i_Tree hown hK hP 0 rfl rfl 10 (by decide) (hts _ k_134) (fun _ h9 => h9) rfl d_Tree_behind_10 ?_
  refine lv_iload_n hx hb d_Tree_behind_13 rfl (lv_at hl 3 rfl) ?_
  obtain ⟨r2, hr2, h⟩ := ob h
  refine zpcalli (wr := [(a_t, .inr (4, [.ref a_c, .ref a_mv, .int c_en, .int c_rt, .ref a_fr, .ref a_e0, .ref a_e1, .ref a_e2, .ref a_e3, .ref a_br, .ref a_lo, .ref a_ho, .long c_fi, .long c_st, .long c_vz])), (a_c, .inl (G.2.1, c_cl, .inl c_c)), (a_mv, .inl (G.2.1, c_ml, .inl c_mv)), (a_fr, .inl (G.2.1, 261, .inl c_fr)), (a_br, .inl (G.2.1, 4, .inl c_br)), (a_e0, .inr (1, [.int 0, .int 9, .int 4, .int 5])), (a_e1, .inr (1, [.int 1, .int 24, .int 16, .int 8])), (a_e2, .inr (2, [.int 2, .int 116, .int 48])), (a_e3, .inr (3, [.int 3, .int 260, .int 256]))]) (w2 := fun _ => (wT G a_t a_c a_mv a_fr a_br a_e0 a_e1 a_e2 a_e3 a_lo a_ho c_c c_cl c_mv c_ml c_en c_rt c_fr c_br c_fi c_st c_vz ++ wK G a_lo a_lq r1.1 r1.2.1 r1.2.2)) (zrunV (As := [.int p_3]) (rest := []) ⟨hx, hb, hml, hown, hts⟩ hN hK (c_Key_at l G H.size a_lo a_lq r1.1 r1.2.1 r1.2.2 p_3 r2 hr2) ⟨rfl, rfl⟩ kv_Tree_92 ⟨Nat.le_of_ble_eq_true rfl, Nat.le_of_ble_eq_true rfl⟩ 0 rfl rfl rfl hl.1 (Nat.le_of_ble_eq_true rfl) d_Tree_behind_14 ⟨Nat.le_of_ble_eq_true rfl, Nat.le_of_ble_eq_true rfl⟩) hP hD hS hA [9, 10] [0, 1, 2, 3, 4, 5, 6, 7, 8] [0, 1, 2, 3, 4, 5, 6, 7, 8, 9, 10] rfl rfl rfl rfl (by decide) rfl (fun _ => rfl) (fun rr _ H hw hP hD hS => ?_)
  have hw := hw.symm
  subst hw
  refine lv_istore (lv' := [(4, .int r2), (0, .ref a_t), (1, .int p_1), (2, .int p_2), (3, .int p_3)]) hx hb d_Tree_behind_17 hl (by decide) rfl (fun ls hl => ?_)
  refine lv_iload_n hx hb d_Tree_behind_19 rfl (lv_at hl 2 rfl) ?_
  refine lv_istore (lv' := [(5, .int p_1), (4, .int r2), (0, .ref a_t), (1, .int p_1), (2, .int p_2), (3, .int p_3)]) hx hb d_Tree_behind_20 hl (by decide) rfl (fun ls hl => ?_)
  refine lv_iload_n hx hb d_Tree_behind_22 rfl (lv_at hl 4 rfl) ?_
  refine lv_istore (lv' := [(6, .int p_2), (5, .int p_1), (4, .int r2), (0, .ref a_t), (1, .int p_1), (2, .int p_2), (3, .int p_3)]) hx hb d_Tree_behind_23 hl (by decide) rfl (fun ls hl => ?_)
  obtain ⟨y8, hy8, h⟩ := ob h
  have E25 : ∀ (z14 : Int32) (z15 : (Nat → Int32)) (z16 : Int32) (z17 : Int32), (z14, z15, z16, z17) = y8 → ∀ (H : Heap) (locs : List Loc) (ls : Array Slot), va_P G.1 classes (wT G a_t a_c a_mv a_fr a_br a_e0 a_e1 a_e2 a_e3 a_lo a_ho c_c c_cl c_mv c_ml c_en c_rt c_fr c_br c_fi c_st c_vz ++ wK G a_lo a_lq z15 z16 z17) H → va_D A (wT G a_t a_c a_mv a_fr a_br a_e0 a_e1 a_e2 a_e3 a_lo a_ho c_c c_cl c_mv c_ml c_en c_rt c_fr c_br c_fi c_st c_vz ++ wK G a_lo a_lq z15 z16 z17) → va_S A xs.heap H locs → lv_has ls 8 [(6, .int z14)] → W xp l xe { frames := 3, cells := 0, slots := 0, locals := 68 } xs xm ([.ref a_t, .int p_1, .int p_2, .int p_3] : List Value).toArray xb xme xc H locs 0 0 Q (F0 xm 80 ls []) := by
    intro z14 z15 z16 z17 ey H locs ls hP hD hS hl
    subst ey
    try dsimp only at h
    refine lv_iload hx hb d_Tree_behind_80 (lv_at hl 0 rfl) ?_
    obtain rfl := Option.some.inj h
    exact zreti () hQ hS.2.2 hx hb hr hlocks hP hD hS rfl (Nat.le_refl _) (Nat.le_refl _) d_Tree_behind_82
  have L25 : ∀ v : (Int32 × Int32 × (Nat → Int32) × Int32 × Int32), lp (fun v => s_Tree_behind_25 c_fi c_st p_3 r2 v.1 v.2.1 v.2.2.1 v.2.2.2.1 v.2.2.2.2) v = some y8 → ∀ (H : Heap) (locs : List Loc) (ls : Array Slot), va_P G.1 classes (wT G a_t a_c a_mv a_fr a_br a_e0 a_e1 a_e2 a_e3 a_lo a_ho c_c c_cl c_mv c_ml c_en c_rt c_fr c_br c_fi c_st c_vz ++ wK G a_lo a_lq v.2.2.1 v.2.2.2.1 v.2.2.2.2) H → va_D A (wT G a_t a_c a_mv a_fr a_br a_e0 a_e1 a_e2 a_e3 a_lo a_ho c_c c_cl c_mv c_ml c_en c_rt c_fr c_br c_fi c_st c_vz ++ wK G a_lo a_lq v.2.2.1 v.2.2.2.1 v.2.2.2.2) → va_S A xs.heap H locs → lv_has ls 8 [(0, .ref a_t), (3, .int p_3), (4, .int r2), (5, .int v.1), (6, .int v.2.1)] → W xp l xe { frames := 3, cells := 0, slots := 0, locals := 68 } xs xm ([.ref a_t, .int p_1, .int p_2, .int p_3] : List Value).toArray xb xme xc H locs 0 0 Q (F0 xm 25 ls []) := by
    refine lp_walk _ (fun v x h hc he => ?_)
    obtain ⟨x5_3, x6_4, c5, c6, c7⟩ := v
    intro H locs ls hP hD hS hl
    have h : s_Tree_behind_25 c_fi c_st p_3 r2 x5_3 x6_4 c5 c6 c7 = some x := h
    unfold s_Tree_behind_25 at h
    refine lv_iload hx hb d_Tree_behind_25 (lv_at hl 4 rfl) ?_
    refine lv_iload hx hb d_Tree_behind_27 (lv_at hl 3 rfl) ?_
    refine lv_isub hx hb d_Tree_behind_29 ?_
    refine lv_iconst (v := 1) hx hb d_Tree_behind_30 (by decide) ?_
    refine lv_icmp_le (tgt := 80) hx hb d_Tree_behind_31 (by decide) (fun q9 => ?_) (fun q9 => ?_)
    · have h := it h q9
      exact E25 x6_4 c5 c6 c7 (he _ (Option.some.inj h).symm) H locs ls hP hD hS (lv_sub hl [4] rfl)
    · have h := ie h q9
      refine lv_iload hx hb d_Tree_behind_34 (lv_at hl 3 rfl) ?_
      refine lv_iload hx hb d_Tree_behind_36 (lv_at hl 4 rfl) ?_
      refine lv_iadd hx hb d_Tree_behind_38 ?_
      refine lv_iconst (v := 1) hx hb d_Tree_behind_39 (by decide) ?_
      refine lv_iushr (v := ziushr (x5_3 + x6_4) 1) hx hb d_Tree_behind_40 rfl ?_
      refine lv_topi (fun v10 ev10 => ?_)
      have h := nm_k h v10 ev10
      refine lv_istore (lv' := [(7, .int v10), (0, .ref a_t), (3, .int p_3), (4, .int r2), (5, .int x5_3), (6, .int x6_4)]) hx hb d_Tree_behind_41 hl (by decide) rfl (fun ls hl => ?_)
      refine lv_aload_n hx hb d_Tree_behind_43 rfl (lv_at hl 1 rfl) ?_
      refine lv_aload_n hx hb d_Tree_behind_44 rfl (lv_at hl 1 rfl) ?_
      refine va_get (D := G.1) (ci := 4) (v := .ref a_lo) (C := "BranchStore$Tree") (T := F_Tree) (N := 15) hx hb hts i_Tree hown hK hP 0 rfl rfl 10 (by decide) (hts _ k_134) (fun _ h9 => h9) rfl d_Tree_behind_45 ?_
      refine lv_iload hx hb d_Tree_behind_48 (lv_at hl 0 rfl) ?_
      obtain ⟨r11, hr11, h⟩ := ob h
      refine zcallv (wr := []) (w2 := fun _ => (wT G a_t a_c a_mv a_fr a_br a_e0 a_e1 a_e2 a_e3 a_lo a_ho c_c c_cl c_mv c_ml c_en c_rt c_fr c_br c_fi c_st c_vz ++ wK G a_lo a_lq r11.1 r11.2.1 r11.2.2)) (zrunV (As := [.ref a_lo, .int v10]) (rest := []) ⟨hx, hb, hml, hown, hts⟩ hN hK (c_Tree_number l G H.size a_t a_c a_mv a_fr a_br a_e0 a_e1 a_e2 a_e3 a_lo a_ho a_lo a_lq c_c c_cl c_mv c_ml c_en c_rt c_fr c_br c_fi c_st c_vz c5 c6 c7 v10 r11 hr11) ⟨rfl, rfl⟩ kv_Tree_199 ⟨Nat.le_of_ble_eq_true rfl, Nat.le_of_ble_eq_true rfl⟩ 0 rfl rfl rfl hl.1 (Nat.le_of_ble_eq_true rfl) d_Tree_behind_50 ⟨Nat.le_of_ble_eq_true rfl, Nat.le_of_ble_eq_true rfl⟩) hP hD hS hA [0, 1, 2, 3, 4, 5, 6, 7, 8, 9, 10] [] [0, 1, 2, 3, 4, 5, 6, 7, 8, 9, 10] rfl rfl rfl rfl (by decide) rfl (fun _ => rfl) (fun _ H locs _ hP hD hS => ?_)
      refine lv_aload_n hx hb d_Tree_behind_53 rfl (lv_at hl 1 rfl) ?_
      refine va_get (D := G.1) (ci := 4) (v := .ref a_lo) (C := "BranchStore$Tree") (T := F_Tree) (N := 15) hx hb hts i_Tree hown hK hP 0 rfl rfl 10 (by decide) (hts _ k_134) (fun _ h9 => h9) rfl d_Tree_behind_54 ?_
      refine lv_iload_n hx hb d_Tree_behind_57 rfl (lv_at hl 2 rfl) ?_
      obtain ⟨r12, hr12, h⟩ := ob h
      refine zpcalli (wr := [(a_t, .inr (4, [.ref a_c, .ref a_mv, .int c_en, .int c_rt, .ref a_fr, .ref a_e0, .ref a_e1, .ref a_e2, .ref a_e3, .ref a_br, .ref a_lo, .ref a_ho, .long c_fi, .long c_st, .long c_vz])), (a_c, .inl (G.2.1, c_cl, .inl c_c)), (a_mv, .inl (G.2.1, c_ml, .inl c_mv)), (a_fr, .inl (G.2.1, 261, .inl c_fr)), (a_br, .inl (G.2.1, 4, .inl c_br)), (a_e0, .inr (1, [.int 0, .int 9, .int 4, .int 5])), (a_e1, .inr (1, [.int 1, .int 24, .int 16, .int 8])), (a_e2, .inr (2, [.int 2, .int 116, .int 48])), (a_e3, .inr (3, [.int 3, .int 260, .int 256]))]) (w2 := fun _ => (wT G a_t a_c a_mv a_fr a_br a_e0 a_e1 a_e2 a_e3 a_lo a_ho c_c c_cl c_mv c_ml c_en c_rt c_fr c_br c_fi c_st c_vz ++ wK G a_lo a_lq r11.1 r11.2.1 r11.2.2)) (zrunV (As := [.int p_3]) (rest := []) ⟨hx, hb, hml, hown, hts⟩ hN hK (c_Key_at l G H.size a_lo a_lq r11.1 r11.2.1 r11.2.2 p_3 r12 hr12) ⟨rfl, rfl⟩ kv_Tree_92 ⟨Nat.le_of_ble_eq_true rfl, Nat.le_of_ble_eq_true rfl⟩ 0 rfl rfl rfl hl.1 (Nat.le_of_ble_eq_true rfl) d_Tree_behind_58 ⟨Nat.le_of_ble_eq_true rfl, Nat.le_of_ble_eq_true rfl⟩) hP hD hS hA [9, 10] [0, 1, 2, 3, 4, 5, 6, 7, 8] [0, 1, 2, 3, 4, 5, 6, 7, 8, 9, 10] rfl rfl rfl rfl (by decide) rfl (fun _ => rfl) (fun rr _ H hw hP hD hS => ?_)
      have hw := hw.symm
      subst hw
      refine lv_iload hx hb d_Tree_behind_61 (lv_at hl 3 rfl) ?_
      refine lv_icmp_ne (tgt := 73) hx hb d_Tree_behind_63 (by decide) (fun q13 => ?_) (fun q13 => ?_)
      · have h := ie h q13
        refine lv_iload hx hb d_Tree_behind_73 (lv_at hl 0 rfl) ?_
        refine lv_istore (lv' := [(6, .int v10), (7, .int v10), (0, .ref a_t), (3, .int p_3), (4, .int r2), (5, .int x5_3)]) hx hb d_Tree_behind_75 hl (by decide) rfl (fun ls hl => ?_)
        refine lv_goto (tgt := 25) hx hb d_Tree_behind_77 (by decide) ?_
        exact hc _ (Option.some.inj h).symm H locs ls hP hD hS (lv_sub hl [2, 3, 4, 5, 0] rfl)
      · have h := it h q13
        refine lv_iload hx hb d_Tree_behind_66 (lv_at hl 0 rfl) ?_
        refine lv_istore (lv' := [(5, .int v10), (7, .int v10), (0, .ref a_t), (3, .int p_3), (4, .int r2), (6, .int x6_4)]) hx hb d_Tree_behind_68 hl (by decide) rfl (fun ls hl => ?_)
        refine lv_goto (tgt := 77) hx hb d_Tree_behind_70 (by decide) ?_
        refine lv_goto (tgt := 25) hx hb d_Tree_behind_77 (by decide) ?_
        exact hc _ (Option.some.inj h).symm H locs ls hP hD hS (lv_sub hl [2, 3, 4, 0, 5] rfl)
  exact L25 _ hy8 _ _ ls hP hD hS (lv_sub hl [3, 6, 2, 1, 0] rfl)

theorem kv_Tree_210 : zKV "BranchStore$Tree" 210 y_Tree_find prog_7_method_20_code 3 (some .int) 1 := ⟨k_758, k_212, k_213, k_2, k_214, by decide +kernel⟩
noncomputable def s_Tree_deep_17 (c_c : (Nat → Int32)) (c_cl : Nat) (c_kb : (Nat → Int32)) (x2 : Int32) (x3 : Int32) : Option ((Int32 × Int32) ⊕ Int32) :=
if x3 ≤ 0 then
(some (.inr x2))
else
(nm (x2 + 1) fun v7 =>
gi (x3 + 3) c_cl <|
(f_Key_at c_kb (c_c (x3 + 3).toNatClampNeg)).bind fun r9 =>
(f_Tree_child c_c c_cl x3 r9).bind fun r10 =>
some (.inl (v7, r10)))
noncomputable def f_Tree_deep (c_c : (Nat → Int32)) (c_cl : Nat) (c_rt : Int32) (c_kb : (Nat → Int32)) (c_kn : Int32)  : Option Int32 :=
(f_Tree_find c_c c_cl c_rt c_kb c_kn).bind fun r1 =>
if r1 = 0 then
(some (-1))
else
((lp (fun v => s_Tree_deep_17 c_c c_cl c_kb v.1 v.2) (0, c_rt)).bind fun y12 =>
some y12)
set_option maxHeartbeats 8000000 in
set_option maxRecDepth 100000 in
theorem c_Tree_deep (l : Launch) (G : zG) (sz : Nat) (a_t a_c a_mv a_fr a_br a_e0 a_e1 a_e2 a_e3 a_lo a_ho a_ko a_kq : Nat) (c_c : (Nat → Int32)) (c_cl : Nat) (c_mv : (Nat → Int32)) (c_ml : Nat) (c_en : Int32) (c_rt : Int32) (c_fr : (Nat → Int32)) (c_br : (Nat → Int32)) (c_fi : Int64) (c_st : Int64) (c_vz : Int64) (c_kb : (Nat → Int32)) (c_kn : Int32) (c_kt : Int32) (r0 : Int32) (hf : f_Tree_deep c_c c_cl c_rt c_kb c_kn = some r0) :
    Met l y_Tree_deep (Cond.code y_Tree_deep prog_7_method_35_code 4 (some .int) :: lw_ok) { frames := 5, cells := 0, slots := 0, locals := 116 } (zPc G sz [.ref a_t, .ref a_ko] (wT G a_t a_c a_mv a_fr a_br a_e0 a_e1 a_e2 a_e3 a_lo a_ho c_c c_cl c_mv c_ml c_en c_rt c_fr c_br c_fi c_st c_vz ++ wK G a_ko a_kq c_kb c_kn c_kt))
      ((fun (A : Nat → Prop) => va_Qi (fun (r : Int32) (_ : Unit) => r = r0) (fun _ t => zB G A (wT G a_t a_c a_mv a_fr a_br a_e0 a_e1 a_e2 a_e3 a_lo a_ho c_c c_cl c_mv c_ml c_en c_rt c_fr c_br c_fi c_st c_vz ++ wK G a_ko a_kq c_kb c_kn c_kt) t) A) (va_A (wT G a_t a_c a_mv a_fr a_br a_e0 a_e1 a_e2 a_e3 a_lo a_ho c_c c_cl c_mv c_ml c_en c_rt c_fr c_br c_fi c_st c_vz ++ wK G a_ko a_kq c_kb c_kn c_kt) sz)) 0 0 (fun q => sz ≤ q) := by
  refine zMetR (Qc := fun (A : Nat → Prop) => va_Qi (fun (r : Int32) (_ : Unit) => r = r0) (fun _ t => zB G A (wT G a_t a_c a_mv a_fr a_br a_e0 a_e1 a_e2 a_e3 a_lo a_ho c_c c_cl c_mv c_ml c_en c_rt c_fr c_br c_fi c_st c_vz ++ wK G a_ko a_kq c_kb c_kn c_kt) t) A) (by decide) (Nat.le_of_ble_eq_true rfl) (fun xp xe xs xm xb xme xc A ls Q H locs C hN hK hP hD hS hL hA hl hQ => ?_)
  obtain ⟨hx, hb, hr, hts, hown, hlocks, hml, hin⟩ := C
  have hl : lv_has ls 4 [(0, .ref a_t), (1, .ref a_ko)] := hl
  have h := hf
  unfold f_Tree_deep at h
  refine lv_aload_n hx hb d_Tree_deep_0 rfl (lv_at hl 0 rfl) ?_
  refine lv_aload_n hx hb d_Tree_deep_1 rfl (lv_at hl 1 rfl) ?_
  obtain ⟨r1, hr1, h⟩ := ob h
  refine zpcalli (wr := []) (w2 := fun _ => (wT G a_t a_c a_mv a_fr a_br a_e0 a_e1 a_e2 a_e3 a_lo a_ho c_c c_cl c_mv c_ml c_en c_rt c_fr c_br c_fi c_st c_vz ++ wK G a_ko a_kq c_kb c_kn c_kt)) (zrunV (As := [.ref a_ko]) (rest := []) ⟨hx, hb, hml, hown, hts⟩ hN hK (c_Tree_find l G H.size a_t a_c a_mv a_fr a_br a_e0 a_e1 a_e2 a_e3 a_lo a_ho a_ko a_kq c_c c_cl c_mv c_ml c_en c_rt c_fr c_br c_fi c_st c_vz c_kb c_kn c_kt r1 hr1) ⟨rfl, rfl⟩ kv_Tree_210 ⟨Nat.le_of_ble_eq_true rfl, Nat.le_of_ble_eq_true rfl⟩ 0 rfl rfl rfl hl.1 (Nat.le_of_ble_eq_true rfl) d_Tree_deep_2 ⟨Nat.le_of_ble_eq_true rfl, Nat.le_of_ble_eq_true rfl⟩) hP hD hS hA [0, 1, 2, 3, 4, 5, 6, 7, 8, 9, 10] [] [0, 1, 2, 3, 4, 5, 6, 7, 8, 9, 10] rfl rfl rfl rfl (by decide) rfl (fun _ => rfl) (fun rr _ H hw hP hD hS => ?_)
  have hw := hw.symm
  subst hw
  refine lv_if_ne (tgt := 10) hx hb d_Tree_deep_5 (by decide) (fun q2 => ?_) (fun q2 => ?_)
  · have h := ie h q2
    refine lv_iconst (v := 0) hx hb d_Tree_deep_10 (by decide) ?_
    refine lv_istore_n (lv' := [(2, .int 0), (0, .ref a_t), (1, .ref a_ko)]) hx hb d_Tree_deep_11 rfl hl (by decide) rfl (fun ls hl => ?_)
    refine lv_aload_n hx hb d_Tree_deep_12 rfl (lv_at hl 1 rfl) ?_
    refine va_get (D := G.1) (ci := 4) (v := .int c_rt) (C := "BranchStore$Tree") (T := F_Tree) (N := 15) hx hb hts i_Tree hown hK hP 0 rfl rfl 3 (by decide) (hts _ k_126) (fun _ h9 => h9) rfl d_Tree_deep_13 ?_
    refine lv_istore_n (lv' := [(3, .int c_rt), (2, .int 0), (0, .ref a_t), (1, .ref a_ko)]) hx hb d_Tree_deep_16 rfl hl (by decide) rfl (fun ls hl => ?_)
    obtain ⟨y5, hy5, h⟩ := ob h
    have E17 : ∀ (z11 : Int32), z11 = y5 → ∀ (H : Heap) (locs : List Loc) (ls : Array Slot), va_P G.1 classes (wT G a_t a_c a_mv a_fr a_br a_e0 a_e1 a_e2 a_e3 a_lo a_ho c_c c_cl c_mv c_ml c_en c_rt c_fr c_br c_fi c_st c_vz ++ wK G a_ko a_kq c_kb c_kn c_kt) H → va_D A (wT G a_t a_c a_mv a_fr a_br a_e0 a_e1 a_e2 a_e3 a_lo a_ho c_c c_cl c_mv c_ml c_en c_rt c_fr c_br c_fi c_st c_vz ++ wK G a_ko a_kq c_kb c_kn c_kt) → va_S A xs.heap H locs → (∀ q ∈ locs, xs.heap.size ≤ q.base) → lv_has ls 4 [(2, .int z11)] → W xp l xe { frames := 5, cells := 0, slots := 0, locals := 116 } xs xm ([.ref a_t, .ref a_ko] : List Value).toArray xb xme xc H locs 0 0 Q (F0 xm 45 ls []) := by
      intro z11 ey H locs ls hP hD hS hL hl
      subst ey
      try dsimp only at h
      refine lv_iload_n hx hb d_Tree_deep_45 rfl (lv_at hl 0 rfl) ?_
      obtain rfl := Option.some.inj h
      exact zreti () hQ hL hx hb hr hlocks hP hD hS rfl (Nat.le_refl _) (Nat.le_refl _) d_Tree_deep_46
    have L17 : ∀ v : (Int32 × Int32), lp (fun v => s_Tree_deep_17 c_c c_cl c_kb v.1 v.2) v = some y5 → ∀ (H : Heap) (locs : List Loc) (ls : Array Slot), va_P G.1 classes (wT G a_t a_c a_mv a_fr a_br a_e0 a_e1 a_e2 a_e3 a_lo a_ho c_c c_cl c_mv c_ml c_en c_rt c_fr c_br c_fi c_st c_vz ++ wK G a_ko a_kq c_kb c_kn c_kt) H → va_D A (wT G a_t a_c a_mv a_fr a_br a_e0 a_e1 a_e2 a_e3 a_lo a_ho c_c c_cl c_mv c_ml c_en c_rt c_fr c_br c_fi c_st c_vz ++ wK G a_ko a_kq c_kb c_kn c_kt) → va_S A xs.heap H locs → (∀ q ∈ locs, xs.heap.size ≤ q.base) → lv_has ls 4 [(0, .ref a_t), (1, .ref a_ko), (2, .int v.1), (3, .int v.2)] → W xp l xe { frames := 5, cells := 0, slots := 0, locals := 116 } xs xm ([.ref a_t, .ref a_ko] : List Value).toArray xb xme xc H locs 0 0 Q (F0 xm 17 ls []) := by
      refine lp_walk _ (fun v x h hc he => ?_)
      obtain ⟨x2_3, x3_4⟩ := v
      intro H locs ls hP hD hS hL hl
      have h : s_Tree_deep_17 c_c c_cl c_kb x2_3 x3_4 = some x := h
      unfold s_Tree_deep_17 at h
      refine lv_iload_n hx hb d_Tree_deep_17 rfl (lv_at hl 3 rfl) ?_
      refine lv_if_le (tgt := 45) hx hb d_Tree_deep_18 (by decide) (fun q6 => ?_) (fun q6 => ?_)
      · have h := it h q6
        exact E17 x2_3 (he _ (Option.some.inj h).symm) H locs ls hP hD hS hL (lv_sub hl [2] rfl)
      · have h := ie h q6
        obtain ⟨v7, ev7⟩ : ∃ y : Int32, y = x2_3 + 1 := ⟨_, rfl⟩
        have h := nm_k h v7 ev7
        refine lv_iinc (v := v7) (lv' := [(2, .int v7), (0, .ref a_t), (1, .ref a_ko), (3, .int x3_4)]) hx hb d_Tree_deep_21 hl (k := 2) rfl (by rw [ev7]; rfl) (by decide) rfl (fun ls hl => ?_)
        refine lv_aload_n hx hb d_Tree_deep_24 rfl (lv_at hl 1 rfl) ?_
        refine lv_iload_n hx hb d_Tree_deep_25 rfl (lv_at hl 3 rfl) ?_
        refine lv_aload_n hx hb d_Tree_deep_26 rfl (lv_at hl 2 rfl) ?_
        refine lv_aload_n hx hb d_Tree_deep_27 rfl (lv_at hl 1 rfl) ?_
        refine va_get (D := G.1) (ci := 4) (v := .ref a_c) (C := "BranchStore$Tree") (T := F_Tree) (N := 15) hx hb hts i_Tree hown hK hP 0 rfl rfl 0 (by decide) (hts _ k_123) (fun _ h9 => h9) rfl d_Tree_deep_28 ?_
        refine lv_iload_n hx hb d_Tree_deep_31 rfl (lv_at hl 3 rfl) ?_
        refine lv_iconst (v := 3) hx hb d_Tree_deep_32 (by decide) ?_
        refine lv_iadd hx hb d_Tree_deep_33 ?_
        obtain ⟨h8, h⟩ := gi_k h
        refine va_iald hx hb hK hP 1 0 rfl rfl h8 d_Tree_deep_34 ?_
        obtain ⟨r9, hr9, h⟩ := ob h
        refine zpcalli (wr := [(a_t, .inr (4, [.ref a_c, .ref a_mv, .int c_en, .int c_rt, .ref a_fr, .ref a_e0, .ref a_e1, .ref a_e2, .ref a_e3, .ref a_br, .ref a_lo, .ref a_ho, .long c_fi, .long c_st, .long c_vz])), (a_c, .inl (G.2.1, c_cl, .inl c_c)), (a_mv, .inl (G.2.1, c_ml, .inl c_mv)), (a_fr, .inl (G.2.1, 261, .inl c_fr)), (a_br, .inl (G.2.1, 4, .inl c_br)), (a_e0, .inr (1, [.int 0, .int 9, .int 4, .int 5])), (a_e1, .inr (1, [.int 1, .int 24, .int 16, .int 8])), (a_e2, .inr (2, [.int 2, .int 116, .int 48])), (a_e3, .inr (3, [.int 3, .int 260, .int 256]))]) (w2 := fun _ => (wT G a_t a_c a_mv a_fr a_br a_e0 a_e1 a_e2 a_e3 a_lo a_ho c_c c_cl c_mv c_ml c_en c_rt c_fr c_br c_fi c_st c_vz ++ wK G a_ko a_kq c_kb c_kn c_kt)) (zrunV (As := [.int (c_c (x3_4 + 3).toNatClampNeg)]) (rest := [.int x3_4, .ref a_t]) ⟨hx, hb, hml, hown, hts⟩ hN hK (c_Key_at l G H.size a_ko a_kq c_kb c_kn c_kt (c_c (x3_4 + 3).toNatClampNeg) r9 hr9) ⟨rfl, rfl⟩ kv_Tree_92 ⟨Nat.le_of_ble_eq_true rfl, Nat.le_of_ble_eq_true rfl⟩ 0 rfl rfl rfl hl.1 (Nat.le_of_ble_eq_true rfl) d_Tree_deep_35 ⟨Nat.le_of_ble_eq_true rfl, Nat.le_of_ble_eq_true rfl⟩) hP hD hS hA [9, 10] [0, 1, 2, 3, 4, 5, 6, 7, 8] [0, 1, 2, 3, 4, 5, 6, 7, 8, 9, 10] rfl rfl rfl rfl (by decide) rfl (fun _ => rfl) (fun rr _ H hw hP hD hS => ?_)
        have hw := hw.symm
        subst hw
        obtain ⟨r10, hr10, h⟩ := ob h
        refine zpcalli (wr := [(a_ko, .inr (0, [.ref a_kq, .int c_kn, .int c_kt])), (a_kq, .inl (G.2.2.1, 50, .inl c_kb))]) (w2 := fun _ => (wT G a_t a_c a_mv a_fr a_br a_e0 a_e1 a_e2 a_e3 a_lo a_ho c_c c_cl c_mv c_ml c_en c_rt c_fr c_br c_fi c_st c_vz ++ wK G a_ko a_kq c_kb c_kn c_kt)) (zrunV (As := [.int x3_4, .int r9]) (rest := []) ⟨hx, hb, hml, hown, hts⟩ hN hK (c_Tree_child l G H.size a_t a_c a_mv a_fr a_br a_e0 a_e1 a_e2 a_e3 a_lo a_ho c_c c_cl c_mv c_ml c_en c_rt c_fr c_br c_fi c_st c_vz x3_4 r9 r10 hr10) ⟨rfl, rfl⟩ kv_Tree_126 ⟨Nat.le_of_ble_eq_true rfl, Nat.le_of_ble_eq_true rfl⟩ 0 rfl rfl rfl hl.1 (Nat.le_of_ble_eq_true rfl) d_Tree_deep_38 ⟨Nat.le_of_ble_eq_true rfl, Nat.le_of_ble_eq_true rfl⟩) hP hD hS hA [0, 1, 2, 3, 4, 5, 6, 7, 8] [9, 10] [2, 3, 4, 5, 6, 7, 8, 9, 10, 0, 1] rfl rfl rfl rfl (by decide) rfl (fun _ => rfl) (fun rr _ H hw hP hD hS => ?_)
        have hw := hw.symm
        subst hw
        refine lv_istore_n (lv' := [(3, .int r10), (2, .int v7), (0, .ref a_t), (1, .ref a_ko)]) hx hb d_Tree_deep_41 rfl hl (by decide) rfl (fun ls hl => ?_)
        refine lv_goto (tgt := 17) hx hb d_Tree_deep_42 (by decide) ?_
        exact hc _ (Option.some.inj h).symm H locs ls hP hD hS hL (lv_sub hl [2, 3, 1, 0] rfl)
    exact L17 _ hy5 _ _ ls hP hD hS hL (lv_sub hl [2, 3, 1, 0] rfl)
  · have h := it h q2
    refine lv_iconst (v := (-1)) hx hb d_Tree_deep_8 (by decide) ?_
    obtain rfl := Option.some.inj h
    exact zreti () hQ hL hx hb hr hlocks hP hD hS rfl (Nat.le_refl _) (Nat.le_refl _) d_Tree_deep_9

theorem kv_Tree_213 : zKV "BranchStore$Tree" 213 y_Tree_deepestOf prog_7_method_37_code 5 (some .int) 1 := ⟨k_749, k_751, kp_26, k_2, k_752, by decide +kernel⟩
noncomputable def s_Tree_deepestOf_26 (rc_ : ((Nat → Int32) → Nat → Int32 → Option Int32)) (c_c : (Nat → Int32)) (c_cl : Nat) (x1 : Int32) (x2 : Nat) (x3 : Int32) (x4 : Int32) : Option ((Int32 × Int32) ⊕ Int32) :=
if x4 = (-1) then
(some (.inr x3))
else
((f_Tree_child c_c c_cl x1 x4).bind fun r8 =>
(rc_ c_c c_cl r8).bind fun r9 =>
nm (if x3 < r9 then r9 else x3) fun v10 =>
(if x4 = 255 then
(some (-1))
else
((f_from x2 c_cl c_c x1 (x4 + 1)).bind fun r13 =>
some r13)).bind fun y15 =>
some (.inl (v10, y15)))
noncomputable def f_Tree_deepestOf : Nat → (Nat → Int32) → Nat → Int32 → Option Int32
| 0 => fun _ _ _ => none
| d + 1 => fun c_c c_cl p_1 =>
if 0 < p_1 then
((f_Tree_shapeOf c_c c_cl p_1).bind fun r2 =>
(f_from r2 c_cl c_c p_1 0).bind fun r3 =>
(lp (fun v => s_Tree_deepestOf_26 (f_Tree_deepestOf d) c_c c_cl p_1 r2 v.1 v.2) (0, r3)).bind fun y18 =>
some (y18 + 1))
else
(some 0)
set_option maxHeartbeats 8000000 in
set_option maxRecDepth 100000 in
theorem c_Tree_deepestOf (l : Launch) (G : zG) : ∀ (d : Nat) (sz : Nat) (a_t a_c a_mv a_fr a_br a_e0 a_e1 a_e2 a_e3 a_lo a_ho : Nat) (c_c : (Nat → Int32)) (c_cl : Nat) (c_mv : (Nat → Int32)) (c_ml : Nat) (c_en : Int32) (c_rt : Int32) (c_fr : (Nat → Int32)) (c_br : (Nat → Int32)) (c_fi : Int64) (c_st : Int64) (c_vz : Int64) (p_1 : Int32) (r0 : Int32) (hf : f_Tree_deepestOf d c_c c_cl p_1 = some r0),
    Met l y_Tree_deepestOf (Cond.code y_Tree_deepestOf prog_7_method_37_code 5 (some .int) :: lw_ok) { frames := 4 + d, cells := 0, slots := 0, locals := 94 + 24 * d } (zPc G sz [.ref a_t, .int p_1] (wT G a_t a_c a_mv a_fr a_br a_e0 a_e1 a_e2 a_e3 a_lo a_ho c_c c_cl c_mv c_ml c_en c_rt c_fr c_br c_fi c_st c_vz))
      ((fun (A : Nat → Prop) => va_Qi (fun (r : Int32) (_ : Unit) => r = r0) (fun _ t => zB G A (wT G a_t a_c a_mv a_fr a_br a_e0 a_e1 a_e2 a_e3 a_lo a_ho c_c c_cl c_mv c_ml c_en c_rt c_fr c_br c_fi c_st c_vz) t) A) (va_A (wT G a_t a_c a_mv a_fr a_br a_e0 a_e1 a_e2 a_e3 a_lo a_ho c_c c_cl c_mv c_ml c_en c_rt c_fr c_br c_fi c_st c_vz) sz)) 0 0 (fun q => sz ≤ q) := by
  intro d
  induction d with
  | zero =>
    intro sz a_t a_c a_mv a_fr a_br a_e0 a_e1 a_e2 a_e3 a_lo a_ho c_c c_cl c_mv c_ml c_en c_rt c_fr c_br c_fi c_st c_vz p_1 r0 hf
    cases hf
  | succ d ih =>
    intro sz a_t a_c a_mv a_fr a_br a_e0 a_e1 a_e2 a_e3 a_lo a_ho c_c c_cl c_mv c_ml c_en c_rt c_fr c_br c_fi c_st c_vz p_1 r0 hf
    refine zMetR (Qc := fun (A : Nat → Prop) => va_Qi (fun (r : Int32) (_ : Unit) => r = r0) (fun _ t => zB G A (wT G a_t a_c a_mv a_fr a_br a_e0 a_e1 a_e2 a_e3 a_lo a_ho c_c c_cl c_mv c_ml c_en c_rt c_fr c_br c_fi c_st c_vz) t) A) (by decide) (Nat.le_of_ble_eq_true rfl) (fun xp xe xs xm xb xme xc A ls Q H locs C hN hK hP hD hS hL hA hl hQ => ?_)
    obtain ⟨hx, hb, hr, hts, hown, hlocks, hml, hin⟩ := C
    have hl : lv_has ls 5 [(0, .ref a_t), (1, .int p_1)] := hl
    have h := hf
    unfold f_Tree_deepestOf at h
    try dsimp only at h
    refine lv_iload_n hx hb d_Tree_deepestOf_0 rfl (lv_at hl 1 rfl) ?_
    refine lv_if_gt (tgt := 6) hx hb d_Tree_deepestOf_1 (by decide) (fun q1 => ?_) (fun q1 => ?_)
    · have h := it h q1
      refine lv_aload_n hx hb d_Tree_deepestOf_6 rfl (lv_at hl 0 rfl) ?_
      refine lv_iload_n hx hb d_Tree_deepestOf_7 rfl (lv_at hl 1 rfl) ?_
      obtain ⟨r2, hr2, h⟩ := ob h
      refine zpcallr (wr := []) (w2 := fun _ => (wT G a_t a_c a_mv a_fr a_br a_e0 a_e1 a_e2 a_e3 a_lo a_ho c_c c_cl c_mv c_ml c_en c_rt c_fr c_br c_fi c_st c_vz)) (zrunV (As := [.int p_1]) (rest := []) ⟨hx, hb, hml, hown, hts⟩ hN hK (c_Tree_shapeOf l G H.size a_t a_c a_mv a_fr a_br a_e0 a_e1 a_e2 a_e3 a_lo a_ho c_c c_cl c_mv c_ml c_en c_rt c_fr c_br c_fi c_st c_vz p_1 r2 hr2) ⟨rfl, rfl⟩ kv_Tree_116 ⟨by show 2 ≤ 4 + (d + 1); omega, by show 42 ≤ 94 + 24 * (d + 1); omega⟩ 0 rfl rfl rfl hl.1 (Nat.le_of_ble_eq_true rfl) d_Tree_deepestOf_8 ⟨Nat.le_of_ble_eq_true rfl, Nat.le_of_ble_eq_true rfl⟩) hP hD hS hA [0, 1, 2, 3, 4, 5, 6, 7, 8] [] [0, 1, 2, 3, 4, 5, 6, 7, 8] rfl rfl rfl rfl (by decide) rfl (fun _ => rfl) (fun _ ra H hw hP hD hS => ?_)
      subst hw
      refine lv_astore_n (lv' := [(2, .ref (zsh a_e0 a_e1 a_e2 a_e3 r2)), (0, .ref a_t), (1, .int p_1)]) hx hb d_Tree_deepestOf_11 rfl hl (by decide) rfl (fun ls hl => ?_)
      refine lv_iconst (v := 0) hx hb d_Tree_deepestOf_12 (by decide) ?_
      refine lv_istore_n (lv' := [(3, .int 0), (2, .ref (zsh a_e0 a_e1 a_e2 a_e3 r2)), (0, .ref a_t), (1, .int p_1)]) hx hb d_Tree_deepestOf_13 rfl hl (by decide) rfl (fun ls hl => ?_)
      refine lv_aload_n hx hb d_Tree_deepestOf_14 rfl (lv_at hl 1 rfl) ?_
      refine lv_aload_n hx hb d_Tree_deepestOf_15 rfl (lv_at hl 2 rfl) ?_
      refine va_get (D := G.1) (ci := 4) (v := .ref a_c) (C := "BranchStore$Tree") (T := F_Tree) (N := 15) hx hb hts i_Tree hown hK hP 0 rfl rfl 0 (by decide) (hts _ k_123) (fun _ h9 => h9) rfl d_Tree_deepestOf_16 ?_
      refine lv_iload_n hx hb d_Tree_deepestOf_19 rfl (lv_at hl 3 rfl) ?_
      refine lv_iconst (v := 0) hx hb d_Tree_deepestOf_20 (by decide) ?_
      obtain ⟨r3, hr3, h⟩ := ob h
      refine zv_from (k := r2) ⟨hx, hb, hml, hown, hts⟩ hN hK hP hD hS hA (zE_mk rfl rfl rfl rfl) rfl hr3 (by show 3 ≤ 4 + (d + 1); omega) (by show 71 ≤ 94 + 24 * (d + 1); omega) hl.1 (Nat.le_of_ble_eq_true rfl) d_Tree_deepestOf_21 ⟨Nat.zero_le _, Nat.zero_le _⟩ (fun H hP hS => ?_)
      refine lv_istore (lv' := [(4, .int r3), (3, .int 0), (2, .ref (zsh a_e0 a_e1 a_e2 a_e3 r2)), (0, .ref a_t), (1, .int p_1)]) hx hb d_Tree_deepestOf_24 hl (by decide) rfl (fun ls hl => ?_)
      obtain ⟨y6, hy6, h⟩ := ob h
      have E26 : ∀ (z17 : Int32), z17 = y6 → ∀ (H : Heap) (locs : List Loc) (ls : Array Slot), va_P G.1 classes (wT G a_t a_c a_mv a_fr a_br a_e0 a_e1 a_e2 a_e3 a_lo a_ho c_c c_cl c_mv c_ml c_en c_rt c_fr c_br c_fi c_st c_vz) H → va_D A (wT G a_t a_c a_mv a_fr a_br a_e0 a_e1 a_e2 a_e3 a_lo a_ho c_c c_cl c_mv c_ml c_en c_rt c_fr c_br c_fi c_st c_vz) → va_S A xs.heap H locs → (∀ q ∈ locs, xs.heap.size ≤ q.base) → lv_has ls 5 [(3, .int z17)] → W xp l xe { frames := 4 + (d + 1), cells := 0, slots := 0, locals := 94 + 24 * (d + 1) } xs xm ([.ref a_t, .int p_1] : List Value).toArray xb xme xc H locs 0 0 Q (F0 xm 78 ls []) := by
        intro z17 ey H locs ls hP hD hS hL hl
        subst ey
        try dsimp only at h
        refine lv_iload_n hx hb d_Tree_deepestOf_78 rfl (lv_at hl 0 rfl) ?_
        refine lv_iconst (v := 1) hx hb d_Tree_deepestOf_79 (by decide) ?_
        refine lv_iadd hx hb d_Tree_deepestOf_80 ?_
        obtain rfl := Option.some.inj h
        exact zreti () hQ hL hx hb hr hlocks hP hD hS rfl (Nat.le_refl _) (Nat.le_refl _) d_Tree_deepestOf_81
      have L26 : ∀ v : (Int32 × Int32), lp (fun v => s_Tree_deepestOf_26 (f_Tree_deepestOf d) c_c c_cl p_1 r2 v.1 v.2) v = some y6 → ∀ (H : Heap) (locs : List Loc) (ls : Array Slot), va_P G.1 classes (wT G a_t a_c a_mv a_fr a_br a_e0 a_e1 a_e2 a_e3 a_lo a_ho c_c c_cl c_mv c_ml c_en c_rt c_fr c_br c_fi c_st c_vz) H → va_D A (wT G a_t a_c a_mv a_fr a_br a_e0 a_e1 a_e2 a_e3 a_lo a_ho c_c c_cl c_mv c_ml c_en c_rt c_fr c_br c_fi c_st c_vz) → va_S A xs.heap H locs → (∀ q ∈ locs, xs.heap.size ≤ q.base) → lv_has ls 5 [(0, .ref a_t), (1, .int p_1), (2, .ref (zsh a_e0 a_e1 a_e2 a_e3 r2)), (3, .int v.1), (4, .int v.2)] → W xp l xe { frames := 4 + (d + 1), cells := 0, slots := 0, locals := 94 + 24 * (d + 1) } xs xm ([.ref a_t, .int p_1] : List Value).toArray xb xme xc H locs 0 0 Q (F0 xm 26 ls []) := by
        refine lp_walk _ (fun v x h hc he => ?_)
        obtain ⟨x3_4, x4_5⟩ := v
        intro H locs ls hP hD hS hL hl
        have h : s_Tree_deepestOf_26 (f_Tree_deepestOf d) c_c c_cl p_1 r2 x3_4 x4_5 = some x := h
        unfold s_Tree_deepestOf_26 at h
        refine lv_iload hx hb d_Tree_deepestOf_26 (lv_at hl 4 rfl) ?_
        refine lv_iconst (v := (-1)) hx hb d_Tree_deepestOf_28 (by decide) ?_
        refine lv_icmp_eq (tgt := 78) hx hb d_Tree_deepestOf_29 (by decide) (fun q7 => ?_) (fun q7 => ?_)
        · have h := it h q7
          exact E26 x3_4 (he _ (Option.some.inj h).symm) H locs ls hP hD hS hL (lv_sub hl [3] rfl)
        · have h := ie h q7
          refine lv_iload_n hx hb d_Tree_deepestOf_32 rfl (lv_at hl 3 rfl) ?_
          refine lv_aload_n hx hb d_Tree_deepestOf_33 rfl (lv_at hl 0 rfl) ?_
          refine lv_aload_n hx hb d_Tree_deepestOf_34 rfl (lv_at hl 0 rfl) ?_
          refine lv_iload_n hx hb d_Tree_deepestOf_35 rfl (lv_at hl 1 rfl) ?_
          refine lv_iload hx hb d_Tree_deepestOf_36 (lv_at hl 4 rfl) ?_
          obtain ⟨r8, hr8, h⟩ := ob h
          refine zpcalli (wr := []) (w2 := fun _ => (wT G a_t a_c a_mv a_fr a_br a_e0 a_e1 a_e2 a_e3 a_lo a_ho c_c c_cl c_mv c_ml c_en c_rt c_fr c_br c_fi c_st c_vz)) (zrunV (As := [.int p_1, .int x4_5]) (rest := [.ref a_t, .int x3_4]) ⟨hx, hb, hml, hown, hts⟩ hN hK (c_Tree_child l G H.size a_t a_c a_mv a_fr a_br a_e0 a_e1 a_e2 a_e3 a_lo a_ho c_c c_cl c_mv c_ml c_en c_rt c_fr c_br c_fi c_st c_vz p_1 x4_5 r8 hr8) ⟨rfl, rfl⟩ kv_Tree_126 ⟨by show 4 ≤ 4 + (d + 1); omega, by show 94 ≤ 94 + 24 * (d + 1); omega⟩ 0 rfl rfl rfl hl.1 (Nat.le_of_ble_eq_true rfl) d_Tree_deepestOf_38 ⟨Nat.le_of_ble_eq_true rfl, Nat.le_of_ble_eq_true rfl⟩) hP hD hS hA [0, 1, 2, 3, 4, 5, 6, 7, 8] [] [0, 1, 2, 3, 4, 5, 6, 7, 8] rfl rfl rfl rfl (by decide) rfl (fun _ => rfl) (fun rr _ H hw hP hD hS => ?_)
          have hw := hw.symm
          subst hw
          obtain ⟨r9, hr9, h⟩ := ob h
          refine zpcalli (wr := []) (w2 := fun _ => (wT G a_t a_c a_mv a_fr a_br a_e0 a_e1 a_e2 a_e3 a_lo a_ho c_c c_cl c_mv c_ml c_en c_rt c_fr c_br c_fi c_st c_vz)) (zrunV (As := [.int r8]) (rest := [.int x3_4]) ⟨hx, hb, hml, hown, hts⟩ hN hK (ih H.size a_t a_c a_mv a_fr a_br a_e0 a_e1 a_e2 a_e3 a_lo a_ho c_c c_cl c_mv c_ml c_en c_rt c_fr c_br c_fi c_st c_vz r8 r9 hr9) ⟨rfl, rfl⟩ kv_Tree_213 ⟨by show 4 + d + 1 ≤ 4 + (d + 1); omega, by show 8 + (5 + 11) + (94 + 24 * d) ≤ 94 + 24 * (d + 1); omega⟩ 0 rfl rfl rfl hl.1 (Nat.le_of_ble_eq_true rfl) d_Tree_deepestOf_41 ⟨Nat.le_of_ble_eq_true rfl, Nat.le_of_ble_eq_true rfl⟩) hP hD hS hA [0, 1, 2, 3, 4, 5, 6, 7, 8] [] [0, 1, 2, 3, 4, 5, 6, 7, 8] rfl rfl rfl rfl (by decide) rfl (fun _ => rfl) (fun rr _ H hw hP hD hS => ?_)
          have hw := hw.symm
          subst hw
          refine va_mmax hx hb (hml.trans hl.1.symm) hown (hts _ k_753) (hts _ k_308) (hts _ k_16) (hts _ k_309) (by show 1 ≤ 4 + (d + 1); omega) (by show 13 ≤ 94 + 24 * (d + 1); omega) (Nat.zero_le _) (Nat.zero_le _) d_Tree_deepestOf_44 ?_
          refine lv_topi (fun v10 ev10 => ?_)
          have h := nm_k h v10 ev10
          refine lv_istore_n (lv' := [(3, .int v10), (0, .ref a_t), (1, .int p_1), (2, .ref (zsh a_e0 a_e1 a_e2 a_e3 r2)), (4, .int x4_5)]) hx hb d_Tree_deepestOf_47 rfl hl (by decide) rfl (fun ls hl => ?_)
          refine lv_iload hx hb d_Tree_deepestOf_48 (lv_at hl 4 rfl) ?_
          refine lv_sipush (v := 255) hx hb d_Tree_deepestOf_50 (by decide) ?_
          obtain ⟨y14, hy14, h⟩ := ob h
          have J73 : ∀ (z16 : Int32), z16 = y14 → ∀ (H : Heap) (locs : List Loc) (ls : Array Slot), va_P G.1 classes (wT G a_t a_c a_mv a_fr a_br a_e0 a_e1 a_e2 a_e3 a_lo a_ho c_c c_cl c_mv c_ml c_en c_rt c_fr c_br c_fi c_st c_vz) H → va_D A (wT G a_t a_c a_mv a_fr a_br a_e0 a_e1 a_e2 a_e3 a_lo a_ho c_c c_cl c_mv c_ml c_en c_rt c_fr c_br c_fi c_st c_vz) → va_S A xs.heap H locs → (∀ q ∈ locs, xs.heap.size ≤ q.base) → lv_has ls 5 [(0, .ref a_t), (1, .int p_1), (2, .ref (zsh a_e0 a_e1 a_e2 a_e3 r2)), (3, .int v10)] → W xp l xe { frames := 4 + (d + 1), cells := 0, slots := 0, locals := 94 + 24 * (d + 1) } xs xm ([.ref a_t, .int p_1] : List Value).toArray xb xme xc H locs 0 0 Q (F0 xm 73 ls [.int z16]) := by
            intro z16 ey H locs ls hP hD hS hL hl
            subst ey
            try dsimp only at h
            refine lv_istore (lv' := [(4, .int z16), (0, .ref a_t), (1, .int p_1), (2, .ref (zsh a_e0 a_e1 a_e2 a_e3 r2)), (3, .int v10)]) hx hb d_Tree_deepestOf_73 hl (by decide) rfl (fun ls hl => ?_)
            refine lv_goto (tgt := 26) hx hb d_Tree_deepestOf_75 (by decide) ?_
            exact hc _ (Option.some.inj h).symm H locs ls hP hD hS hL (lv_sub hl [1, 2, 3, 4, 0] rfl)
          have h := hy14
          refine lv_icmp_ne (tgt := 60) hx hb d_Tree_deepestOf_53 (by decide) (fun q12 => ?_) (fun q12 => ?_)
          · have h := ie h q12
            refine lv_aload_n hx hb d_Tree_deepestOf_60 rfl (lv_at hl 3 rfl) ?_
            refine lv_aload_n hx hb d_Tree_deepestOf_61 rfl (lv_at hl 1 rfl) ?_
            refine va_get (D := G.1) (ci := 4) (v := .ref a_c) (C := "BranchStore$Tree") (T := F_Tree) (N := 15) hx hb hts i_Tree hown hK hP 0 rfl rfl 0 (by decide) (hts _ k_123) (fun _ h9 => h9) rfl d_Tree_deepestOf_62 ?_
            refine lv_iload_n hx hb d_Tree_deepestOf_65 rfl (lv_at hl 2 rfl) ?_
            refine lv_iload hx hb d_Tree_deepestOf_66 (lv_at hl 4 rfl) ?_
            refine lv_iconst (v := 1) hx hb d_Tree_deepestOf_68 (by decide) ?_
            refine lv_iadd hx hb d_Tree_deepestOf_69 ?_
            obtain ⟨r13, hr13, h⟩ := ob h
            refine zv_from (k := r2) ⟨hx, hb, hml, hown, hts⟩ hN hK hP hD hS hA (zE_mk rfl rfl rfl rfl) rfl hr13 (by show 3 ≤ 4 + (d + 1); omega) (by show 71 ≤ 94 + 24 * (d + 1); omega) hl.1 (Nat.le_of_ble_eq_true rfl) d_Tree_deepestOf_70 ⟨Nat.zero_le _, Nat.zero_le _⟩ (fun H hP hS => ?_)
            exact J73 r13 (Option.some.inj h) H locs ls hP hD hS hL (lv_sub hl [1, 2, 3, 0] rfl)
          · have h := it h q12
            refine lv_iconst (v := (-1)) hx hb d_Tree_deepestOf_56 (by decide) ?_
            refine lv_goto (tgt := 73) hx hb d_Tree_deepestOf_57 (by decide) ?_
            exact J73 (-1) (Option.some.inj h) H locs ls hP hD hS hL (lv_sub hl [1, 2, 3, 0] rfl)
      exact L26 _ hy6 _ _ ls hP hD hS hL (lv_sub hl [3, 4, 2, 1, 0] rfl)
    · have h := ie h q1
      refine lv_iconst (v := 0) hx hb d_Tree_deepestOf_4 (by decide) ?_
      obtain rfl := Option.some.inj h
      exact zreti () hQ hL hx hb hr hlocks hP hD hS rfl (Nat.le_refl _) (Nat.le_refl _) d_Tree_deepestOf_5

noncomputable def f_Tree_deepest (c_c : (Nat → Int32)) (c_cl : Nat) (c_rt : Int32)  : Option Int32 :=
(f_Tree_deepestOf 60 c_c c_cl c_rt).bind fun r1 =>
some r1
set_option maxHeartbeats 8000000 in
set_option maxRecDepth 100000 in
theorem c_Tree_deepest (l : Launch) (G : zG) (sz : Nat) (a_t a_c a_mv a_fr a_br a_e0 a_e1 a_e2 a_e3 a_lo a_ho : Nat) (c_c : (Nat → Int32)) (c_cl : Nat) (c_mv : (Nat → Int32)) (c_ml : Nat) (c_en : Int32) (c_rt : Int32) (c_fr : (Nat → Int32)) (c_br : (Nat → Int32)) (c_fi : Int64) (c_st : Int64) (c_vz : Int64) (r0 : Int32) (hf : f_Tree_deepest c_c c_cl c_rt = some r0) :
    Met l y_Tree_deepest (Cond.code y_Tree_deepest prog_7_method_36_code 1 (some .int) :: lw_ok) { frames := 65, cells := 0, slots := 0, locals := 1558 } (zPc G sz [.ref a_t] (wT G a_t a_c a_mv a_fr a_br a_e0 a_e1 a_e2 a_e3 a_lo a_ho c_c c_cl c_mv c_ml c_en c_rt c_fr c_br c_fi c_st c_vz))
      ((fun (A : Nat → Prop) => va_Qi (fun (r : Int32) (_ : Unit) => r = r0) (fun _ t => zB G A (wT G a_t a_c a_mv a_fr a_br a_e0 a_e1 a_e2 a_e3 a_lo a_ho c_c c_cl c_mv c_ml c_en c_rt c_fr c_br c_fi c_st c_vz) t) A) (va_A (wT G a_t a_c a_mv a_fr a_br a_e0 a_e1 a_e2 a_e3 a_lo a_ho c_c c_cl c_mv c_ml c_en c_rt c_fr c_br c_fi c_st c_vz) sz)) 0 0 (fun q => sz ≤ q) := by
  refine zMetR (Qc := fun (A : Nat → Prop) => va_Qi (fun (r : Int32) (_ : Unit) => r = r0) (fun _ t => zB G A (wT G a_t a_c a_mv a_fr a_br a_e0 a_e1 a_e2 a_e3 a_lo a_ho c_c c_cl c_mv c_ml c_en c_rt c_fr c_br c_fi c_st c_vz) t) A) (by decide) (Nat.le_of_ble_eq_true rfl) (fun xp xe xs xm xb xme xc A ls Q H locs C hN hK hP hD hS hL hA hl hQ => ?_)
  obtain ⟨hx, hb, hr, hts, hown, hlocks, hml, hin⟩ := C
  have hl : lv_has ls 1 [(0, .ref a_t)] := hl
  have h := hf
  unfold f_Tree_deepest at h
  refine lv_aload_n hx hb d_Tree_deepest_0 rfl (lv_at hl 0 rfl) ?_
  refine lv_aload_n hx hb d_Tree_deepest_1 rfl (lv_at hl 0 rfl) ?_
  refine va_get (D := G.1) (ci := 4) (v := .int c_rt) (C := "BranchStore$Tree") (T := F_Tree) (N := 15) hx hb hts i_Tree hown hK hP 0 rfl rfl 3 (by decide) (hts _ k_126) (fun _ h9 => h9) rfl d_Tree_deepest_2 ?_
  obtain ⟨r1, hr1, h⟩ := ob h
  refine zpcalli (wr := []) (w2 := fun _ => (wT G a_t a_c a_mv a_fr a_br a_e0 a_e1 a_e2 a_e3 a_lo a_ho c_c c_cl c_mv c_ml c_en c_rt c_fr c_br c_fi c_st c_vz)) (zrunV (As := [.int c_rt]) (rest := []) ⟨hx, hb, hml, hown, hts⟩ hN hK (c_Tree_deepestOf l G 60 H.size a_t a_c a_mv a_fr a_br a_e0 a_e1 a_e2 a_e3 a_lo a_ho c_c c_cl c_mv c_ml c_en c_rt c_fr c_br c_fi c_st c_vz c_rt r1 hr1) ⟨rfl, rfl⟩ kv_Tree_213 ⟨Nat.le_of_ble_eq_true rfl, Nat.le_of_ble_eq_true rfl⟩ 0 rfl rfl rfl hl.1 (Nat.le_of_ble_eq_true rfl) d_Tree_deepest_5 ⟨Nat.le_of_ble_eq_true rfl, Nat.le_of_ble_eq_true rfl⟩) hP hD hS hA [0, 1, 2, 3, 4, 5, 6, 7, 8] [] [0, 1, 2, 3, 4, 5, 6, 7, 8] rfl rfl rfl rfl (by decide) rfl (fun _ => rfl) (fun rr _ H hw hP hD hS => ?_)
  have hw := hw.symm
  subst hw
  obtain rfl := Option.some.inj h
  exact zreti () hQ hL hx hb hr hlocks hP hD hS rfl (Nat.le_refl _) (Nat.le_refl _) d_Tree_deepest_8

noncomputable def f_Tree_first (c_c : (Nat → Int32)) (c_cl : Nat) (c_rt : Int32)  : Option Int32 :=
if c_rt ≤ 0 then
(some 0)
else
(gi (c_rt + 3) c_cl <|
if (c_c (c_rt + 3).toNatClampNeg) = 0 then
(gi (c_rt + 1) c_cl <|
some (c_c (c_rt + 1).toNatClampNeg))
else
(some 0))
set_option maxHeartbeats 8000000 in
set_option maxRecDepth 100000 in
theorem c_Tree_first (l : Launch) (G : zG) (sz : Nat) (a_t a_c a_mv a_fr a_br a_e0 a_e1 a_e2 a_e3 a_lo a_ho : Nat) (c_c : (Nat → Int32)) (c_cl : Nat) (c_mv : (Nat → Int32)) (c_ml : Nat) (c_en : Int32) (c_rt : Int32) (c_fr : (Nat → Int32)) (c_br : (Nat → Int32)) (c_fi : Int64) (c_st : Int64) (c_vz : Int64) (r0 : Int32) (hf : f_Tree_first c_c c_cl c_rt = some r0) :
    Met l y_Tree_first (Cond.code y_Tree_first prog_7_method_38_code 1 (some .int) :: lw_ok) { frames := 0, cells := 0, slots := 0, locals := 0 } (zPc G sz [.ref a_t] (wT G a_t a_c a_mv a_fr a_br a_e0 a_e1 a_e2 a_e3 a_lo a_ho c_c c_cl c_mv c_ml c_en c_rt c_fr c_br c_fi c_st c_vz))
      ((fun (A : Nat → Prop) => va_Qi (fun (r : Int32) (_ : Unit) => r = r0) (fun _ t => zB G A (wT G a_t a_c a_mv a_fr a_br a_e0 a_e1 a_e2 a_e3 a_lo a_ho c_c c_cl c_mv c_ml c_en c_rt c_fr c_br c_fi c_st c_vz) t) A) (va_A (wT G a_t a_c a_mv a_fr a_br a_e0 a_e1 a_e2 a_e3 a_lo a_ho c_c c_cl c_mv c_ml c_en c_rt c_fr c_br c_fi c_st c_vz) sz)) 0 0 (fun q => sz ≤ q) := by
  refine zMetR (Qc := fun (A : Nat → Prop) => va_Qi (fun (r : Int32) (_ : Unit) => r = r0) (fun _ t => zB G A (wT G a_t a_c a_mv a_fr a_br a_e0 a_e1 a_e2 a_e3 a_lo a_ho c_c c_cl c_mv c_ml c_en c_rt c_fr c_br c_fi c_st c_vz) t) A) (by decide) (Nat.le_of_ble_eq_true rfl) (fun xp xe xs xm xb xme xc A ls Q H locs C hN hK hP hD hS hL hA hl hQ => ?_)
  obtain ⟨hx, hb, hr, hts, hown, hlocks, hml, hin⟩ := C
  have hl : lv_has ls 1 [(0, .ref a_t)] := hl
  have h := hf
  unfold f_Tree_first at h
  refine lv_aload_n hx hb d_Tree_first_0 rfl (lv_at hl 0 rfl) ?_
  refine va_get (D := G.1) (ci := 4) (v := .int c_rt) (C := "BranchStore$Tree") (T := F_Tree) (N := 15) hx hb hts i_Tree hown hK hP 0 rfl rfl 3 (by decide) (hts _ k_126) (fun _ h9 => h9) rfl d_Tree_first_1 ?_
  refine lv_if_le (tgt := 35) hx hb d_Tree_first_4 (by decide) (fun q1 => ?_) (fun q1 => ?_)
  · have h := it h q1
    refine lv_iconst (v := 0) hx hb d_Tree_first_35 (by decide) ?_
    obtain rfl := Option.some.inj h
    exact zreti () hQ hL hx hb hr hlocks hP hD hS rfl (Nat.le_refl _) (Nat.le_refl _) d_Tree_first_36
  · have h := ie h q1
    refine lv_aload_n hx hb d_Tree_first_7 rfl (lv_at hl 0 rfl) ?_
    refine va_get (D := G.1) (ci := 4) (v := .ref a_c) (C := "BranchStore$Tree") (T := F_Tree) (N := 15) hx hb hts i_Tree hown hK hP 0 rfl rfl 0 (by decide) (hts _ k_123) (fun _ h9 => h9) rfl d_Tree_first_8 ?_
    refine lv_aload_n hx hb d_Tree_first_11 rfl (lv_at hl 0 rfl) ?_
    refine va_get (D := G.1) (ci := 4) (v := .int c_rt) (C := "BranchStore$Tree") (T := F_Tree) (N := 15) hx hb hts i_Tree hown hK hP 0 rfl rfl 3 (by decide) (hts _ k_126) (fun _ h9 => h9) rfl d_Tree_first_12 ?_
    refine lv_iconst (v := 3) hx hb d_Tree_first_15 (by decide) ?_
    refine lv_iadd hx hb d_Tree_first_16 ?_
    obtain ⟨h2, h⟩ := gi_k h
    refine va_iald hx hb hK hP 1 0 rfl rfl h2 d_Tree_first_17 ?_
    refine lv_if_ne (tgt := 35) hx hb d_Tree_first_18 (by decide) (fun q3 => ?_) (fun q3 => ?_)
    · have h := ie h q3
      refine lv_iconst (v := 0) hx hb d_Tree_first_35 (by decide) ?_
      obtain rfl := Option.some.inj h
      exact zreti () hQ hL hx hb hr hlocks hP hD hS rfl (Nat.le_refl _) (Nat.le_refl _) d_Tree_first_36
    · have h := it h q3
      refine lv_aload_n hx hb d_Tree_first_21 rfl (lv_at hl 0 rfl) ?_
      refine va_get (D := G.1) (ci := 4) (v := .ref a_c) (C := "BranchStore$Tree") (T := F_Tree) (N := 15) hx hb hts i_Tree hown hK hP 0 rfl rfl 0 (by decide) (hts _ k_123) (fun _ h9 => h9) rfl d_Tree_first_22 ?_
      refine lv_aload_n hx hb d_Tree_first_25 rfl (lv_at hl 0 rfl) ?_
      refine va_get (D := G.1) (ci := 4) (v := .int c_rt) (C := "BranchStore$Tree") (T := F_Tree) (N := 15) hx hb hts i_Tree hown hK hP 0 rfl rfl 3 (by decide) (hts _ k_126) (fun _ h9 => h9) rfl d_Tree_first_26 ?_
      refine lv_iconst (v := 1) hx hb d_Tree_first_29 (by decide) ?_
      refine lv_iadd hx hb d_Tree_first_30 ?_
      obtain ⟨h4, h⟩ := gi_k h
      refine va_iald hx hb hK hP 1 0 rfl rfl h4 d_Tree_first_31 ?_
      refine lv_goto (tgt := 36) hx hb d_Tree_first_32 (by decide) ?_
      obtain rfl := Option.some.inj h
      exact zreti () hQ hL hx hb hr hlocks hP hD hS rfl (Nat.le_refl _) (Nat.le_refl _) d_Tree_first_36
