theorem kv_Tree_196 : zKV "BranchStore$Tree" 196 y_Tree_built prog_7_method_31_code 11 (some .int) 2 := ⟨k_724, k_726, kp_23, k_2, k_727, by decide +kernel⟩
theorem kv_Tree_202 : zKV "BranchStore$Tree" 202 y_Tree_behind prog_7_method_32_code 8 (some .int) 3 := ⟨k_734, k_736, kp_25, k_2, k_737, by decide +kernel⟩
noncomputable def s_Tree_built_46 (c_lb : (Nat → Int32)) (c_hb : (Nat → Int32)) (x3 : Int32) : Option (Int32 ⊕ Int32) :=
(f_Key_at c_lb x3).bind fun r6 =>
(f_Key_at c_hb x3).bind fun r7 =>
if r6 = r7 then
(nm (x3 + 1) fun v9 =>
some (.inl v9))
else
(some (.inr x3))
noncomputable def s_Tree_built_77 (c_fi : Int64) (c_st : Int64) (x2 : Int32) (x3 : Int32) (x4 : Int32) (x5 : Int32) (c_lb : (Nat → Int32)) (c_ln : Int32) (c_lt : Int32) : Option ((Int32 × Int32 × (Nat → Int32) × Int32 × Int32) ⊕ (Int32 × (Nat → Int32) × Int32 × Int32)) :=
if x2 ≤ x5 then
(some (.inr (x4, c_lb, c_ln, c_lt)))
else
(nm (x4 + 1) fun v19 =>
(f_Tree_behind c_fi c_st c_lb c_ln c_lt x5 x2 x3).bind fun r20 =>
some (.inl (v19, r20.1, r20.2.1, r20.2.2.1, r20.2.2.2)))
noncomputable def s_Tree_built_102 (x4 : Int32) (x5 : Int32) : Option (Int32 ⊕ Int32) :=
(f_Tree_shape x5).bind fun r28 =>
if x4 ≤ (zmost r28) then
(some (.inr x5))
else
(nm (x5 + 1) fun v30 =>
some (.inl v30))
noncomputable def s_Tree_built_146 (rc_ : ((Nat → Int32) → Nat → Int32 → (Nat → Int32) → (Nat → Int32) → Int64 → Int64 → Int64 → (Nat → Int32) → Int32 → Int32 → (Nat → Int32) → Int32 → Int32 → Int32 → Int32 → Option ((Int32 × (Nat → Int32) × Nat × Int32 × (Nat → Int32) × (Nat → Int32) × (Nat → Int32) × Int32 × Int32 × (Nat → Int32) × Int32 × Int32) × Nat))) (c_fi : Int64) (c_st : Int64) (c_vz : Int64) (x2 : Int32) (x3 : Int32) (x5 : Int32) (x6 : Int32) (x7 : Int32) (c_c : (Nat → Int32)) (c_cl : Nat) (c_en : Int32) (c_fr : (Nat → Int32)) (c_br : (Nat → Int32)) (c_lb : (Nat → Int32)) (c_ln : Int32) (c_lt : Int32) (c_hb : (Nat → Int32)) (c_hn : Int32) (c_ht : Int32) : Option (((Int32 × (Nat → Int32) × Nat × Int32 × (Nat → Int32) × (Nat → Int32) × (Nat → Int32) × Int32 × Int32 × (Nat → Int32) × Int32 × Int32) ⊕ ((Nat → Int32) × Nat × Int32 × (Nat → Int32) × (Nat → Int32) × (Nat → Int32) × Int32 × Int32 × (Nat → Int32) × Int32 × Int32)) × Nat) :=
if x2 ≤ x7 then
(some (.inr (c_c, c_cl, c_en, c_fr, c_br, c_lb, c_ln, c_lt, c_hb, c_hn, c_ht), 0))
else
((f_Tree_behind c_fi c_st c_lb c_ln c_lt x7 x2 x3).bind fun r56 =>
(f_Tree_number c_fi c_st r56.2.1 r56.2.2.1 r56.2.2.2 x7).bind fun r57 =>
(f_Key_at r57.1 x3).bind fun r58 =>
bd (rc_ c_c c_cl c_en c_fr c_br c_fi c_st c_vz r57.1 r57.2.1 r57.2.2 c_hb c_hn c_ht x7 r56.1) fun r59 =>
(f_Tree_shape x5).bind fun r62 =>
(f_add r62 r59.2.2.1 r59.2.1 x6 r58 r59.1).bind fun r63 =>
some (.inl (r56.1, r63, r59.2.2.1, r59.2.2.2.1, r59.2.2.2.2.1, r59.2.2.2.2.2.1, r59.2.2.2.2.2.2.1, r59.2.2.2.2.2.2.2.1, r59.2.2.2.2.2.2.2.2.1, r59.2.2.2.2.2.2.2.2.2.1, r59.2.2.2.2.2.2.2.2.2.2.1, r59.2.2.2.2.2.2.2.2.2.2.2), 0))
noncomputable def f_Tree_built : Nat → (Nat → Int32) → Nat → Int32 → (Nat → Int32) → (Nat → Int32) → Int64 → Int64 → Int64 → (Nat → Int32) → Int32 → Int32 → (Nat → Int32) → Int32 → Int32 → Int32 → Int32 → Option ((Int32 × (Nat → Int32) × Nat × Int32 × (Nat → Int32) × (Nat → Int32) × (Nat → Int32) × Int32 × Int32 × (Nat → Int32) × Int32 × Int32) × Nat)
| 0 => fun _ _ _ _ _ _ _ _ _ _ _ _ _ _ _ _ => none
| d + 1 => fun c_c c_cl c_en c_fr c_br c_fi c_st c_vz c_lb c_ln c_lt c_hb c_hn c_ht p_1 p_2 =>
(f_Tree_number c_fi c_st c_lb c_ln c_lt p_1).bind fun r1 =>
if (p_2 - p_1) = 1 then
(bd (f_Tree_leaf c_c c_cl c_en c_fr r1.1 r1.2.1 (c_vz + p_1.toInt64) 0) fun r78 =>
some ((r78.1, r78.2.1, r78.2.2.1, r78.2.2.2.1, r78.2.2.2.2, c_br, r1.1, r1.2.1, r1.2.2, c_hb, c_hn, c_ht), 0))
else
((f_Tree_number c_fi c_st c_hb c_hn c_ht (p_2 - 1)).bind fun r3 =>
(lp (fun v => s_Tree_built_46 r1.1 r3.1 v) 0).bind fun y11 =>
(lp (fun v => s_Tree_built_77 c_fi c_st p_2 y11 v.1 v.2.1 v.2.2.1 v.2.2.2.1 v.2.2.2.2) (0, p_1, r1.1, r1.2.1, r1.2.2)).bind fun y25 =>
(lp (fun v => s_Tree_built_102 y25.1 v) 0).bind fun y32 =>
bd (f_Tree_branch c_c c_cl c_en c_fr c_br y32 y11) fun r33 =>
gi (r33.1 + 2) r33.2.2.1 <|
nm (upd r33.2.1 (r33.1 + 2).toNatClampNeg (p_2 - p_1)) fun c37 =>
bd (lpD (fun v => s_Tree_built_146 (f_Tree_built d) c_fi c_st c_vz p_2 y11 y32 r33.1 v.1 v.2.1 v.2.2.1 v.2.2.2.1 v.2.2.2.2.1 v.2.2.2.2.2.1 v.2.2.2.2.2.2.1 v.2.2.2.2.2.2.2.1 v.2.2.2.2.2.2.2.2.1 v.2.2.2.2.2.2.2.2.2.1 v.2.2.2.2.2.2.2.2.2.2.1 v.2.2.2.2.2.2.2.2.2.2.2) (p_1, c37, r33.2.2.1, r33.2.2.2.1, r33.2.2.2.2.1, r33.2.2.2.2.2, y25.2.1, y25.2.2.1, y25.2.2.2, r3.1, r3.2.1, r3.2.2)) fun y75 =>
some ((r33.1, y75.1, y75.2.1, y75.2.2.1, y75.2.2.2.1, y75.2.2.2.2.1, y75.2.2.2.2.2.1, y75.2.2.2.2.2.2.1, y75.2.2.2.2.2.2.2.1, y75.2.2.2.2.2.2.2.2.1, y75.2.2.2.2.2.2.2.2.2.1, y75.2.2.2.2.2.2.2.2.2.2), 0))
set_option maxHeartbeats 8000000 in
set_option maxRecDepth 100000 in
theorem c_Tree_built (l : Launch) (G : zG) : ∀ (d : Nat) (sz : Nat) (a_t a_c a_mv a_fr a_br a_e0 a_e1 a_e2 a_e3 a_lo a_ho a_lq a_hq : Nat) (c_c : (Nat → Int32)) (c_cl : Nat) (c_mv : (Nat → Int32)) (c_ml : Nat) (c_en : Int32) (c_rt : Int32) (c_fr : (Nat → Int32)) (c_br : (Nat → Int32)) (c_fi : Int64) (c_st : Int64) (c_vz : Int64) (c_lb : (Nat → Int32)) (c_ln : Int32) (c_lt : Int32) (c_hb : (Nat → Int32)) (c_hn : Int32) (c_ht : Int32) (p_1 : Int32) (p_2 : Int32) (r0 : (Int32 × (Nat → Int32) × Nat × Int32 × (Nat → Int32) × (Nat → Int32) × (Nat → Int32) × Int32 × Int32 × (Nat → Int32) × Int32 × Int32)) (rc : Nat) (hf : f_Tree_built d c_c c_cl c_en c_fr c_br c_fi c_st c_vz c_lb c_ln c_lt c_hb c_hn c_ht p_1 p_2 = some (r0, rc)),
    Met l y_Tree_built (Cond.code y_Tree_built prog_7_method_31_code 11 (some .int) :: lw_ok) { frames := 4 + d, cells := rc, slots := 1024 * rc, locals := 131 + 30 * d } (zPc G sz [.ref a_t, .int p_1, .int p_2] (wT G a_t a_c a_mv a_fr a_br a_e0 a_e1 a_e2 a_e3 a_lo a_ho c_c c_cl c_mv c_ml c_en c_rt c_fr c_br c_fi c_st c_vz ++ wK G a_lo a_lq c_lb c_ln c_lt ++ wK G a_ho a_hq c_hb c_hn c_ht))
      ((fun (A : Nat → Prop) => va_Qi (fun (r : Int32) (u : Nat × Nat) => r = r0.1) (fun u t => zB G A (wT G a_t u.1 u.2 a_fr a_br a_e0 a_e1 a_e2 a_e3 a_lo a_ho r0.2.1 r0.2.2.1 c_mv c_ml r0.2.2.2.1 c_rt r0.2.2.2.2.1 r0.2.2.2.2.2.1 c_fi c_st c_vz ++ wK G a_lo a_lq r0.2.2.2.2.2.2.1 r0.2.2.2.2.2.2.2.1 r0.2.2.2.2.2.2.2.2.1 ++ wK G a_ho a_hq r0.2.2.2.2.2.2.2.2.2.1 r0.2.2.2.2.2.2.2.2.2.2.1 r0.2.2.2.2.2.2.2.2.2.2.2) t) A) (va_A (wT G a_t a_c a_mv a_fr a_br a_e0 a_e1 a_e2 a_e3 a_lo a_ho c_c c_cl c_mv c_ml c_en c_rt c_fr c_br c_fi c_st c_vz ++ wK G a_lo a_lq c_lb c_ln c_lt ++ wK G a_ho a_hq c_hb c_hn c_ht) sz)) rc (1024 * rc) (va_A (wT G a_t a_c a_mv a_fr a_br a_e0 a_e1 a_e2 a_e3 a_lo a_ho c_c c_cl c_mv c_ml c_en c_rt c_fr c_br c_fi c_st c_vz ++ wK G a_lo a_lq c_lb c_ln c_lt ++ wK G a_ho a_hq c_hb c_hn c_ht) sz) := by
  intro d
  induction d with
  | zero =>
    intro sz a_t a_c a_mv a_fr a_br a_e0 a_e1 a_e2 a_e3 a_lo a_ho a_lq a_hq c_c c_cl c_mv c_ml c_en c_rt c_fr c_br c_fi c_st c_vz c_lb c_ln c_lt c_hb c_hn c_ht p_1 p_2 r0 rc hf
    cases hf
  | succ d ih =>
    intro sz a_t a_c a_mv a_fr a_br a_e0 a_e1 a_e2 a_e3 a_lo a_ho a_lq a_hq c_c c_cl c_mv c_ml c_en c_rt c_fr c_br c_fi c_st c_vz c_lb c_ln c_lt c_hb c_hn c_ht p_1 p_2 r0 rc hf
    refine zMet (Qc := fun (A : Nat → Prop) => va_Qi (fun (r : Int32) (u : Nat × Nat) => r = r0.1) (fun u t => zB G A (wT G a_t u.1 u.2 a_fr a_br a_e0 a_e1 a_e2 a_e3 a_lo a_ho r0.2.1 r0.2.2.1 c_mv c_ml r0.2.2.2.1 c_rt r0.2.2.2.2.1 r0.2.2.2.2.2.1 c_fi c_st c_vz ++ wK G a_lo a_lq r0.2.2.2.2.2.2.1 r0.2.2.2.2.2.2.2.1 r0.2.2.2.2.2.2.2.2.1 ++ wK G a_ho a_hq r0.2.2.2.2.2.2.2.2.2.1 r0.2.2.2.2.2.2.2.2.2.2.1 r0.2.2.2.2.2.2.2.2.2.2.2) t) A) (by decide) (Nat.le_of_ble_eq_true rfl) (fun xp xe xs xm xb xme xc A ls Q H locs C hN hK hP hD hS hA hl hQ => ?_)
    obtain ⟨hx, hb, hr, hts, hown, hlocks, hml, hin⟩ := C
    have hl : lv_has ls 11 [(0, .ref a_t), (1, .int p_1), (2, .int p_2)] := hl
    have h := hf
    unfold f_Tree_built at h
    try dsimp only at h
    have hRa : r0 = (r0, rc).1 := rfl
    have hRc : rc = 0 + (r0, rc).2 := (Nat.zero_add _).symm
    refine W.widen (k := 0) (n := 1024 * 0) (Nat.le_refl _) (Nat.le_refl _) ?_
    refine lv_aload_n hx hb d_Tree_built_0 rfl (lv_at hl 0 rfl) ?_
    refine lv_aload_n hx hb d_Tree_built_1 rfl (lv_at hl 0 rfl) ?_
    refine va_get (D := G.1) (ci := 4) (v := .ref a_lo) (C := "BranchStore$Tree") (T := F_Tree) (N := 15) hx hb hts i_Tree hown hK hP 0 rfl rfl 10 (by decide) (hts _ k_134) (fun _ h9 => h9) rfl d_Tree_built_2 ?_
    refine lv_iload_n hx hb d_Tree_built_5 rfl (lv_at hl 1 rfl) ?_
    obtain ⟨r1, hr1, h⟩ := ob h
    refine zcallv (wr := [(a_ho, .inr (0, [.ref a_hq, .int c_hn, .int c_ht])), (a_hq, .inl (G.2.2.1, 50, .inl c_hb))]) (w2 := fun _ => (wT G a_t a_c a_mv a_fr a_br a_e0 a_e1 a_e2 a_e3 a_lo a_ho c_c c_cl c_mv c_ml c_en c_rt c_fr c_br c_fi c_st c_vz ++ wK G a_lo a_lq r1.1 r1.2.1 r1.2.2 ++ wK G a_ho a_hq c_hb c_hn c_ht)) (zrunV (As := [.ref a_lo, .int p_1]) (rest := []) ⟨hx, hb, hml, hown, hts⟩ hN hK (c_Tree_number l G H.size a_t a_c a_mv a_fr a_br a_e0 a_e1 a_e2 a_e3 a_lo a_ho a_lo a_lq c_c c_cl c_mv c_ml c_en c_rt c_fr c_br c_fi c_st c_vz c_lb c_ln c_lt p_1 r1 hr1) ⟨rfl, rfl⟩ kv_Tree_199 ⟨by show 3 ≤ 4 + (d + 1); omega, by show 68 ≤ 131 + 30 * (d + 1); omega⟩ 0 rfl rfl rfl hl.1 (Nat.le_of_ble_eq_true rfl) d_Tree_built_6 ⟨by show _ ≤ rc; omega, by show _ ≤ 1024 * rc; omega⟩) hP hD hS hA [0, 1, 2, 3, 4, 5, 6, 7, 8, 9, 10] [11, 12] [2, 3, 4, 5, 6, 7, 8, 9, 10, 11, 12, 0, 1] rfl rfl rfl rfl (by decide) rfl (fun _ => rfl) (fun _ H locs _ hP hD hS => ?_)
    refine lv_iload_n hx hb d_Tree_built_9 rfl (lv_at hl 2 rfl) ?_
    refine lv_iload_n hx hb d_Tree_built_10 rfl (lv_at hl 1 rfl) ?_
    refine lv_isub hx hb d_Tree_built_11 ?_
    refine lv_iconst (v := 1) hx hb d_Tree_built_12 (by decide) ?_
    refine lv_icmp_ne (tgt := 33) hx hb d_Tree_built_13 (by decide) (fun q2 => ?_) (fun q2 => ?_)
    · have h := ie h q2
      refine lv_aload_n hx hb d_Tree_built_33 rfl (lv_at hl 0 rfl) ?_
      refine lv_aload_n hx hb d_Tree_built_34 rfl (lv_at hl 0 rfl) ?_
      refine va_get (D := G.1) (ci := 4) (v := .ref a_ho) (C := "BranchStore$Tree") (T := F_Tree) (N := 15) hx hb hts i_Tree hown hK hP 0 rfl rfl 11 (by decide) (hts _ k_135) (fun _ h9 => h9) rfl d_Tree_built_35 ?_
      refine lv_iload_n hx hb d_Tree_built_38 rfl (lv_at hl 2 rfl) ?_
      refine lv_iconst (v := 1) hx hb d_Tree_built_39 (by decide) ?_
      refine lv_isub hx hb d_Tree_built_40 ?_
      obtain ⟨r3, hr3, h⟩ := ob h
      refine zcallv (wr := [(a_lo, .inr (0, [.ref a_lq, .int r1.2.1, .int r1.2.2])), (a_lq, .inl (G.2.2.1, 50, .inl r1.1))]) (w2 := fun _ => (wT G a_t a_c a_mv a_fr a_br a_e0 a_e1 a_e2 a_e3 a_lo a_ho c_c c_cl c_mv c_ml c_en c_rt c_fr c_br c_fi c_st c_vz ++ wK G a_lo a_lq r1.1 r1.2.1 r1.2.2 ++ wK G a_ho a_hq r3.1 r3.2.1 r3.2.2)) (zrunV (As := [.ref a_ho, .int (p_2 - 1)]) (rest := []) ⟨hx, hb, hml, hown, hts⟩ hN hK (c_Tree_number l G H.size a_t a_c a_mv a_fr a_br a_e0 a_e1 a_e2 a_e3 a_lo a_ho a_ho a_hq c_c c_cl c_mv c_ml c_en c_rt c_fr c_br c_fi c_st c_vz c_hb c_hn c_ht (p_2 - 1) r3 hr3) ⟨rfl, rfl⟩ kv_Tree_199 ⟨by show 3 ≤ 4 + (d + 1); omega, by show 68 ≤ 131 + 30 * (d + 1); omega⟩ 0 rfl rfl rfl hl.1 (Nat.le_of_ble_eq_true rfl) d_Tree_built_41 ⟨by show _ ≤ rc; omega, by show _ ≤ 1024 * rc; omega⟩) hP hD hS hA [0, 1, 2, 3, 4, 5, 6, 7, 8, 11, 12] [9, 10] [2, 3, 4, 5, 6, 7, 8, 9, 10, 0, 1, 11, 12] rfl rfl rfl rfl (by decide) rfl (fun _ => rfl) (fun _ H locs _ hP hD hS => ?_)
      refine lv_iconst (v := 0) hx hb d_Tree_built_44 (by decide) ?_
      refine lv_istore_n (lv' := [(3, .int 0), (0, .ref a_t), (1, .int p_1), (2, .int p_2)]) hx hb d_Tree_built_45 rfl hl (by decide) rfl (fun ls hl => ?_)
      obtain ⟨y5, hy5, h⟩ := ob h
      have E46 : ∀ (z10 : Int32), z10 = y5 → ∀ (H : Heap) (locs : List Loc) (ls : Array Slot), va_P G.1 classes (wT G a_t a_c a_mv a_fr a_br a_e0 a_e1 a_e2 a_e3 a_lo a_ho c_c c_cl c_mv c_ml c_en c_rt c_fr c_br c_fi c_st c_vz ++ wK G a_lo a_lq r1.1 r1.2.1 r1.2.2 ++ wK G a_ho a_hq r3.1 r3.2.1 r3.2.2) H → va_D A (wT G a_t a_c a_mv a_fr a_br a_e0 a_e1 a_e2 a_e3 a_lo a_ho c_c c_cl c_mv c_ml c_en c_rt c_fr c_br c_fi c_st c_vz ++ wK G a_lo a_lq r1.1 r1.2.1 r1.2.2 ++ wK G a_ho a_hq r3.1 r3.2.1 r3.2.2) → va_S A xs.heap H locs → lv_has ls 11 [(0, .ref a_t), (1, .int p_1), (2, .int p_2), (3, .int z10)] → W xp l xe { frames := 4 + (d + 1), cells := rc, slots := 1024 * rc, locals := 131 + 30 * (d + 1) } xs xm ([.ref a_t, .int p_1, .int p_2] : List Value).toArray xb xme xc H locs (0) (1024 * (0)) Q (F0 xm 71 ls []) := by
        intro z10 ey H locs ls hP hD hS hl
        subst ey
        try dsimp only at h
        refine lv_iconst (v := 0) hx hb d_Tree_built_71 (by decide) ?_
        refine lv_istore (lv' := [(4, .int 0), (0, .ref a_t), (1, .int p_1), (2, .int p_2), (3, .int z10)]) hx hb d_Tree_built_72 hl (by decide) rfl (fun ls hl => ?_)
        refine lv_iload_n hx hb d_Tree_built_74 rfl (lv_at hl 2 rfl) ?_
        refine lv_istore (lv' := [(5, .int p_1), (4, .int 0), (0, .ref a_t), (1, .int p_1), (2, .int p_2), (3, .int z10)]) hx hb d_Tree_built_75 hl (by decide) rfl (fun ls hl => ?_)
        obtain ⟨y17, hy17, h⟩ := ob h
        have E77 : ∀ (z21 : Int32) (z22 : (Nat → Int32)) (z23 : Int32) (z24 : Int32), (z21, z22, z23, z24) = y17 → ∀ (H : Heap) (locs : List Loc) (ls : Array Slot), va_P G.1 classes (wT G a_t a_c a_mv a_fr a_br a_e0 a_e1 a_e2 a_e3 a_lo a_ho c_c c_cl c_mv c_ml c_en c_rt c_fr c_br c_fi c_st c_vz ++ wK G a_lo a_lq z22 z23 z24 ++ wK G a_ho a_hq r3.1 r3.2.1 r3.2.2) H → va_D A (wT G a_t a_c a_mv a_fr a_br a_e0 a_e1 a_e2 a_e3 a_lo a_ho c_c c_cl c_mv c_ml c_en c_rt c_fr c_br c_fi c_st c_vz ++ wK G a_lo a_lq z22 z23 z24 ++ wK G a_ho a_hq r3.1 r3.2.1 r3.2.2) → va_S A xs.heap H locs → lv_has ls 11 [(0, .ref a_t), (1, .int p_1), (2, .int p_2), (3, .int z10), (4, .int z21)] → W xp l xe { frames := 4 + (d + 1), cells := rc, slots := 1024 * rc, locals := 131 + 30 * (d + 1) } xs xm ([.ref a_t, .int p_1, .int p_2] : List Value).toArray xb xme xc H locs (0) (1024 * (0)) Q (F0 xm 99 ls []) := by
          intro z21 z22 z23 z24 ey H locs ls hP hD hS hl
          subst ey
          try dsimp only at h
          refine lv_iconst (v := 0) hx hb d_Tree_built_99 (by decide) ?_
          refine lv_istore (lv' := [(5, .int 0), (0, .ref a_t), (1, .int p_1), (2, .int p_2), (3, .int z10), (4, .int z21)]) hx hb d_Tree_built_100 hl (by decide) rfl (fun ls hl => ?_)
          obtain ⟨y27, hy27, h⟩ := ob h
          have E102 : ∀ (z31 : Int32), z31 = y27 → ∀ (H : Heap) (locs : List Loc) (ls : Array Slot), va_P G.1 classes (wT G a_t a_c a_mv a_fr a_br a_e0 a_e1 a_e2 a_e3 a_lo a_ho c_c c_cl c_mv c_ml c_en c_rt c_fr c_br c_fi c_st c_vz ++ wK G a_lo a_lq z22 z23 z24 ++ wK G a_ho a_hq r3.1 r3.2.1 r3.2.2) H → va_D A (wT G a_t a_c a_mv a_fr a_br a_e0 a_e1 a_e2 a_e3 a_lo a_ho c_c c_cl c_mv c_ml c_en c_rt c_fr c_br c_fi c_st c_vz ++ wK G a_lo a_lq z22 z23 z24 ++ wK G a_ho a_hq r3.1 r3.2.1 r3.2.2) → va_S A xs.heap H locs → lv_has ls 11 [(0, .ref a_t), (1, .int p_1), (2, .int p_2), (3, .int z10), (5, .int z31)] → W xp l xe { frames := 4 + (d + 1), cells := rc, slots := 1024 * rc, locals := 131 + 30 * (d + 1) } xs xm ([.ref a_t, .int p_1, .int p_2] : List Value).toArray xb xme xc H locs (0) (1024 * (0)) Q (F0 xm 122 ls []) := by
            intro z31 ey H locs ls hP hD hS hl
            subst ey
            try dsimp only at h
            refine lv_aload_n hx hb d_Tree_built_122 rfl (lv_at hl 0 rfl) ?_
            refine lv_iload hx hb d_Tree_built_123 (lv_at hl 4 rfl) ?_
            refine lv_iload_n hx hb d_Tree_built_125 rfl (lv_at hl 3 rfl) ?_
            obtain ⟨r33, dr33, y34, hr33, h, hRa, hRc⟩ := bd_k h hRa hRc
            refine zcalli (wr := [(a_lo, .inr (0, [.ref a_lq, .int z23, .int z24])), (a_lq, .inl (G.2.2.1, 50, .inl z22)), (a_ho, .inr (0, [.ref a_hq, .int r3.2.1, .int r3.2.2])), (a_hq, .inl (G.2.2.1, 50, .inl r3.1))]) (w2 := fun (u35 : Nat × Nat) => (wT G a_t u35.1 u35.2 a_fr a_br a_e0 a_e1 a_e2 a_e3 a_lo a_ho r33.2.1 r33.2.2.1 c_mv c_ml r33.2.2.2.1 c_rt r33.2.2.2.2.1 r33.2.2.2.2.2 c_fi c_st c_vz ++ wK G a_lo a_lq z22 z23 z24 ++ wK G a_ho a_hq r3.1 r3.2.1 r3.2.2)) (zrunV (As := [.int z31, .int z10]) (rest := []) ⟨hx, hb, hml, hown, hts⟩ hN hK (c_Tree_branch l G H.size a_t a_c a_mv a_fr a_br a_e0 a_e1 a_e2 a_e3 a_lo a_ho c_c c_cl c_mv c_ml c_en c_rt c_fr c_br c_fi c_st c_vz z31 z10 r33 dr33 hr33) ⟨rfl, rfl⟩ kv_Tree_169 ⟨by show 4 ≤ 4 + (d + 1); omega, by show 128 ≤ 131 + 30 * (d + 1); omega⟩ 0 rfl rfl rfl hl.1 (Nat.le_of_ble_eq_true rfl) d_Tree_built_126 ⟨by show _ ≤ rc; omega, by show _ ≤ 1024 * rc; omega⟩) hP hD hS hA [0, 1, 2, 3, 4, 5, 6, 7, 8] [9, 10, 11, 12] [4, 5, 6, 7, 8, 9, 10, 11, 12, 0, 1, 2, 3] rfl rfl rfl rfl (by decide) rfl (fun _ => rfl) (fun rr u35 H locs hw hP hD hS => ?_)
            refine W.widen (k := 0 + dr33) (n := 1024 * (0 + dr33)) (by omega) (by omega) ?_
            have hw := hw.symm
            subst hw
            refine lv_istore (lv' := [(6, .int r33.1), (0, .ref a_t), (1, .int p_1), (2, .int p_2), (3, .int z10), (5, .int z31)]) hx hb d_Tree_built_129 hl (by decide) rfl (fun ls hl => ?_)
            refine lv_aload_n hx hb d_Tree_built_131 rfl (lv_at hl 1 rfl) ?_
            refine va_get (D := G.1) (ci := 4) (v := .ref u35.1) (C := "BranchStore$Tree") (T := F_Tree) (N := 15) hx hb hts i_Tree hown hK hP 0 rfl rfl 0 (by decide) (hts _ k_123) (fun _ h9 => h9) rfl d_Tree_built_132 ?_
            refine lv_iload hx hb d_Tree_built_135 (lv_at hl 0 rfl) ?_
            refine lv_iconst (v := 2) hx hb d_Tree_built_137 (by decide) ?_
            refine lv_iadd hx hb d_Tree_built_138 ?_
            refine lv_iload_n hx hb d_Tree_built_139 rfl (lv_at hl 3 rfl) ?_
            refine lv_iload_n hx hb d_Tree_built_140 rfl (lv_at hl 2 rfl) ?_
            refine lv_isub hx hb d_Tree_built_141 ?_
            obtain ⟨h36, h⟩ := gi_k h
            refine va_iast hx hb hK hP hD hS 1 0 rfl rfl h36 d_Tree_built_142 (fun H locs hP hD hS => ?_)
            obtain ⟨c37, ec37⟩ : ∃ y, y = upd r33.2.1 (r33.1 + 2).toNatClampNeg (p_2 - p_1) := ⟨_, rfl⟩
            have h := nm_k h c37 ec37
            have hP : va_P G.1 classes (wT G a_t u35.1 u35.2 a_fr a_br a_e0 a_e1 a_e2 a_e3 a_lo a_ho c37 r33.2.2.1 c_mv c_ml r33.2.2.2.1 c_rt r33.2.2.2.2.1 r33.2.2.2.2.2 c_fi c_st c_vz ++ wK G a_lo a_lq z22 z23 z24 ++ wK G a_ho a_hq r3.1 r3.2.1 r3.2.2) H := by rw [ec37]; exact hP
            have hD : va_D A (wT G a_t u35.1 u35.2 a_fr a_br a_e0 a_e1 a_e2 a_e3 a_lo a_ho c37 r33.2.2.1 c_mv c_ml r33.2.2.2.1 c_rt r33.2.2.2.2.1 r33.2.2.2.2.2 c_fi c_st c_vz ++ wK G a_lo a_lq z22 z23 z24 ++ wK G a_ho a_hq r3.1 r3.2.1 r3.2.2) := by rw [ec37]; exact hD
            refine lv_iload_n hx hb d_Tree_built_143 rfl (lv_at hl 2 rfl) ?_
            refine lv_istore (lv' := [(7, .int p_1), (6, .int r33.1), (0, .ref a_t), (1, .int p_1), (2, .int p_2), (3, .int z10), (5, .int z31)]) hx hb d_Tree_built_144 hl (by decide) rfl (fun ls hl => ?_)
            obtain ⟨y53, dy53, y54, hy53, h, hRa, hRc⟩ := bd_k h hRa hRc
            have hRo := hRc
            have E146 : ∀ (z64 : (Nat → Int32)) (z65 : Nat) (z66 : Int32) (z67 : (Nat → Int32)) (z68 : (Nat → Int32)) (z69 : (Nat → Int32)) (z70 : Int32) (z71 : Int32) (z72 : (Nat → Int32)) (z73 : Int32) (z74 : Int32), (z64, z65, z66, z67, z68, z69, z70, z71, z72, z73, z74) = y53 → ∀ (a76 a77 : Nat) (H : Heap) (locs : List Loc) (ls : Array Slot), va_P G.1 classes (wT G a_t a76 a77 a_fr a_br a_e0 a_e1 a_e2 a_e3 a_lo a_ho z64 z65 c_mv c_ml z66 c_rt z67 z68 c_fi c_st c_vz ++ wK G a_lo a_lq z69 z70 z71 ++ wK G a_ho a_hq z72 z73 z74) H → va_D A (wT G a_t a76 a77 a_fr a_br a_e0 a_e1 a_e2 a_e3 a_lo a_ho z64 z65 c_mv c_ml z66 c_rt z67 z68 c_fi c_st c_vz ++ wK G a_lo a_lq z69 z70 z71 ++ wK G a_ho a_hq z72 z73 z74) → va_S A xs.heap H locs → lv_has ls 11 [(6, .int r33.1)] → W xp l xe { frames := 4 + (d + 1), cells := rc, slots := 1024 * rc, locals := 131 + 30 * (d + 1) } xs xm ([.ref a_t, .int p_1, .int p_2] : List Value).toArray xb xme xc H locs (0 + dr33 + dy53) (1024 * (0 + dr33 + dy53)) Q (F0 xm 218 ls []) := by
              intro z64 z65 z66 z67 z68 z69 z70 z71 z72 z73 z74 ey a76 a77 H locs ls hP hD hS hl
              subst ey
              try dsimp only at h
              refine lv_iload hx hb d_Tree_built_218 (lv_at hl 0 rfl) ?_
              have ey := Option.some.inj h
              rw [← ey] at hRa hRc
              have hRa : r0 = (r33.1, z64, z65, z66, z67, z68, z69, z70, z71, z72, z73, z74) := hRa
              have hRc : rc = 0 + dr33 + dy53 + 0 := hRc
              subst hRa
              exact zreti (a76, a77) hQ hS.2.2 hx hb hr hlocks hP hD hS rfl (by omega) (by omega) d_Tree_built_220
            have L146 : ∀ v : (Int32 × (Nat → Int32) × Nat × Int32 × (Nat → Int32) × (Nat → Int32) × (Nat → Int32) × Int32 × Int32 × (Nat → Int32) × Int32 × Int32), lpD (fun v => s_Tree_built_146 (f_Tree_built d) c_fi c_st c_vz p_2 z10 z31 r33.1 v.1 v.2.1 v.2.2.1 v.2.2.2.1 v.2.2.2.2.1 v.2.2.2.2.2.1 v.2.2.2.2.2.2.1 v.2.2.2.2.2.2.2.1 v.2.2.2.2.2.2.2.2.1 v.2.2.2.2.2.2.2.2.2.1 v.2.2.2.2.2.2.2.2.2.2.1 v.2.2.2.2.2.2.2.2.2.2.2) v = some (y53, dy53) → (fun (v : (Int32 × (Nat → Int32) × Nat × Int32 × (Nat → Int32) × (Nat → Int32) × (Nat → Int32) × Int32 × Int32 × (Nat → Int32) × Int32 × Int32)) (e9 : Nat) => ∀ (k52 : Nat), rc = k52 + e9 + y54.2 → ∀ (a50 a51 : Nat) (H : Heap) (locs : List Loc) (ls : Array Slot), va_P G.1 classes (wT G a_t a50 a51 a_fr a_br a_e0 a_e1 a_e2 a_e3 a_lo a_ho v.2.1 v.2.2.1 c_mv c_ml v.2.2.2.1 c_rt v.2.2.2.2.1 v.2.2.2.2.2.1 c_fi c_st c_vz ++ wK G a_lo a_lq v.2.2.2.2.2.2.1 v.2.2.2.2.2.2.2.1 v.2.2.2.2.2.2.2.2.1 ++ wK G a_ho a_hq v.2.2.2.2.2.2.2.2.2.1 v.2.2.2.2.2.2.2.2.2.2.1 v.2.2.2.2.2.2.2.2.2.2.2) H → va_D A (wT G a_t a50 a51 a_fr a_br a_e0 a_e1 a_e2 a_e3 a_lo a_ho v.2.1 v.2.2.1 c_mv c_ml v.2.2.2.1 c_rt v.2.2.2.2.1 v.2.2.2.2.2.1 c_fi c_st c_vz ++ wK G a_lo a_lq v.2.2.2.2.2.2.1 v.2.2.2.2.2.2.2.1 v.2.2.2.2.2.2.2.2.1 ++ wK G a_ho a_hq v.2.2.2.2.2.2.2.2.2.1 v.2.2.2.2.2.2.2.2.2.2.1 v.2.2.2.2.2.2.2.2.2.2.2) → va_S A xs.heap H locs → lv_has ls 11 [(0, .ref a_t), (2, .int p_2), (3, .int z10), (5, .int z31), (6, .int r33.1), (7, .int v.1)] → W xp l xe { frames := 4 + (d + 1), cells := rc, slots := 1024 * rc, locals := 131 + 30 * (d + 1) } xs xm ([.ref a_t, .int p_1, .int p_2] : List Value).toArray xb xme xc H locs (k52) (1024 * (k52)) Q (F0 xm 146 ls [])) v dy53 := by
              refine lpD_walk (fun (v : (Int32 × (Nat → Int32) × Nat × Int32 × (Nat → Int32) × (Nat → Int32) × (Nat → Int32) × Int32 × Int32 × (Nat → Int32) × Int32 × Int32)) (e9 : Nat) => ∀ (k52 : Nat), rc = k52 + e9 + y54.2 → ∀ (a50 a51 : Nat) (H : Heap) (locs : List Loc) (ls : Array Slot), va_P G.1 classes (wT G a_t a50 a51 a_fr a_br a_e0 a_e1 a_e2 a_e3 a_lo a_ho v.2.1 v.2.2.1 c_mv c_ml v.2.2.2.1 c_rt v.2.2.2.2.1 v.2.2.2.2.2.1 c_fi c_st c_vz ++ wK G a_lo a_lq v.2.2.2.2.2.2.1 v.2.2.2.2.2.2.2.1 v.2.2.2.2.2.2.2.2.1 ++ wK G a_ho a_hq v.2.2.2.2.2.2.2.2.2.1 v.2.2.2.2.2.2.2.2.2.2.1 v.2.2.2.2.2.2.2.2.2.2.2) H → va_D A (wT G a_t a50 a51 a_fr a_br a_e0 a_e1 a_e2 a_e3 a_lo a_ho v.2.1 v.2.2.1 c_mv c_ml v.2.2.2.1 c_rt v.2.2.2.2.1 v.2.2.2.2.2.1 c_fi c_st c_vz ++ wK G a_lo a_lq v.2.2.2.2.2.2.1 v.2.2.2.2.2.2.2.1 v.2.2.2.2.2.2.2.2.1 ++ wK G a_ho a_hq v.2.2.2.2.2.2.2.2.2.1 v.2.2.2.2.2.2.2.2.2.2.1 v.2.2.2.2.2.2.2.2.2.2.2) → va_S A xs.heap H locs → lv_has ls 11 [(0, .ref a_t), (2, .int p_2), (3, .int z10), (5, .int z31), (6, .int r33.1), (7, .int v.1)] → W xp l xe { frames := 4 + (d + 1), cells := rc, slots := 1024 * rc, locals := 131 + 30 * (d + 1) } xs xm ([.ref a_t, .int p_1, .int p_2] : List Value).toArray xb xme xc H locs (k52) (1024 * (k52)) Q (F0 xm 146 ls [])) (fun v x9 d9 e9 h hc he hde => ?_)
              obtain ⟨x7_38, c39, c40, c41, c42, c43, c44, c45, c46, c47, c48, c49⟩ := v
              intro k52 hk9 a50 a51 H locs ls hP hD hS hl
              have h : s_Tree_built_146 (f_Tree_built d) c_fi c_st c_vz p_2 z10 z31 r33.1 x7_38 c39 c40 c41 c42 c43 c44 c45 c46 c47 c48 c49 = some (x9, d9) := h
              unfold s_Tree_built_146 at h
              have hRa : x9 = (x9, d9).1 := rfl
              have hRc : k52 + d9 = k52 + (x9, d9).2 := rfl
              refine lv_iload hx hb d_Tree_built_146 (lv_at hl 5 rfl) ?_
              refine lv_iload_n hx hb d_Tree_built_148 rfl (lv_at hl 1 rfl) ?_
              refine lv_icmp_ge (tgt := 218) hx hb d_Tree_built_149 (by decide) (fun q55 => ?_) (fun q55 => ?_)
              · have h := it h q55
                have ey := Option.some.inj h
                rw [← ey] at hRa hRc
                have hRc : k52 + d9 = k52 + 0 := hRc
                obtain ⟨ey2, ed9⟩ := he _ hRa
                refine W.widen (k := 0 + dr33 + dy53) (n := 1024 * (0 + dr33 + dy53)) (by omega) (by omega) ?_
                exact E146 c39 c40 c41 c42 c43 c44 c45 c46 c47 c48 c49 ey2 a50 a51 H locs ls hP hD hS (lv_sub hl [4] rfl)
              · have h := ie h q55
                refine lv_aload_n hx hb d_Tree_built_152 rfl (lv_at hl 0 rfl) ?_
                refine lv_iload hx hb d_Tree_built_153 (lv_at hl 5 rfl) ?_
                refine lv_iload_n hx hb d_Tree_built_155 rfl (lv_at hl 1 rfl) ?_
                refine lv_iload_n hx hb d_Tree_built_156 rfl (lv_at hl 2 rfl) ?_
                obtain ⟨r56, hr56, h⟩ := ob h
                refine zcalli (wr := [(a_ho, .inr (0, [.ref a_hq, .int c48, .int c49])), (a_hq, .inl (G.2.2.1, 50, .inl c47))]) (w2 := fun _ => (wT G a_t a50 a51 a_fr a_br a_e0 a_e1 a_e2 a_e3 a_lo a_ho c39 c40 c_mv c_ml c41 c_rt c42 c43 c_fi c_st c_vz ++ wK G a_lo a_lq r56.2.1 r56.2.2.1 r56.2.2.2 ++ wK G a_ho a_hq c47 c48 c49)) (zrunV (As := [.int x7_38, .int p_2, .int z10]) (rest := []) ⟨hx, hb, hml, hown, hts⟩ hN hK (c_Tree_behind l G H.size a_t a50 a51 a_fr a_br a_e0 a_e1 a_e2 a_e3 a_lo a_ho a_lq c39 c40 c_mv c_ml c41 c_rt c42 c43 c_fi c_st c_vz c44 c45 c46 x7_38 p_2 z10 r56 hr56) ⟨rfl, rfl⟩ kv_Tree_202 ⟨by show 4 ≤ 4 + (d + 1); omega, by show 95 ≤ 131 + 30 * (d + 1); omega⟩ 0 rfl rfl rfl hl.1 (Nat.le_of_ble_eq_true rfl) d_Tree_built_157 ⟨by show _ ≤ rc; omega, by show _ ≤ 1024 * rc; omega⟩) hP hD hS hA [0, 1, 2, 3, 4, 5, 6, 7, 8, 9, 10] [11, 12] [2, 3, 4, 5, 6, 7, 8, 9, 10, 11, 12, 0, 1] rfl rfl rfl rfl (by decide) rfl (fun _ => rfl) (fun rr _ H locs hw hP hD hS => ?_)
                have hw := hw.symm
                subst hw
                refine lv_istore (lv' := [(8, .int r56.1), (0, .ref a_t), (2, .int p_2), (3, .int z10), (5, .int z31), (6, .int r33.1), (7, .int x7_38)]) hx hb d_Tree_built_160 hl (by decide) rfl (fun ls hl => ?_)
                refine lv_aload_n hx hb d_Tree_built_162 rfl (lv_at hl 1 rfl) ?_
                refine lv_aload_n hx hb d_Tree_built_163 rfl (lv_at hl 1 rfl) ?_
                refine va_get (D := G.1) (ci := 4) (v := .ref a_lo) (C := "BranchStore$Tree") (T := F_Tree) (N := 15) hx hb hts i_Tree hown hK hP 0 rfl rfl 10 (by decide) (hts _ k_134) (fun _ h9 => h9) rfl d_Tree_built_164 ?_
                refine lv_iload hx hb d_Tree_built_167 (lv_at hl 6 rfl) ?_
                obtain ⟨r57, hr57, h⟩ := ob h
                refine zcallv (wr := [(a_ho, .inr (0, [.ref a_hq, .int c48, .int c49])), (a_hq, .inl (G.2.2.1, 50, .inl c47))]) (w2 := fun _ => (wT G a_t a50 a51 a_fr a_br a_e0 a_e1 a_e2 a_e3 a_lo a_ho c39 c40 c_mv c_ml c41 c_rt c42 c43 c_fi c_st c_vz ++ wK G a_lo a_lq r57.1 r57.2.1 r57.2.2 ++ wK G a_ho a_hq c47 c48 c49)) (zrunV (As := [.ref a_lo, .int x7_38]) (rest := []) ⟨hx, hb, hml, hown, hts⟩ hN hK (c_Tree_number l G H.size a_t a50 a51 a_fr a_br a_e0 a_e1 a_e2 a_e3 a_lo a_ho a_lo a_lq c39 c40 c_mv c_ml c41 c_rt c42 c43 c_fi c_st c_vz r56.2.1 r56.2.2.1 r56.2.2.2 x7_38 r57 hr57) ⟨rfl, rfl⟩ kv_Tree_199 ⟨by show 3 ≤ 4 + (d + 1); omega, by show 68 ≤ 131 + 30 * (d + 1); omega⟩ 0 rfl rfl rfl hl.1 (Nat.le_of_ble_eq_true rfl) d_Tree_built_169 ⟨by show _ ≤ rc; omega, by show _ ≤ 1024 * rc; omega⟩) hP hD hS hA [0, 1, 2, 3, 4, 5, 6, 7, 8, 9, 10] [11, 12] [2, 3, 4, 5, 6, 7, 8, 9, 10, 11, 12, 0, 1] rfl rfl rfl rfl (by decide) rfl (fun _ => rfl) (fun _ H locs _ hP hD hS => ?_)
                refine lv_aload_n hx hb d_Tree_built_172 rfl (lv_at hl 1 rfl) ?_
                refine va_get (D := G.1) (ci := 4) (v := .ref a_lo) (C := "BranchStore$Tree") (T := F_Tree) (N := 15) hx hb hts i_Tree hown hK hP 0 rfl rfl 10 (by decide) (hts _ k_134) (fun _ h9 => h9) rfl d_Tree_built_173 ?_
                refine lv_iload_n hx hb d_Tree_built_176 rfl (lv_at hl 3 rfl) ?_
                obtain ⟨r58, hr58, h⟩ := ob h
                refine zpcalli (wr := [(a_t, .inr (4, [.ref a50, .ref a51, .int c41, .int c_rt, .ref a_fr, .ref a_e0, .ref a_e1, .ref a_e2, .ref a_e3, .ref a_br, .ref a_lo, .ref a_ho, .long c_fi, .long c_st, .long c_vz])), (a50, .inl (G.2.1, c40, .inl c39)), (a51, .inl (G.2.1, c_ml, .inl c_mv)), (a_fr, .inl (G.2.1, 261, .inl c42)), (a_br, .inl (G.2.1, 4, .inl c43)), (a_e0, .inr (1, [.int 0, .int 9, .int 4, .int 5])), (a_e1, .inr (1, [.int 1, .int 24, .int 16, .int 8])), (a_e2, .inr (2, [.int 2, .int 116, .int 48])), (a_e3, .inr (3, [.int 3, .int 260, .int 256])), (a_ho, .inr (0, [.ref a_hq, .int c48, .int c49])), (a_hq, .inl (G.2.2.1, 50, .inl c47))]) (w2 := fun _ => (wT G a_t a50 a51 a_fr a_br a_e0 a_e1 a_e2 a_e3 a_lo a_ho c39 c40 c_mv c_ml c41 c_rt c42 c43 c_fi c_st c_vz ++ wK G a_lo a_lq r57.1 r57.2.1 r57.2.2 ++ wK G a_ho a_hq c47 c48 c49)) (zrunV (As := [.int z10]) (rest := []) ⟨hx, hb, hml, hown, hts⟩ hN hK (c_Key_at l G H.size a_lo a_lq r57.1 r57.2.1 r57.2.2 z10 r58 hr58) ⟨rfl, rfl⟩ kv_Tree_92 ⟨by show 1 ≤ 4 + (d + 1); omega, by show 21 ≤ 131 + 30 * (d + 1); omega⟩ 0 rfl rfl rfl hl.1 (Nat.le_of_ble_eq_true rfl) d_Tree_built_177 ⟨by show _ ≤ rc; omega, by show _ ≤ 1024 * rc; omega⟩) hP hD hS hA [9, 10] [0, 1, 2, 3, 4, 5, 6, 7, 8, 11, 12] [0, 1, 2, 3, 4, 5, 6, 7, 8, 11, 12, 9, 10] rfl rfl rfl rfl (by decide) rfl (fun _ => rfl) (fun rr _ H hw hP hD hS => ?_)
                have hw := hw.symm
                subst hw
                refine lv_istore (lv' := [(9, .int r58), (8, .int r56.1), (0, .ref a_t), (2, .int p_2), (3, .int z10), (5, .int z31), (6, .int r33.1), (7, .int x7_38)]) hx hb d_Tree_built_180 hl (by decide) rfl (fun ls hl => ?_)
                refine lv_aload_n hx hb d_Tree_built_182 rfl (lv_at hl 2 rfl) ?_
                refine lv_iload hx hb d_Tree_built_183 (lv_at hl 7 rfl) ?_
                refine lv_iload hx hb d_Tree_built_185 (lv_at hl 1 rfl) ?_
                obtain ⟨r59, dr59, y60, hr59, h, hRa, hRc⟩ := bd_k h hRa hRc
                refine zcalli (wr := []) (w2 := fun (u61 : Nat × Nat) => (wT G a_t u61.1 u61.2 a_fr a_br a_e0 a_e1 a_e2 a_e3 a_lo a_ho r59.2.1 r59.2.2.1 c_mv c_ml r59.2.2.2.1 c_rt r59.2.2.2.2.1 r59.2.2.2.2.2.1 c_fi c_st c_vz ++ wK G a_lo a_lq r59.2.2.2.2.2.2.1 r59.2.2.2.2.2.2.2.1 r59.2.2.2.2.2.2.2.2.1 ++ wK G a_ho a_hq r59.2.2.2.2.2.2.2.2.2.1 r59.2.2.2.2.2.2.2.2.2.2.1 r59.2.2.2.2.2.2.2.2.2.2.2)) (zrunV (As := [.int x7_38, .int r56.1]) (rest := []) ⟨hx, hb, hml, hown, hts⟩ hN hK (ih H.size a_t a50 a51 a_fr a_br a_e0 a_e1 a_e2 a_e3 a_lo a_ho a_lq a_hq c39 c40 c_mv c_ml c41 c_rt c42 c43 c_fi c_st c_vz r57.1 r57.2.1 r57.2.2 c47 c48 c49 x7_38 r56.1 r59 dr59 hr59) ⟨rfl, rfl⟩ kv_Tree_196 ⟨by show 4 + d + 1 ≤ 4 + (d + 1); omega, by show 8 + (11 + 11) + (131 + 30 * d) ≤ 131 + 30 * (d + 1); omega⟩ 0 rfl rfl rfl hl.1 (Nat.le_of_ble_eq_true rfl) d_Tree_built_187 ⟨by show _ ≤ rc; omega, by show _ ≤ 1024 * rc; omega⟩) hP hD hS hA [0, 1, 2, 3, 4, 5, 6, 7, 8, 9, 10, 11, 12] [] [0, 1, 2, 3, 4, 5, 6, 7, 8, 9, 10, 11, 12] rfl rfl rfl rfl (by decide) rfl (fun _ => rfl) (fun rr u61 H locs hw hP hD hS => ?_)
                refine W.widen (k := k52 + dr59) (n := 1024 * (k52 + dr59)) (by omega) (by omega) ?_
                have hw := hw.symm
                subst hw
                refine lv_istore (lv' := [(10, .int r59.1), (9, .int r58), (8, .int r56.1), (0, .ref a_t), (2, .int p_2), (3, .int z10), (5, .int z31), (6, .int r33.1), (7, .int x7_38)]) hx hb d_Tree_built_190 hl (by decide) rfl (fun ls hl => ?_)
                refine lv_aload_n hx hb d_Tree_built_192 rfl (lv_at hl 3 rfl) ?_
                refine lv_iload hx hb d_Tree_built_193 (lv_at hl 6 rfl) ?_
                obtain ⟨r62, hr62, h⟩ := ob h
                refine zpcallr (wr := [(a_lo, .inr (0, [.ref a_lq, .int r59.2.2.2.2.2.2.2.1, .int r59.2.2.2.2.2.2.2.2.1])), (a_lq, .inl (G.2.2.1, 50, .inl r59.2.2.2.2.2.2.1)), (a_ho, .inr (0, [.ref a_hq, .int r59.2.2.2.2.2.2.2.2.2.2.1, .int r59.2.2.2.2.2.2.2.2.2.2.2])), (a_hq, .inl (G.2.2.1, 50, .inl r59.2.2.2.2.2.2.2.2.2.1))]) (w2 := fun _ => (wT G a_t u61.1 u61.2 a_fr a_br a_e0 a_e1 a_e2 a_e3 a_lo a_ho r59.2.1 r59.2.2.1 c_mv c_ml r59.2.2.2.1 c_rt r59.2.2.2.2.1 r59.2.2.2.2.2.1 c_fi c_st c_vz ++ wK G a_lo a_lq r59.2.2.2.2.2.2.1 r59.2.2.2.2.2.2.2.1 r59.2.2.2.2.2.2.2.2.1 ++ wK G a_ho a_hq r59.2.2.2.2.2.2.2.2.2.1 r59.2.2.2.2.2.2.2.2.2.2.1 r59.2.2.2.2.2.2.2.2.2.2.2)) (zrunV (As := [.int z31]) (rest := []) ⟨hx, hb, hml, hown, hts⟩ hN hK (c_Tree_shape l G H.size a_t u61.1 u61.2 a_fr a_br a_e0 a_e1 a_e2 a_e3 a_lo a_ho r59.2.1 r59.2.2.1 c_mv c_ml r59.2.2.2.1 c_rt r59.2.2.2.2.1 r59.2.2.2.2.2.1 c_fi c_st c_vz z31 r62 hr62) ⟨rfl, rfl⟩ kv_Tree_73 ⟨by show 1 ≤ 4 + (d + 1); omega, by show 21 ≤ 131 + 30 * (d + 1); omega⟩ 0 rfl rfl rfl hl.1 (Nat.le_of_ble_eq_true rfl) d_Tree_built_195 ⟨by show _ ≤ rc; omega, by show _ ≤ 1024 * rc; omega⟩) hP hD hS hA [0, 1, 2, 3, 4, 5, 6, 7, 8] [9, 10, 11, 12] [4, 5, 6, 7, 8, 9, 10, 11, 12, 0, 1, 2, 3] rfl rfl rfl rfl (by decide) rfl (fun _ => rfl) (fun _ ra H hw hP hD hS => ?_)
                subst hw
                refine lv_aload_n hx hb d_Tree_built_198 rfl (lv_at hl 3 rfl) ?_
                refine va_get (D := G.1) (ci := 4) (v := .ref u61.1) (C := "BranchStore$Tree") (T := F_Tree) (N := 15) hx hb hts i_Tree hown hK hP 0 rfl rfl 0 (by decide) (hts _ k_123) (fun _ h9 => h9) rfl d_Tree_built_199 ?_
                refine lv_iload hx hb d_Tree_built_202 (lv_at hl 7 rfl) ?_
                refine lv_iload hx hb d_Tree_built_204 (lv_at hl 1 rfl) ?_
                refine lv_iload hx hb d_Tree_built_206 (lv_at hl 0 rfl) ?_
                obtain ⟨r63, hr63, h⟩ := ob h
                refine zv_add (k := r62) ⟨hx, hb, hml, hown, hts⟩ hN hK hP hD hS hA (zE_mk rfl rfl rfl rfl) rfl hr63 (by show 3 ≤ 4 + (d + 1); omega) (by show 73 ≤ 131 + 30 * (d + 1); omega) hl.1 (Nat.le_of_ble_eq_true rfl) d_Tree_built_208 ⟨by show _ ≤ rc; omega, by show _ ≤ 1024 * rc; omega⟩ (fun H locs hP hD hS => ?_)
                have hP : va_P G.1 classes (wT G a_t u61.1 u61.2 a_fr a_br a_e0 a_e1 a_e2 a_e3 a_lo a_ho r63 r59.2.2.1 c_mv c_ml r59.2.2.2.1 c_rt r59.2.2.2.2.1 r59.2.2.2.2.2.1 c_fi c_st c_vz ++ wK G a_lo a_lq r59.2.2.2.2.2.2.1 r59.2.2.2.2.2.2.2.1 r59.2.2.2.2.2.2.2.2.1 ++ wK G a_ho a_hq r59.2.2.2.2.2.2.2.2.2.1 r59.2.2.2.2.2.2.2.2.2.2.1 r59.2.2.2.2.2.2.2.2.2.2.2) H := hP
                have hD : va_D A (wT G a_t u61.1 u61.2 a_fr a_br a_e0 a_e1 a_e2 a_e3 a_lo a_ho r63 r59.2.2.1 c_mv c_ml r59.2.2.2.1 c_rt r59.2.2.2.2.1 r59.2.2.2.2.2.1 c_fi c_st c_vz ++ wK G a_lo a_lq r59.2.2.2.2.2.2.1 r59.2.2.2.2.2.2.2.1 r59.2.2.2.2.2.2.2.2.1 ++ wK G a_ho a_hq r59.2.2.2.2.2.2.2.2.2.1 r59.2.2.2.2.2.2.2.2.2.2.1 r59.2.2.2.2.2.2.2.2.2.2.2) := hD
                refine lv_iload hx hb d_Tree_built_211 (lv_at hl 2 rfl) ?_
                refine lv_istore (lv' := [(7, .int r56.1), (10, .int r59.1), (9, .int r58), (8, .int r56.1), (0, .ref a_t), (2, .int p_2), (3, .int z10), (5, .int z31), (6, .int r33.1)]) hx hb d_Tree_built_213 hl (by decide) rfl (fun ls hl => ?_)
                refine lv_goto (tgt := 146) hx hb d_Tree_built_215 (by decide) ?_
                have ey := Option.some.inj h
                rw [← ey] at hRa hRc
                have hRc : k52 + d9 = k52 + dr59 + 0 := hRc
                obtain ⟨e8, he8, hP8⟩ := hc _ hRa
                exact hP8 (k52 + dr59) (by omega) u61.1 u61.2 H locs ls hP hD hS (lv_sub hl [4, 5, 6, 7, 8, 0] rfl)
            exact L146 _ hy53 (0 + dr33) hRo u35.1 u35.2 _ _ ls hP hD hS (lv_sub hl [2, 4, 5, 6, 1, 0] rfl)
          have L102 : ∀ v : Int32, lp (fun v => s_Tree_built_102 z21 v) v = some y27 → ∀ (H : Heap) (locs : List Loc) (ls : Array Slot), va_P G.1 classes (wT G a_t a_c a_mv a_fr a_br a_e0 a_e1 a_e2 a_e3 a_lo a_ho c_c c_cl c_mv c_ml c_en c_rt c_fr c_br c_fi c_st c_vz ++ wK G a_lo a_lq z22 z23 z24 ++ wK G a_ho a_hq r3.1 r3.2.1 r3.2.2) H → va_D A (wT G a_t a_c a_mv a_fr a_br a_e0 a_e1 a_e2 a_e3 a_lo a_ho c_c c_cl c_mv c_ml c_en c_rt c_fr c_br c_fi c_st c_vz ++ wK G a_lo a_lq z22 z23 z24 ++ wK G a_ho a_hq r3.1 r3.2.1 r3.2.2) → va_S A xs.heap H locs → lv_has ls 11 [(0, .ref a_t), (1, .int p_1), (2, .int p_2), (3, .int z10), (4, .int z21), (5, .int v)] → W xp l xe { frames := 4 + (d + 1), cells := rc, slots := 1024 * rc, locals := 131 + 30 * (d + 1) } xs xm ([.ref a_t, .int p_1, .int p_2] : List Value).toArray xb xme xc H locs (0) (1024 * (0)) Q (F0 xm 102 ls []) := by
            refine lp_walk _ (fun v x h hc he => ?_)
            obtain ⟨x5_26, rfl⟩ : ∃ z, z = v := ⟨_, rfl⟩
            intro H locs ls hP hD hS hl
            have h : s_Tree_built_102 z21 x5_26 = some x := h
            unfold s_Tree_built_102 at h
            refine lv_iload hx hb d_Tree_built_102 (lv_at hl 4 rfl) ?_
            refine lv_aload_n hx hb d_Tree_built_104 rfl (lv_at hl 0 rfl) ?_
            refine lv_iload hx hb d_Tree_built_105 (lv_at hl 5 rfl) ?_
            obtain ⟨r28, hr28, h⟩ := ob h
            refine zpcallr (wr := [(a_lo, .inr (0, [.ref a_lq, .int z23, .int z24])), (a_lq, .inl (G.2.2.1, 50, .inl z22)), (a_ho, .inr (0, [.ref a_hq, .int r3.2.1, .int r3.2.2])), (a_hq, .inl (G.2.2.1, 50, .inl r3.1))]) (w2 := fun _ => (wT G a_t a_c a_mv a_fr a_br a_e0 a_e1 a_e2 a_e3 a_lo a_ho c_c c_cl c_mv c_ml c_en c_rt c_fr c_br c_fi c_st c_vz ++ wK G a_lo a_lq z22 z23 z24 ++ wK G a_ho a_hq r3.1 r3.2.1 r3.2.2)) (zrunV (As := [.int x5_26]) (rest := [.int z21]) ⟨hx, hb, hml, hown, hts⟩ hN hK (c_Tree_shape l G H.size a_t a_c a_mv a_fr a_br a_e0 a_e1 a_e2 a_e3 a_lo a_ho c_c c_cl c_mv c_ml c_en c_rt c_fr c_br c_fi c_st c_vz x5_26 r28 hr28) ⟨rfl, rfl⟩ kv_Tree_73 ⟨by show 1 ≤ 4 + (d + 1); omega, by show 21 ≤ 131 + 30 * (d + 1); omega⟩ 0 rfl rfl rfl hl.1 (Nat.le_of_ble_eq_true rfl) d_Tree_built_107 ⟨by show _ ≤ rc; omega, by show _ ≤ 1024 * rc; omega⟩) hP hD hS hA [0, 1, 2, 3, 4, 5, 6, 7, 8] [9, 10, 11, 12] [4, 5, 6, 7, 8, 9, 10, 11, 12, 0, 1, 2, 3] rfl rfl rfl rfl (by decide) rfl (fun _ => rfl) (fun _ ra H hw hP hD hS => ?_)
            subst hw
            refine zget_most (k := r28) hx hb hts hown hK hP (zE_mk rfl rfl rfl rfl) d_Tree_built_110 ?_
            refine lv_icmp_le (tgt := 122) hx hb d_Tree_built_113 (by decide) (fun q29 => ?_) (fun q29 => ?_)
            · have h := it h q29
              exact E102 x5_26 (he _ (Option.some.inj h).symm) H locs ls hP hD hS (lv_sub hl [0, 1, 2, 3, 5] rfl)
            · have h := ie h q29
              obtain ⟨v30, ev30⟩ : ∃ y : Int32, y = x5_26 + 1 := ⟨_, rfl⟩
              have h := nm_k h v30 ev30
              refine lv_iinc (v := v30) (lv' := [(5, .int v30), (0, .ref a_t), (1, .int p_1), (2, .int p_2), (3, .int z10), (4, .int z21)]) hx hb d_Tree_built_116 hl (k := 5) rfl (by rw [ev30]; rfl) (by decide) rfl (fun ls hl => ?_)
              refine lv_goto (tgt := 102) hx hb d_Tree_built_119 (by decide) ?_
              exact hc _ (Option.some.inj h).symm H locs ls hP hD hS (lv_sub hl [1, 2, 3, 4, 5, 0] rfl)
          exact L102 _ hy27 _ _ ls hP hD hS (lv_sub hl [1, 2, 3, 4, 5, 0] rfl)
        have L77 : ∀ v : (Int32 × Int32 × (Nat → Int32) × Int32 × Int32), lp (fun v => s_Tree_built_77 c_fi c_st p_2 z10 v.1 v.2.1 v.2.2.1 v.2.2.2.1 v.2.2.2.2) v = some y17 → ∀ (H : Heap) (locs : List Loc) (ls : Array Slot), va_P G.1 classes (wT G a_t a_c a_mv a_fr a_br a_e0 a_e1 a_e2 a_e3 a_lo a_ho c_c c_cl c_mv c_ml c_en c_rt c_fr c_br c_fi c_st c_vz ++ wK G a_lo a_lq v.2.2.1 v.2.2.2.1 v.2.2.2.2 ++ wK G a_ho a_hq r3.1 r3.2.1 r3.2.2) H → va_D A (wT G a_t a_c a_mv a_fr a_br a_e0 a_e1 a_e2 a_e3 a_lo a_ho c_c c_cl c_mv c_ml c_en c_rt c_fr c_br c_fi c_st c_vz ++ wK G a_lo a_lq v.2.2.1 v.2.2.2.1 v.2.2.2.2 ++ wK G a_ho a_hq r3.1 r3.2.1 r3.2.2) → va_S A xs.heap H locs → lv_has ls 11 [(0, .ref a_t), (1, .int p_1), (2, .int p_2), (3, .int z10), (4, .int v.1), (5, .int v.2.1)] → W xp l xe { frames := 4 + (d + 1), cells := rc, slots := 1024 * rc, locals := 131 + 30 * (d + 1) } xs xm ([.ref a_t, .int p_1, .int p_2] : List Value).toArray xb xme xc H locs (0) (1024 * (0)) Q (F0 xm 77 ls []) := by
          refine lp_walk _ (fun v x h hc he => ?_)
          obtain ⟨x4_12, x5_13, c14, c15, c16⟩ := v
          intro H locs ls hP hD hS hl
          have h : s_Tree_built_77 c_fi c_st p_2 z10 x4_12 x5_13 c14 c15 c16 = some x := h
          unfold s_Tree_built_77 at h
          refine lv_iload hx hb d_Tree_built_77 (lv_at hl 5 rfl) ?_
          refine lv_iload_n hx hb d_Tree_built_79 rfl (lv_at hl 2 rfl) ?_
          refine lv_icmp_ge (tgt := 99) hx hb d_Tree_built_80 (by decide) (fun q18 => ?_) (fun q18 => ?_)
          · have h := it h q18
            exact E77 x4_12 c14 c15 c16 (he _ (Option.some.inj h).symm) H locs ls hP hD hS (lv_sub hl [0, 1, 2, 3, 4] rfl)
          · have h := ie h q18
            obtain ⟨v19, ev19⟩ : ∃ y : Int32, y = x4_12 + 1 := ⟨_, rfl⟩
            have h := nm_k h v19 ev19
            refine lv_iinc (v := v19) (lv' := [(4, .int v19), (0, .ref a_t), (1, .int p_1), (2, .int p_2), (3, .int z10), (5, .int x5_13)]) hx hb d_Tree_built_83 hl (k := 4) rfl (by rw [ev19]; rfl) (by decide) rfl (fun ls hl => ?_)
            refine lv_aload_n hx hb d_Tree_built_86 rfl (lv_at hl 1 rfl) ?_
            refine lv_iload hx hb d_Tree_built_87 (lv_at hl 5 rfl) ?_
            refine lv_iload_n hx hb d_Tree_built_89 rfl (lv_at hl 3 rfl) ?_
            refine lv_iload_n hx hb d_Tree_built_90 rfl (lv_at hl 4 rfl) ?_
            obtain ⟨r20, hr20, h⟩ := ob h
            refine zcalli (wr := [(a_ho, .inr (0, [.ref a_hq, .int r3.2.1, .int r3.2.2])), (a_hq, .inl (G.2.2.1, 50, .inl r3.1))]) (w2 := fun _ => (wT G a_t a_c a_mv a_fr a_br a_e0 a_e1 a_e2 a_e3 a_lo a_ho c_c c_cl c_mv c_ml c_en c_rt c_fr c_br c_fi c_st c_vz ++ wK G a_lo a_lq r20.2.1 r20.2.2.1 r20.2.2.2 ++ wK G a_ho a_hq r3.1 r3.2.1 r3.2.2)) (zrunV (As := [.int x5_13, .int p_2, .int z10]) (rest := []) ⟨hx, hb, hml, hown, hts⟩ hN hK (c_Tree_behind l G H.size a_t a_c a_mv a_fr a_br a_e0 a_e1 a_e2 a_e3 a_lo a_ho a_lq c_c c_cl c_mv c_ml c_en c_rt c_fr c_br c_fi c_st c_vz c14 c15 c16 x5_13 p_2 z10 r20 hr20) ⟨rfl, rfl⟩ kv_Tree_202 ⟨by show 4 ≤ 4 + (d + 1); omega, by show 95 ≤ 131 + 30 * (d + 1); omega⟩ 0 rfl rfl rfl hl.1 (Nat.le_of_ble_eq_true rfl) d_Tree_built_91 ⟨by show _ ≤ rc; omega, by show _ ≤ 1024 * rc; omega⟩) hP hD hS hA [0, 1, 2, 3, 4, 5, 6, 7, 8, 9, 10] [11, 12] [2, 3, 4, 5, 6, 7, 8, 9, 10, 11, 12, 0, 1] rfl rfl rfl rfl (by decide) rfl (fun _ => rfl) (fun rr _ H locs hw hP hD hS => ?_)
            have hw := hw.symm
            subst hw
            refine lv_istore (lv' := [(5, .int r20.1), (4, .int v19), (0, .ref a_t), (1, .int p_1), (2, .int p_2), (3, .int z10)]) hx hb d_Tree_built_94 hl (by decide) rfl (fun ls hl => ?_)
            refine lv_goto (tgt := 77) hx hb d_Tree_built_96 (by decide) ?_
            exact hc _ (Option.some.inj h).symm H locs ls hP hD hS (lv_sub hl [2, 3, 4, 5, 1, 0] rfl)
        exact L77 _ hy17 _ _ ls hP hD hS (lv_sub hl [2, 3, 4, 5, 1, 0] rfl)
      have L46 : ∀ v : Int32, lp (fun v => s_Tree_built_46 r1.1 r3.1 v) v = some y5 → ∀ (H : Heap) (locs : List Loc) (ls : Array Slot), va_P G.1 classes (wT G a_t a_c a_mv a_fr a_br a_e0 a_e1 a_e2 a_e3 a_lo a_ho c_c c_cl c_mv c_ml c_en c_rt c_fr c_br c_fi c_st c_vz ++ wK G a_lo a_lq r1.1 r1.2.1 r1.2.2 ++ wK G a_ho a_hq r3.1 r3.2.1 r3.2.2) H → va_D A (wT G a_t a_c a_mv a_fr a_br a_e0 a_e1 a_e2 a_e3 a_lo a_ho c_c c_cl c_mv c_ml c_en c_rt c_fr c_br c_fi c_st c_vz ++ wK G a_lo a_lq r1.1 r1.2.1 r1.2.2 ++ wK G a_ho a_hq r3.1 r3.2.1 r3.2.2) → va_S A xs.heap H locs → lv_has ls 11 [(0, .ref a_t), (1, .int p_1), (2, .int p_2), (3, .int v)] → W xp l xe { frames := 4 + (d + 1), cells := rc, slots := 1024 * rc, locals := 131 + 30 * (d + 1) } xs xm ([.ref a_t, .int p_1, .int p_2] : List Value).toArray xb xme xc H locs (0) (1024 * (0)) Q (F0 xm 46 ls []) := by
        refine lp_walk _ (fun v x h hc he => ?_)
        obtain ⟨x3_4, rfl⟩ : ∃ z, z = v := ⟨_, rfl⟩
        intro H locs ls hP hD hS hl
        have h : s_Tree_built_46 r1.1 r3.1 x3_4 = some x := h
        unfold s_Tree_built_46 at h
        refine lv_aload_n hx hb d_Tree_built_46 rfl (lv_at hl 0 rfl) ?_
        refine va_get (D := G.1) (ci := 4) (v := .ref a_lo) (C := "BranchStore$Tree") (T := F_Tree) (N := 15) hx hb hts i_Tree hown hK hP 0 rfl rfl 10 (by decide) (hts _ k_134) (fun _ h9 => h9) rfl d_Tree_built_47 ?_
        refine lv_iload_n hx hb d_Tree_built_50 rfl (lv_at hl 3 rfl) ?_
        obtain ⟨r6, hr6, h⟩ := ob h
        refine zpcalli (wr := [(a_t, .inr (4, [.ref a_c, .ref a_mv, .int c_en, .int c_rt, .ref a_fr, .ref a_e0, .ref a_e1, .ref a_e2, .ref a_e3, .ref a_br, .ref a_lo, .ref a_ho, .long c_fi, .long c_st, .long c_vz])), (a_c, .inl (G.2.1, c_cl, .inl c_c)), (a_mv, .inl (G.2.1, c_ml, .inl c_mv)), (a_fr, .inl (G.2.1, 261, .inl c_fr)), (a_br, .inl (G.2.1, 4, .inl c_br)), (a_e0, .inr (1, [.int 0, .int 9, .int 4, .int 5])), (a_e1, .inr (1, [.int 1, .int 24, .int 16, .int 8])), (a_e2, .inr (2, [.int 2, .int 116, .int 48])), (a_e3, .inr (3, [.int 3, .int 260, .int 256])), (a_ho, .inr (0, [.ref a_hq, .int r3.2.1, .int r3.2.2])), (a_hq, .inl (G.2.2.1, 50, .inl r3.1))]) (w2 := fun _ => (wT G a_t a_c a_mv a_fr a_br a_e0 a_e1 a_e2 a_e3 a_lo a_ho c_c c_cl c_mv c_ml c_en c_rt c_fr c_br c_fi c_st c_vz ++ wK G a_lo a_lq r1.1 r1.2.1 r1.2.2 ++ wK G a_ho a_hq r3.1 r3.2.1 r3.2.2)) (zrunV (As := [.int x3_4]) (rest := []) ⟨hx, hb, hml, hown, hts⟩ hN hK (c_Key_at l G H.size a_lo a_lq r1.1 r1.2.1 r1.2.2 x3_4 r6 hr6) ⟨rfl, rfl⟩ kv_Tree_92 ⟨by show 1 ≤ 4 + (d + 1); omega, by show 21 ≤ 131 + 30 * (d + 1); omega⟩ 0 rfl rfl rfl hl.1 (Nat.le_of_ble_eq_true rfl) d_Tree_built_51 ⟨by show _ ≤ rc; omega, by show _ ≤ 1024 * rc; omega⟩) hP hD hS hA [9, 10] [0, 1, 2, 3, 4, 5, 6, 7, 8, 11, 12] [0, 1, 2, 3, 4, 5, 6, 7, 8, 11, 12, 9, 10] rfl rfl rfl rfl (by decide) rfl (fun _ => rfl) (fun rr _ H hw hP hD hS => ?_)
        have hw := hw.symm
        subst hw
        refine lv_aload_n hx hb d_Tree_built_54 rfl (lv_at hl 0 rfl) ?_
        refine va_get (D := G.1) (ci := 4) (v := .ref a_ho) (C := "BranchStore$Tree") (T := F_Tree) (N := 15) hx hb hts i_Tree hown hK hP 0 rfl rfl 11 (by decide) (hts _ k_135) (fun _ h9 => h9) rfl d_Tree_built_55 ?_
        refine lv_iload_n hx hb d_Tree_built_58 rfl (lv_at hl 3 rfl) ?_
        obtain ⟨r7, hr7, h⟩ := ob h
        refine zpcalli (wr := [(a_t, .inr (4, [.ref a_c, .ref a_mv, .int c_en, .int c_rt, .ref a_fr, .ref a_e0, .ref a_e1, .ref a_e2, .ref a_e3, .ref a_br, .ref a_lo, .ref a_ho, .long c_fi, .long c_st, .long c_vz])), (a_c, .inl (G.2.1, c_cl, .inl c_c)), (a_mv, .inl (G.2.1, c_ml, .inl c_mv)), (a_fr, .inl (G.2.1, 261, .inl c_fr)), (a_br, .inl (G.2.1, 4, .inl c_br)), (a_e0, .inr (1, [.int 0, .int 9, .int 4, .int 5])), (a_e1, .inr (1, [.int 1, .int 24, .int 16, .int 8])), (a_e2, .inr (2, [.int 2, .int 116, .int 48])), (a_e3, .inr (3, [.int 3, .int 260, .int 256])), (a_lo, .inr (0, [.ref a_lq, .int r1.2.1, .int r1.2.2])), (a_lq, .inl (G.2.2.1, 50, .inl r1.1))]) (w2 := fun _ => (wT G a_t a_c a_mv a_fr a_br a_e0 a_e1 a_e2 a_e3 a_lo a_ho c_c c_cl c_mv c_ml c_en c_rt c_fr c_br c_fi c_st c_vz ++ wK G a_lo a_lq r1.1 r1.2.1 r1.2.2 ++ wK G a_ho a_hq r3.1 r3.2.1 r3.2.2)) (zrunV (As := [.int x3_4]) (rest := [.int r6]) ⟨hx, hb, hml, hown, hts⟩ hN hK (c_Key_at l G H.size a_ho a_hq r3.1 r3.2.1 r3.2.2 x3_4 r7 hr7) ⟨rfl, rfl⟩ kv_Tree_92 ⟨by show 1 ≤ 4 + (d + 1); omega, by show 21 ≤ 131 + 30 * (d + 1); omega⟩ 0 rfl rfl rfl hl.1 (Nat.le_of_ble_eq_true rfl) d_Tree_built_59 ⟨by show _ ≤ rc; omega, by show _ ≤ 1024 * rc; omega⟩) hP hD hS hA [11, 12] [0, 1, 2, 3, 4, 5, 6, 7, 8, 9, 10] [0, 1, 2, 3, 4, 5, 6, 7, 8, 9, 10, 11, 12] rfl rfl rfl rfl (by decide) rfl (fun _ => rfl) (fun rr _ H hw hP hD hS => ?_)
        have hw := hw.symm
        subst hw
        refine lv_icmp_ne (tgt := 71) hx hb d_Tree_built_62 (by decide) (fun q8 => ?_) (fun q8 => ?_)
        · have h := ie h q8
          exact E46 x3_4 (he _ (Option.some.inj h).symm) H locs ls hP hD hS (lv_sub hl [0, 1, 2, 3] rfl)
        · have h := it h q8
          obtain ⟨v9, ev9⟩ : ∃ y : Int32, y = x3_4 + 1 := ⟨_, rfl⟩
          have h := nm_k h v9 ev9
          refine lv_iinc (v := v9) (lv' := [(3, .int v9), (0, .ref a_t), (1, .int p_1), (2, .int p_2)]) hx hb d_Tree_built_65 hl (k := 3) rfl (by rw [ev9]; rfl) (by decide) rfl (fun ls hl => ?_)
          refine lv_goto (tgt := 46) hx hb d_Tree_built_68 (by decide) ?_
          exact hc _ (Option.some.inj h).symm H locs ls hP hD hS (lv_sub hl [1, 2, 3, 0] rfl)
      exact L46 _ hy5 _ _ ls hP hD hS (lv_sub hl [1, 2, 3, 0] rfl)
    · have h := it h q2
      refine lv_aload_n hx hb d_Tree_built_16 rfl (lv_at hl 0 rfl) ?_
      refine lv_aload_n hx hb d_Tree_built_17 rfl (lv_at hl 0 rfl) ?_
      refine va_get (D := G.1) (ci := 4) (v := .ref a_lo) (C := "BranchStore$Tree") (T := F_Tree) (N := 15) hx hb hts i_Tree hown hK hP 0 rfl rfl 10 (by decide) (hts _ k_134) (fun _ h9 => h9) rfl d_Tree_built_18 ?_
      refine lv_aload_n hx hb d_Tree_built_21 rfl (lv_at hl 0 rfl) ?_
      refine va_get (D := G.1) (ci := 4) (v := .long c_vz) (C := "BranchStore$Tree") (T := F_Tree) (N := 15) hx hb hts i_Tree hown hK hP 0 rfl rfl 14 (by decide) (hts _ k_138) (fun _ h9 => h9) rfl d_Tree_built_22 ?_
      refine lv_iload_n hx hb d_Tree_built_25 rfl (lv_at hl 1 rfl) ?_
      refine lv_i2l (v := p_1.toInt64) hx hb d_Tree_built_26 rfl ?_
      refine lv_ladd hx hb d_Tree_built_27 ?_
      refine lv_iconst (v := 0) hx hb d_Tree_built_28 (by decide) ?_
      obtain ⟨r78, dr78, y79, hr78, h, hRa, hRc⟩ := bd_k h hRa hRc
      refine zcalli (wr := [(a_ho, .inr (0, [.ref a_hq, .int c_hn, .int c_ht])), (a_hq, .inl (G.2.2.1, 50, .inl c_hb))]) (w2 := fun (u80 : Nat × Nat) => (wT G a_t u80.1 u80.2 a_fr a_br a_e0 a_e1 a_e2 a_e3 a_lo a_ho r78.2.1 r78.2.2.1 c_mv c_ml r78.2.2.2.1 c_rt r78.2.2.2.2 c_br c_fi c_st c_vz ++ wK G a_lo a_lq r1.1 r1.2.1 r1.2.2 ++ wK G a_ho a_hq c_hb c_hn c_ht)) (zrunV (As := [.ref a_lo, .long (c_vz + p_1.toInt64), .int 0]) (rest := []) ⟨hx, hb, hml, hown, hts⟩ hN hK (c_Tree_leaf l G H.size a_t a_c a_mv a_fr a_br a_e0 a_e1 a_e2 a_e3 a_lo a_ho a_lo a_lq c_c c_cl c_mv c_ml c_en c_rt c_fr c_br c_fi c_st c_vz r1.1 r1.2.1 r1.2.2 (c_vz + p_1.toInt64) 0 rfl r78 dr78 hr78) ⟨rfl, rfl⟩ kv_Tree_151 ⟨by show 4 ≤ 4 + (d + 1); omega, by show 131 ≤ 131 + 30 * (d + 1); omega⟩ 0 rfl rfl rfl hl.1 (Nat.le_of_ble_eq_true rfl) d_Tree_built_29 ⟨by show _ ≤ rc; omega, by show _ ≤ 1024 * rc; omega⟩) hP hD hS hA [0, 1, 2, 3, 4, 5, 6, 7, 8, 9, 10] [11, 12] [2, 3, 4, 5, 6, 7, 8, 9, 10, 11, 12, 0, 1] rfl rfl rfl rfl (by decide) rfl (fun _ => rfl) (fun rr u80 H locs hw hP hD hS => ?_)
      refine W.widen (k := 0 + dr78) (n := 1024 * (0 + dr78)) (by omega) (by omega) ?_
      have hw := hw.symm
      subst hw
      have ey := Option.some.inj h
      rw [← ey] at hRa hRc
      have hRa : r0 = (r78.1, r78.2.1, r78.2.2.1, r78.2.2.2.1, r78.2.2.2.2, c_br, r1.1, r1.2.1, r1.2.2, c_hb, c_hn, c_ht) := hRa
      have hRc : rc = 0 + dr78 + 0 := hRc
      subst hRa
      exact zreti (u80.1, u80.2) hQ hS.2.2 hx hb hr hlocks hP hD hS rfl (by omega) (by omega) d_Tree_built_32

noncomputable def f_Tree_build (c_c : (Nat → Int32)) (c_cl : Nat) (c_en : Int32) (c_rt : Int32) (c_fr : (Nat → Int32)) (c_br : (Nat → Int32)) (c_fi : Int64) (c_st : Int64) (c_vz : Int64) (c_lb : (Nat → Int32)) (c_ln : Int32) (c_lt : Int32) (c_hb : (Nat → Int32)) (c_hn : Int32) (c_ht : Int32) (p_1 : Int64) (p_3 : Int64) (p_5 : Int32) (p_6 : Int64) : Option (((Nat → Int32) × Nat × Int32 × Int32 × (Nat → Int32) × (Nat → Int32) × Int64 × Int64 × Int64 × (Nat → Int32) × Int32 × Int32 × (Nat → Int32) × Int32 × Int32) × Nat) :=
bd (f_Tree_built 60 c_c c_cl c_en c_fr c_br p_1 p_3 p_6 c_lb c_ln c_lt c_hb c_hn c_ht 0 p_5) fun r1 =>
some ((r1.2.1, r1.2.2.1, r1.2.2.2.1, r1.1, r1.2.2.2.2.1, r1.2.2.2.2.2.1, p_1, p_3, p_6, r1.2.2.2.2.2.2.1, r1.2.2.2.2.2.2.2.1, r1.2.2.2.2.2.2.2.2.1, r1.2.2.2.2.2.2.2.2.2.1, r1.2.2.2.2.2.2.2.2.2.2.1, r1.2.2.2.2.2.2.2.2.2.2.2), 0)
set_option maxHeartbeats 8000000 in
set_option maxRecDepth 100000 in
theorem c_Tree_build (l : Launch) (G : zG) (sz : Nat) (a_t a_c a_mv a_fr a_br a_e0 a_e1 a_e2 a_e3 a_lo a_ho a_lq a_hq : Nat) (c_c : (Nat → Int32)) (c_cl : Nat) (c_mv : (Nat → Int32)) (c_ml : Nat) (c_en : Int32) (c_rt : Int32) (c_fr : (Nat → Int32)) (c_br : (Nat → Int32)) (c_fi : Int64) (c_st : Int64) (c_vz : Int64) (c_lb : (Nat → Int32)) (c_ln : Int32) (c_lt : Int32) (c_hb : (Nat → Int32)) (c_hn : Int32) (c_ht : Int32) (p_1 : Int64) (p_3 : Int64) (p_5 : Int32) (p_6 : Int64) (r0 : ((Nat → Int32) × Nat × Int32 × Int32 × (Nat → Int32) × (Nat → Int32) × Int64 × Int64 × Int64 × (Nat → Int32) × Int32 × Int32 × (Nat → Int32) × Int32 × Int32)) (rc : Nat) (hf : f_Tree_build c_c c_cl c_en c_rt c_fr c_br c_fi c_st c_vz c_lb c_ln c_lt c_hb c_hn c_ht p_1 p_3 p_5 p_6 = some (r0, rc)) :
    Met l y_Tree_build (Cond.code y_Tree_build prog_7_method_30_code 8 none :: lw_ok) { frames := 65, cells := rc, slots := 1024 * rc, locals := 1961 } (zPc G sz [.ref a_t, .long p_1, .long p_3, .int p_5, .long p_6] (wT G a_t a_c a_mv a_fr a_br a_e0 a_e1 a_e2 a_e3 a_lo a_ho c_c c_cl c_mv c_ml c_en c_rt c_fr c_br c_fi c_st c_vz ++ wK G a_lo a_lq c_lb c_ln c_lt ++ wK G a_ho a_hq c_hb c_hn c_ht))
      ((fun (A : Nat → Prop) => va_Qv (fun (u : Nat × Nat) => True) (fun u t => zB G A (wT G a_t u.1 u.2 a_fr a_br a_e0 a_e1 a_e2 a_e3 a_lo a_ho r0.1 r0.2.1 c_mv c_ml r0.2.2.1 r0.2.2.2.1 r0.2.2.2.2.1 r0.2.2.2.2.2.1 r0.2.2.2.2.2.2.1 r0.2.2.2.2.2.2.2.1 r0.2.2.2.2.2.2.2.2.1 ++ wK G a_lo a_lq r0.2.2.2.2.2.2.2.2.2.1 r0.2.2.2.2.2.2.2.2.2.2.1 r0.2.2.2.2.2.2.2.2.2.2.2.1 ++ wK G a_ho a_hq r0.2.2.2.2.2.2.2.2.2.2.2.2.1 r0.2.2.2.2.2.2.2.2.2.2.2.2.2.1 r0.2.2.2.2.2.2.2.2.2.2.2.2.2.2) t) A) (va_A (wT G a_t a_c a_mv a_fr a_br a_e0 a_e1 a_e2 a_e3 a_lo a_ho c_c c_cl c_mv c_ml c_en c_rt c_fr c_br c_fi c_st c_vz ++ wK G a_lo a_lq c_lb c_ln c_lt ++ wK G a_ho a_hq c_hb c_hn c_ht) sz)) rc (1024 * rc) (va_A (wT G a_t a_c a_mv a_fr a_br a_e0 a_e1 a_e2 a_e3 a_lo a_ho c_c c_cl c_mv c_ml c_en c_rt c_fr c_br c_fi c_st c_vz ++ wK G a_lo a_lq c_lb c_ln c_lt ++ wK G a_ho a_hq c_hb c_hn c_ht) sz) := by
  refine zMet (Qc := fun (A : Nat → Prop) => va_Qv (fun (u : Nat × Nat) => True) (fun u t => zB G A (wT G a_t u.1 u.2 a_fr a_br a_e0 a_e1 a_e2 a_e3 a_lo a_ho r0.1 r0.2.1 c_mv c_ml r0.2.2.1 r0.2.2.2.1 r0.2.2.2.2.1 r0.2.2.2.2.2.1 r0.2.2.2.2.2.2.1 r0.2.2.2.2.2.2.2.1 r0.2.2.2.2.2.2.2.2.1 ++ wK G a_lo a_lq r0.2.2.2.2.2.2.2.2.2.1 r0.2.2.2.2.2.2.2.2.2.2.1 r0.2.2.2.2.2.2.2.2.2.2.2.1 ++ wK G a_ho a_hq r0.2.2.2.2.2.2.2.2.2.2.2.2.1 r0.2.2.2.2.2.2.2.2.2.2.2.2.2.1 r0.2.2.2.2.2.2.2.2.2.2.2.2.2.2) t) A) (by decide) (Nat.le_of_ble_eq_true rfl) (fun xp xe xs xm xb xme xc A ls Q H locs C hN hK hP hD hS hA hl hQ => ?_)
  obtain ⟨hx, hb, hr, hts, hown, hlocks, hml, hin⟩ := C
  have hl : lv_has ls 8 [(0, .ref a_t), (1, .long p_1), (3, .long p_3), (5, .int p_5), (6, .long p_6)] := hl
  have h := hf
  unfold f_Tree_build at h
  have hRa : r0 = (r0, rc).1 := rfl
  have hRc : rc = 0 + (r0, rc).2 := (Nat.zero_add _).symm
  refine W.widen (k := 0) (n := 1024 * 0) (Nat.le_refl _) (Nat.le_refl _) ?_
  refine lv_aload_n hx hb d_Tree_build_0 rfl (lv_at hl 0 rfl) ?_
  refine lv_lload_n hx hb d_Tree_build_1 rfl (lv_at hl 1 rfl) ?_
  refine va_put (D := G.1) (ci := 4) (v := .long p_1) (ty := .long) (C := "BranchStore$Tree") (T := F_Tree) (N := 15) hx hb hts i_Tree t_Tree t_Tree_ok n_Tree hown hK hP hD hS 0 rfl rfl 12 (by decide) (hts _ k_136) (fun _ h9 => h9) rfl (by decide +kernel) rfl rfl (Nat.le_of_ble_eq_true rfl) d_Tree_build_2 (fun H locs hP hD hS => ?_)
  have hP : va_P G.1 classes (wT G a_t a_c a_mv a_fr a_br a_e0 a_e1 a_e2 a_e3 a_lo a_ho c_c c_cl c_mv c_ml c_en c_rt c_fr c_br p_1 c_st c_vz ++ wK G a_lo a_lq c_lb c_ln c_lt ++ wK G a_ho a_hq c_hb c_hn c_ht) H := hP
  have hD : va_D A (wT G a_t a_c a_mv a_fr a_br a_e0 a_e1 a_e2 a_e3 a_lo a_ho c_c c_cl c_mv c_ml c_en c_rt c_fr c_br p_1 c_st c_vz ++ wK G a_lo a_lq c_lb c_ln c_lt ++ wK G a_ho a_hq c_hb c_hn c_ht) := hD
  refine lv_aload_n hx hb d_Tree_build_5 rfl (lv_at hl 0 rfl) ?_
  refine lv_lload_n hx hb d_Tree_build_6 rfl (lv_at hl 2 rfl) ?_
  refine va_put (D := G.1) (ci := 4) (v := .long p_3) (ty := .long) (C := "BranchStore$Tree") (T := F_Tree) (N := 15) hx hb hts i_Tree t_Tree t_Tree_ok n_Tree hown hK hP hD hS 0 rfl rfl 13 (by decide) (hts _ k_137) (fun _ h9 => h9) rfl (by decide +kernel) rfl rfl (Nat.le_of_ble_eq_true rfl) d_Tree_build_7 (fun H locs hP hD hS => ?_)
  have hP : va_P G.1 classes (wT G a_t a_c a_mv a_fr a_br a_e0 a_e1 a_e2 a_e3 a_lo a_ho c_c c_cl c_mv c_ml c_en c_rt c_fr c_br p_1 p_3 c_vz ++ wK G a_lo a_lq c_lb c_ln c_lt ++ wK G a_ho a_hq c_hb c_hn c_ht) H := hP
  have hD : va_D A (wT G a_t a_c a_mv a_fr a_br a_e0 a_e1 a_e2 a_e3 a_lo a_ho c_c c_cl c_mv c_ml c_en c_rt c_fr c_br p_1 p_3 c_vz ++ wK G a_lo a_lq c_lb c_ln c_lt ++ wK G a_ho a_hq c_hb c_hn c_ht) := hD
  refine lv_aload_n hx hb d_Tree_build_10 rfl (lv_at hl 0 rfl) ?_
  refine lv_lload hx hb d_Tree_build_11 (lv_at hl 4 rfl) ?_
  refine va_put (D := G.1) (ci := 4) (v := .long p_6) (ty := .long) (C := "BranchStore$Tree") (T := F_Tree) (N := 15) hx hb hts i_Tree t_Tree t_Tree_ok n_Tree hown hK hP hD hS 0 rfl rfl 14 (by decide) (hts _ k_138) (fun _ h9 => h9) rfl (by decide +kernel) rfl rfl (Nat.le_of_ble_eq_true rfl) d_Tree_build_13 (fun H locs hP hD hS => ?_)
  have hP : va_P G.1 classes (wT G a_t a_c a_mv a_fr a_br a_e0 a_e1 a_e2 a_e3 a_lo a_ho c_c c_cl c_mv c_ml c_en c_rt c_fr c_br p_1 p_3 p_6 ++ wK G a_lo a_lq c_lb c_ln c_lt ++ wK G a_ho a_hq c_hb c_hn c_ht) H := hP
  have hD : va_D A (wT G a_t a_c a_mv a_fr a_br a_e0 a_e1 a_e2 a_e3 a_lo a_ho c_c c_cl c_mv c_ml c_en c_rt c_fr c_br p_1 p_3 p_6 ++ wK G a_lo a_lq c_lb c_ln c_lt ++ wK G a_ho a_hq c_hb c_hn c_ht) := hD
  refine lv_aload_n hx hb d_Tree_build_16 rfl (lv_at hl 0 rfl) ?_
  refine lv_aload_n hx hb d_Tree_build_17 rfl (lv_at hl 0 rfl) ?_
  refine lv_iconst (v := 0) hx hb d_Tree_build_18 (by decide) ?_
  refine lv_iload hx hb d_Tree_build_19 (lv_at hl 3 rfl) ?_
  obtain ⟨r1, dr1, y2, hr1, h, hRa, hRc⟩ := bd_k h hRa hRc
  refine zcalli (wr := []) (w2 := fun (u3 : Nat × Nat) => (wT G a_t u3.1 u3.2 a_fr a_br a_e0 a_e1 a_e2 a_e3 a_lo a_ho r1.2.1 r1.2.2.1 c_mv c_ml r1.2.2.2.1 c_rt r1.2.2.2.2.1 r1.2.2.2.2.2.1 p_1 p_3 p_6 ++ wK G a_lo a_lq r1.2.2.2.2.2.2.1 r1.2.2.2.2.2.2.2.1 r1.2.2.2.2.2.2.2.2.1 ++ wK G a_ho a_hq r1.2.2.2.2.2.2.2.2.2.1 r1.2.2.2.2.2.2.2.2.2.2.1 r1.2.2.2.2.2.2.2.2.2.2.2)) (zrunV (As := [.int 0, .int p_5]) (rest := [.ref a_t]) ⟨hx, hb, hml, hown, hts⟩ hN hK (c_Tree_built l G 60 H.size a_t a_c a_mv a_fr a_br a_e0 a_e1 a_e2 a_e3 a_lo a_ho a_lq a_hq c_c c_cl c_mv c_ml c_en c_rt c_fr c_br p_1 p_3 p_6 c_lb c_ln c_lt c_hb c_hn c_ht 0 p_5 r1 dr1 hr1) ⟨rfl, rfl⟩ kv_Tree_196 ⟨Nat.le_of_ble_eq_true rfl, Nat.le_of_ble_eq_true rfl⟩ 0 rfl rfl rfl hl.1 (Nat.le_of_ble_eq_true rfl) d_Tree_build_21 ⟨by show _ ≤ rc; omega, by show _ ≤ 1024 * rc; omega⟩) hP hD hS hA [0, 1, 2, 3, 4, 5, 6, 7, 8, 9, 10, 11, 12] [] [0, 1, 2, 3, 4, 5, 6, 7, 8, 9, 10, 11, 12] rfl rfl rfl rfl (by decide) rfl (fun _ => rfl) (fun rr u3 H locs hw hP hD hS => ?_)
  refine W.widen (k := 0 + dr1) (n := 1024 * (0 + dr1)) (by omega) (by omega) ?_
  have hw := hw.symm
  subst hw
  refine va_put (D := G.1) (ci := 4) (v := .int r1.1) (ty := .int) (C := "BranchStore$Tree") (T := F_Tree) (N := 15) hx hb hts i_Tree t_Tree t_Tree_ok n_Tree hown hK hP hD hS 0 rfl rfl 3 (by decide) (hts _ k_126) (fun _ h9 => h9) rfl (by decide +kernel) rfl rfl (Nat.le_of_ble_eq_true rfl) d_Tree_build_24 (fun H locs hP hD hS => ?_)
  have hP : va_P G.1 classes (wT G a_t u3.1 u3.2 a_fr a_br a_e0 a_e1 a_e2 a_e3 a_lo a_ho r1.2.1 r1.2.2.1 c_mv c_ml r1.2.2.2.1 r1.1 r1.2.2.2.2.1 r1.2.2.2.2.2.1 p_1 p_3 p_6 ++ wK G a_lo a_lq r1.2.2.2.2.2.2.1 r1.2.2.2.2.2.2.2.1 r1.2.2.2.2.2.2.2.2.1 ++ wK G a_ho a_hq r1.2.2.2.2.2.2.2.2.2.1 r1.2.2.2.2.2.2.2.2.2.2.1 r1.2.2.2.2.2.2.2.2.2.2.2) H := hP
  have hD : va_D A (wT G a_t u3.1 u3.2 a_fr a_br a_e0 a_e1 a_e2 a_e3 a_lo a_ho r1.2.1 r1.2.2.1 c_mv c_ml r1.2.2.2.1 r1.1 r1.2.2.2.2.1 r1.2.2.2.2.2.1 p_1 p_3 p_6 ++ wK G a_lo a_lq r1.2.2.2.2.2.2.1 r1.2.2.2.2.2.2.2.1 r1.2.2.2.2.2.2.2.2.1 ++ wK G a_ho a_hq r1.2.2.2.2.2.2.2.2.2.1 r1.2.2.2.2.2.2.2.2.2.2.1 r1.2.2.2.2.2.2.2.2.2.2.2) := hD
  have ey := Option.some.inj h
  rw [← ey] at hRa hRc
  have hRa : r0 = (r1.2.1, r1.2.2.1, r1.2.2.2.1, r1.1, r1.2.2.2.2.1, r1.2.2.2.2.2.1, p_1, p_3, p_6, r1.2.2.2.2.2.2.1, r1.2.2.2.2.2.2.2.1, r1.2.2.2.2.2.2.2.2.1, r1.2.2.2.2.2.2.2.2.2.1, r1.2.2.2.2.2.2.2.2.2.2.1, r1.2.2.2.2.2.2.2.2.2.2.2) := hRa
  have hRc : rc = 0 + dr1 + 0 := hRc
  subst hRa
  exact zretv (u3.1, u3.2) hQ hS.2.2 hx hb hr hlocks hP hD hS trivial (by omega) (by omega) d_Tree_build_27
