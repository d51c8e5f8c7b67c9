noncomputable def s_Tree_room_32 (c_en : Int32) (x1 : Int32) (x3 : Int32) : Option (Int32 ⊕ Int32) :=
if (c_en + x1) ≤ x3 then
(some (.inr x3))
else
(nm (2 * x3) fun v8 =>
some (.inl v8))
noncomputable def s_Tree_room_87 (c_cl : Nat) (x1 : Int32) (x2 : Int32) (x3 : Int32) (c_c : (Nat → Int32)) : Option ((Int32 × (Nat → Int32)) ⊕ (Nat → Int32)) :=
if x1 ≤ x3 then
(some (.inr c_c))
else
(gi (x2 + x3) c_cl <|
nm (upd c_c (x2 + x3).toNatClampNeg 0) fun c18 =>
nm (x3 + 1) fun v19 =>
some (.inl (v19, c18)))
noncomputable def f_Tree_room (c_c : (Nat → Int32)) (c_cl : Nat) (c_en : Int32) (c_fr : (Nat → Int32)) (p_1 : Int32) : Option ((Int32 × (Nat → Int32) × Nat × Int32 × (Nat → Int32)) × Nat) :=
gi p_1 261 <|
nm (c_fr p_1.toNatClampNeg) fun v2 =>
if v2 ≤ 0 then
(nm (Int32.ofNat c_cl) fun v4 =>
(lp (fun v => s_Tree_room_32 c_en p_1 v) v4).bind fun y10 =>
if y10 ≤ (Int32.ofNat c_cl) then
(nm (c_en + p_1) fun v12 =>
(lp (fun v => s_Tree_room_87 c_cl p_1 c_en v.1 v.2) (0, c_c)).bind fun y21 =>
some ((c_en, y21, c_cl, v12, c_fr), 0))
else
(gcp y10 c_cl <|
ad (y10.toNatClampNeg / 1024 + 1) <|
nm (va_cpy c_c (fun _ => 0) 0 0 c_cl) fun c25 =>
nm (c_en + p_1) fun v26 =>
(lp (fun v => s_Tree_room_87 y10.toNatClampNeg p_1 c_en v.1 v.2) (0, c25)).bind fun y35 =>
some ((c_en, y35, y10.toNatClampNeg, v26, c_fr), 0)))
else
(gi v2 c_cl <|
gi p_1 261 <|
nm (upd c_fr p_1.toNatClampNeg (c_c v2.toNatClampNeg)) fun c38 =>
(lp (fun v => s_Tree_room_87 c_cl p_1 v2 v.1 v.2) (0, c_c)).bind fun y47 =>
some ((v2, y47, c_cl, c_en, c38), 0))
set_option maxHeartbeats 8000000 in
set_option maxRecDepth 100000 in
theorem c_Tree_room (l : Launch) (G : zG) (sz : Nat) (a_t a_c a_mv a_fr a_br a_e0 a_e1 a_e2 a_e3 a_lo a_ho : Nat) (c_c : (Nat → Int32)) (c_cl : Nat) (c_mv : (Nat → Int32)) (c_ml : Nat) (c_en : Int32) (c_rt : Int32) (c_fr : (Nat → Int32)) (c_br : (Nat → Int32)) (c_fi : Int64) (c_st : Int64) (c_vz : Int64) (p_1 : Int32) (r0 : (Int32 × (Nat → Int32) × Nat × Int32 × (Nat → Int32))) (rc : Nat) (hf : f_Tree_room c_c c_cl c_en c_fr p_1 = some (r0, rc)) :
    Met l y_Tree_room (Cond.code y_Tree_room prog_7_method_2_code 4 (some .int) :: lw_ok) { frames := 2, cells := rc, slots := 1024 * rc, locals := 82 } (zPc G sz [.ref a_t, .int p_1] (wT G a_t a_c a_mv a_fr a_br a_e0 a_e1 a_e2 a_e3 a_lo a_ho c_c c_cl c_mv c_ml c_en c_rt c_fr c_br c_fi c_st c_vz))
      ((fun (A : Nat → Prop) => va_Qi (fun (r : Int32) (u : Nat × Nat) => r = r0.1) (fun u t => zB G A (wT G a_t u.1 u.2 a_fr a_br a_e0 a_e1 a_e2 a_e3 a_lo a_ho r0.2.1 r0.2.2.1 c_mv c_ml r0.2.2.2.1 c_rt r0.2.2.2.2 c_br c_fi c_st c_vz) t) A) (va_A (wT G a_t a_c a_mv a_fr a_br a_e0 a_e1 a_e2 a_e3 a_lo a_ho c_c c_cl c_mv c_ml c_en c_rt c_fr c_br c_fi c_st c_vz) sz)) rc (1024 * rc) (va_A (wT G a_t a_c a_mv a_fr a_br a_e0 a_e1 a_e2 a_e3 a_lo a_ho c_c c_cl c_mv c_ml c_en c_rt c_fr c_br c_fi c_st c_vz) sz) := by
  refine zMet (Qc := fun (A : Nat → Prop) => va_Qi (fun (r : Int32) (u : Nat × Nat) => r = r0.1) (fun u t => zB G A (wT G a_t u.1 u.2 a_fr a_br a_e0 a_e1 a_e2 a_e3 a_lo a_ho r0.2.1 r0.2.2.1 c_mv c_ml r0.2.2.2.1 c_rt r0.2.2.2.2 c_br c_fi c_st c_vz) t) A) (by decide) (Nat.le_of_ble_eq_true rfl) (fun xp xe xs xm xb xme xc A ls Q H locs C hN hK hP hD hS hA hl hQ => ?_)
  obtain ⟨hx, hb, hr, hts, hown, hlocks, hml, hin⟩ := C
  have hl : lv_has ls 4 [(0, .ref a_t), (1, .int p_1)] := hl
  have h := hf
  unfold f_Tree_room at h
  have hRa : r0 = (r0, rc).1 := rfl
  have hRc : rc = 0 + (r0, rc).2 := (Nat.zero_add _).symm
  refine W.widen (k := 0) (n := 1024 * 0) (Nat.le_refl _) (Nat.le_refl _) ?_
  refine lv_aload_n hx hb d_Tree_room_0 rfl (lv_at hl 0 rfl) ?_
  refine va_get (D := G.1) (ci := 4) (v := .ref a_fr) (C := "BranchStore$Tree") (T := F_Tree) (N := 15) hx hb hts i_Tree hown hK hP 0 rfl rfl 4 (by decide) (hts _ k_127) (fun _ h9 => h9) rfl d_Tree_room_1 ?_
  refine lv_iload_n hx hb d_Tree_room_4 rfl (lv_at hl 1 rfl) ?_
  obtain ⟨h1, h⟩ := gi_k h
  refine va_iald hx hb hK hP 3 0 rfl rfl h1 d_Tree_room_5 ?_
  refine lv_topi (fun v2 ev2 => ?_)
  have h := nm_k h v2 ev2
  refine lv_istore_n (lv' := [(2, .int v2), (0, .ref a_t), (1, .int p_1)]) hx hb d_Tree_room_6 rfl hl (by decide) rfl (fun ls hl => ?_)
  refine lv_iload_n hx hb d_Tree_room_7 rfl (lv_at hl 0 rfl) ?_
  refine lv_if_le (tgt := 26) hx hb d_Tree_room_8 (by decide) (fun q3 => ?_) (fun q3 => ?_)
  · have h := it h q3
    refine lv_aload_n hx hb d_Tree_room_26 rfl (lv_at hl 1 rfl) ?_
    refine va_get (D := G.1) (ci := 4) (v := .ref a_c) (C := "BranchStore$Tree") (T := F_Tree) (N := 15) hx hb hts i_Tree hown hK hP 0 rfl rfl 0 (by decide) (hts _ k_123) (fun _ h9 => h9) rfl d_Tree_room_27 ?_
    refine va_alen hx hb hK hP 1 0 rfl rfl rfl d_Tree_room_30 ?_
    refine lv_topi (fun v4 ev4 => ?_)
    have h := nm_k h v4 ev4
    refine lv_istore_n (lv' := [(3, .int v4), (2, .int v2), (0, .ref a_t), (1, .int p_1)]) hx hb d_Tree_room_31 rfl hl (by decide) rfl (fun ls hl => ?_)
    obtain ⟨y6, hy6, h⟩ := ob h
    have E32 : ∀ (z9 : Int32), z9 = y6 → ∀ (H : Heap) (locs : List Loc) (ls : Array Slot), va_P G.1 classes (wT G a_t a_c a_mv a_fr a_br a_e0 a_e1 a_e2 a_e3 a_lo a_ho c_c c_cl c_mv c_ml c_en c_rt c_fr c_br c_fi c_st c_vz) H → va_D A (wT G a_t a_c a_mv a_fr a_br a_e0 a_e1 a_e2 a_e3 a_lo a_ho c_c c_cl c_mv c_ml c_en c_rt c_fr c_br c_fi c_st c_vz) → va_S A xs.heap H locs → lv_has ls 4 [(0, .ref a_t), (1, .int p_1), (3, .int z9)] → W xp l xe { frames := 2, cells := rc, slots := 1024 * rc, locals := 82 } xs xm ([.ref a_t, .int p_1] : List Value).toArray xb xme xc H locs (0) (1024 * (0)) Q (F0 xm 49 ls []) := by
      intro z9 ey H locs ls hP hD hS hl
      subst ey
      try dsimp only at h
      refine lv_iload_n hx hb d_Tree_room_49 rfl (lv_at hl 2 rfl) ?_
      refine lv_aload_n hx hb d_Tree_room_50 rfl (lv_at hl 0 rfl) ?_
      refine va_get (D := G.1) (ci := 4) (v := .ref a_c) (C := "BranchStore$Tree") (T := F_Tree) (N := 15) hx hb hts i_Tree hown hK hP 0 rfl rfl 0 (by decide) (hts _ k_123) (fun _ h9 => h9) rfl d_Tree_room_51 ?_
      refine va_alen hx hb hK hP 1 0 rfl rfl rfl d_Tree_room_54 ?_
      refine lv_icmp_le (tgt := 70) hx hb d_Tree_room_55 (by decide) (fun q11 => ?_) (fun q11 => ?_)
      · have h := it h q11
        refine lv_aload_n hx hb d_Tree_room_70 rfl (lv_at hl 0 rfl) ?_
        refine va_get (D := G.1) (ci := 4) (v := .int c_en) (C := "BranchStore$Tree") (T := F_Tree) (N := 15) hx hb hts i_Tree hown hK hP 0 rfl rfl 2 (by decide) (hts _ k_125) (fun _ h9 => h9) rfl d_Tree_room_71 ?_
        refine lv_istore_n (lv' := [(2, .int c_en), (0, .ref a_t), (1, .int p_1), (3, .int z9)]) hx hb d_Tree_room_74 rfl hl (by decide) rfl (fun ls hl => ?_)
        refine lv_aload_n hx hb d_Tree_room_75 rfl (lv_at hl 1 rfl) ?_
        refine lv_dup hx hb d_Tree_room_76 rfl ?_
        refine va_get (D := G.1) (ci := 4) (v := .int c_en) (C := "BranchStore$Tree") (T := F_Tree) (N := 15) hx hb hts i_Tree hown hK hP 0 rfl rfl 2 (by decide) (hts _ k_125) (fun _ h9 => h9) rfl d_Tree_room_77 ?_
        refine lv_iload_n hx hb d_Tree_room_80 rfl (lv_at hl 2 rfl) ?_
        refine lv_iadd hx hb d_Tree_room_81 ?_
        refine lv_topi (fun v12 ev12 => ?_)
        have h := nm_k h v12 ev12
        refine va_put (D := G.1) (ci := 4) (v := .int v12) (ty := .int) (C := "BranchStore$Tree") (T := F_Tree) (N := 15) hx hb hts i_Tree t_Tree t_Tree_ok n_Tree hown hK hP hD hS 0 rfl rfl 2 (by decide) (hts _ k_125) (fun _ h9 => h9) rfl (by decide +kernel) rfl rfl (Nat.le_of_ble_eq_true rfl) d_Tree_room_82 (fun H locs hP hD hS => ?_)
        have hP : va_P G.1 classes (wT G a_t a_c a_mv a_fr a_br a_e0 a_e1 a_e2 a_e3 a_lo a_ho c_c c_cl c_mv c_ml v12 c_rt c_fr c_br c_fi c_st c_vz) H := hP
        have hD : va_D A (wT G a_t a_c a_mv a_fr a_br a_e0 a_e1 a_e2 a_e3 a_lo a_ho c_c c_cl c_mv c_ml v12 c_rt c_fr c_br c_fi c_st c_vz) := hD
        refine lv_iconst (v := 0) hx hb d_Tree_room_85 (by decide) ?_
        refine lv_istore_n (lv' := [(3, .int 0), (2, .int c_en), (0, .ref a_t), (1, .int p_1)]) hx hb d_Tree_room_86 rfl hl (by decide) rfl (fun ls hl => ?_)
        obtain ⟨y15, hy15, h⟩ := ob h
        have E87 : ∀ (z20 : (Nat → Int32)), z20 = y15 → ∀ (H : Heap) (locs : List Loc) (ls : Array Slot), va_P G.1 classes (wT G a_t a_c a_mv a_fr a_br a_e0 a_e1 a_e2 a_e3 a_lo a_ho z20 c_cl c_mv c_ml v12 c_rt c_fr c_br c_fi c_st c_vz) H → va_D A (wT G a_t a_c a_mv a_fr a_br a_e0 a_e1 a_e2 a_e3 a_lo a_ho z20 c_cl c_mv c_ml v12 c_rt c_fr c_br c_fi c_st c_vz) → va_S A xs.heap H locs → lv_has ls 4 [(2, .int c_en)] → W xp l xe { frames := 2, cells := rc, slots := 1024 * rc, locals := 82 } xs xm ([.ref a_t, .int p_1] : List Value).toArray xb xme xc H locs (0) (1024 * (0)) Q (F0 xm 107 ls []) := by
          intro z20 ey H locs ls hP hD hS hl
          subst ey
          try dsimp only at h
          refine lv_iload_n hx hb d_Tree_room_107 rfl (lv_at hl 0 rfl) ?_
          have ey := Option.some.inj h
          rw [← ey] at hRa hRc
          have hRa : r0 = (c_en, z20, c_cl, v12, c_fr) := hRa
          have hRc : rc = 0 + 0 := hRc
          subst hRa
          exact zreti (a_c, a_mv) hQ hS.2.2 hx hb hr hlocks hP hD hS rfl (by omega) (by omega) d_Tree_room_108
        have L87 : ∀ v : (Int32 × (Nat → Int32)), lp (fun v => s_Tree_room_87 c_cl p_1 c_en v.1 v.2) v = some y15 → ∀ (H : Heap) (locs : List Loc) (ls : Array Slot), va_P G.1 classes (wT G a_t a_c a_mv a_fr a_br a_e0 a_e1 a_e2 a_e3 a_lo a_ho v.2 c_cl c_mv c_ml v12 c_rt c_fr c_br c_fi c_st c_vz) H → va_D A (wT G a_t a_c a_mv a_fr a_br a_e0 a_e1 a_e2 a_e3 a_lo a_ho v.2 c_cl c_mv c_ml v12 c_rt c_fr c_br c_fi c_st c_vz) → va_S A xs.heap H locs → lv_has ls 4 [(0, .ref a_t), (1, .int p_1), (2, .int c_en), (3, .int v.1)] → W xp l xe { frames := 2, cells := rc, slots := 1024 * rc, locals := 82 } xs xm ([.ref a_t, .int p_1] : List Value).toArray xb xme xc H locs (0) (1024 * (0)) Q (F0 xm 87 ls []) := by
          refine lp_walk _ (fun v x h hc he => ?_)
          obtain ⟨x3_13, c14⟩ := v
          intro H locs ls hP hD hS hl
          have h : s_Tree_room_87 c_cl p_1 c_en x3_13 c14 = some x := h
          unfold s_Tree_room_87 at h
          refine lv_iload_n hx hb d_Tree_room_87 rfl (lv_at hl 3 rfl) ?_
          refine lv_iload_n hx hb d_Tree_room_88 rfl (lv_at hl 1 rfl) ?_
          refine lv_icmp_ge (tgt := 107) hx hb d_Tree_room_89 (by decide) (fun q16 => ?_) (fun q16 => ?_)
          · have h := it h q16
            exact E87 c14 (he _ (Option.some.inj h).symm) H locs ls hP hD hS (lv_sub hl [2] rfl)
          · have h := ie h q16
            refine lv_aload_n hx hb d_Tree_room_92 rfl (lv_at hl 0 rfl) ?_
            refine va_get (D := G.1) (ci := 4) (v := .ref a_c) (C := "BranchStore$Tree") (T := F_Tree) (N := 15) hx hb hts i_Tree hown hK hP 0 rfl rfl 0 (by decide) (hts _ k_123) (fun _ h9 => h9) rfl d_Tree_room_93 ?_
            refine lv_iload_n hx hb d_Tree_room_96 rfl (lv_at hl 2 rfl) ?_
            refine lv_iload_n hx hb d_Tree_room_97 rfl (lv_at hl 3 rfl) ?_
            refine lv_iadd hx hb d_Tree_room_98 ?_
            refine lv_iconst (v := 0) hx hb d_Tree_room_99 (by decide) ?_
            obtain ⟨h17, h⟩ := gi_k h
            refine va_iast hx hb hK hP hD hS 1 0 rfl rfl h17 d_Tree_room_100 (fun H locs hP hD hS => ?_)
            obtain ⟨c18, ec18⟩ : ∃ y, y = upd c14 (c_en + x3_13).toNatClampNeg 0 := ⟨_, rfl⟩
            have h := nm_k h c18 ec18
            have hP : va_P G.1 classes (wT G a_t a_c a_mv a_fr a_br a_e0 a_e1 a_e2 a_e3 a_lo a_ho c18 c_cl c_mv c_ml v12 c_rt c_fr c_br c_fi c_st c_vz) H := by rw [ec18]; exact hP
            have hD : va_D A (wT G a_t a_c a_mv a_fr a_br a_e0 a_e1 a_e2 a_e3 a_lo a_ho c18 c_cl c_mv c_ml v12 c_rt c_fr c_br c_fi c_st c_vz) := by rw [ec18]; exact hD
            obtain ⟨v19, ev19⟩ : ∃ y : Int32, y = x3_13 + 1 := ⟨_, rfl⟩
            have h := nm_k h v19 ev19
            refine lv_iinc (v := v19) (lv' := [(3, .int v19), (0, .ref a_t), (1, .int p_1), (2, .int c_en)]) hx hb d_Tree_room_101 hl (k := 3) rfl (by rw [ev19]; rfl) (by decide) rfl (fun ls hl => ?_)
            refine lv_goto (tgt := 87) hx hb d_Tree_room_104 (by decide) ?_
            exact hc _ (Option.some.inj h).symm H locs ls hP hD hS (lv_sub hl [1, 2, 3, 0] rfl)
        exact L87 _ hy15 _ _ ls hP hD hS (lv_sub hl [2, 3, 1, 0] rfl)
      · have h := ie h q11
        refine lv_aload_n hx hb d_Tree_room_58 rfl (lv_at hl 0 rfl) ?_
        refine lv_aload_n hx hb d_Tree_room_59 rfl (lv_at hl 0 rfl) ?_
        refine va_get (D := G.1) (ci := 4) (v := .ref a_c) (C := "BranchStore$Tree") (T := F_Tree) (N := 15) hx hb hts i_Tree hown hK hP 0 rfl rfl 0 (by decide) (hts _ k_123) (fun _ h9 => h9) rfl d_Tree_room_60 ?_
        refine lv_iload_n hx hb d_Tree_room_63 rfl (lv_at hl 2 rfl) ?_
        obtain ⟨⟨h24a, h24b, h24c⟩, h⟩ := gcp_k h
        obtain ⟨y23, h, hRa, hRc⟩ := ad_k h hRa hRc
        obtain ⟨c25, ec25⟩ : ∃ y, y = va_cpy c_c (fun _ => 0) 0 0 c_cl := ⟨_, rfl⟩
        have h := nm_k h c25 ec25
        refine zcallr (wr := [(a_t, .inr (4, [.ref a_c, .ref a_mv, .int c_en, .int c_rt, .ref a_fr, .ref a_e0, .ref a_e1, .ref a_e2, .ref a_e3, .ref a_br, .ref a_lo, .ref a_ho, .long c_fi, .long c_st, .long c_vz])), (a_mv, .inl (G.2.1, c_ml, .inl c_mv)), (a_fr, .inl (G.2.1, 261, .inl c_fr)), (a_br, .inl (G.2.1, 4, .inl c_br)), (a_e0, .inr (1, [.int 0, .int 9, .int 4, .int 5])), (a_e1, .inr (1, [.int 1, .int 24, .int 16, .int 8])), (a_e2, .inr (2, [.int 2, .int 116, .int 48])), (a_e3, .inr (3, [.int 3, .int 260, .int 256]))]) (w2 := fun u => (wT G a_t a_c a_mv a_fr a_br a_e0 a_e1 a_e2 a_e3 a_lo a_ho c_c c_cl c_mv c_ml c_en c_rt c_fr c_br c_fi c_st c_vz) ++ wI G u z9.toNatClampNeg (va_cpy c_c (fun _ => 0) 0 0 c_cl)) (zrunS (As := [.ref a_c, .int z9]) (rest := [.ref a_t]) ⟨hx, hb, hml, hown, hts⟩ hN hK (c_copyOf l G H.size a_c c_cl c_c z9 h24a h24b h24c) ⟨rfl, rfl⟩ kv_Tree_64 ⟨Nat.le_of_ble_eq_true rfl, Nat.le_of_ble_eq_true rfl⟩ rfl hl.1 (Nat.le_of_ble_eq_true rfl) d_Tree_room_64 ⟨by show _ ≤ rc; omega, by show _ ≤ 1024 * rc; omega⟩) hP hD hS hA [1] [0, 2, 3, 4, 5, 6, 7, 8] [0, 8, 1, 2, 3, 4, 5, 6, 7, 9] rfl rfl rfl rfl (by decide) rfl (fun _ => rfl) (fun u22 ra H locs hw hP hD hS => ?_)
        subst hw
        refine W.widen (k := 0 + (z9.toNatClampNeg / 1024 + 1)) (n := 1024 * (0 + (z9.toNatClampNeg / 1024 + 1))) (by omega) (by omega) ?_
        refine va_put (D := G.1) (ci := 4) (v := .ref ra) (ty := .array .int) (C := "BranchStore$Tree") (T := F_Tree) (N := 15) hx hb hts i_Tree t_Tree t_Tree_ok n_Tree hown hK hP hD hS 0 rfl rfl 0 (by decide) (hts _ k_123) (fun _ h9 => h9) rfl (by decide +kernel) rfl rfl (Nat.le_of_ble_eq_true rfl) d_Tree_room_67 (fun H locs hP hD hS => ?_)
        have hP : va_P G.1 classes (wT G a_t ra a_mv a_fr a_br a_e0 a_e1 a_e2 a_e3 a_lo a_ho c25 z9.toNatClampNeg c_mv c_ml c_en c_rt c_fr c_br c_fi c_st c_vz) H := by rw [ec25]; exact hP.sub [0, 9, 2, 3, 4, 5, 6, 7, 8] rfl
        have hD : va_D A (wT G a_t ra a_mv a_fr a_br a_e0 a_e1 a_e2 a_e3 a_lo a_ho c25 z9.toNatClampNeg c_mv c_ml c_en c_rt c_fr c_br c_fi c_st c_vz) := by rw [ec25]; exact hD.sub [0, 9, 2, 3, 4, 5, 6, 7, 8] (by decide) rfl
        refine lv_aload_n hx hb d_Tree_room_70 rfl (lv_at hl 0 rfl) ?_
        refine va_get (D := G.1) (ci := 4) (v := .int c_en) (C := "BranchStore$Tree") (T := F_Tree) (N := 15) hx hb hts i_Tree hown hK hP 0 rfl rfl 2 (by decide) (hts _ k_125) (fun _ h9 => h9) rfl d_Tree_room_71 ?_
        refine lv_istore_n (lv' := [(2, .int c_en), (0, .ref a_t), (1, .int p_1), (3, .int z9)]) hx hb d_Tree_room_74 rfl hl (by decide) rfl (fun ls hl => ?_)
        refine lv_aload_n hx hb d_Tree_room_75 rfl (lv_at hl 1 rfl) ?_
        refine lv_dup hx hb d_Tree_room_76 rfl ?_
        refine va_get (D := G.1) (ci := 4) (v := .int c_en) (C := "BranchStore$Tree") (T := F_Tree) (N := 15) hx hb hts i_Tree hown hK hP 0 rfl rfl 2 (by decide) (hts _ k_125) (fun _ h9 => h9) rfl d_Tree_room_77 ?_
        refine lv_iload_n hx hb d_Tree_room_80 rfl (lv_at hl 2 rfl) ?_
        refine lv_iadd hx hb d_Tree_room_81 ?_
        refine lv_topi (fun v26 ev26 => ?_)
        have h := nm_k h v26 ev26
        refine va_put (D := G.1) (ci := 4) (v := .int v26) (ty := .int) (C := "BranchStore$Tree") (T := F_Tree) (N := 15) hx hb hts i_Tree t_Tree t_Tree_ok n_Tree hown hK hP hD hS 0 rfl rfl 2 (by decide) (hts _ k_125) (fun _ h9 => h9) rfl (by decide +kernel) rfl rfl (Nat.le_of_ble_eq_true rfl) d_Tree_room_82 (fun H locs hP hD hS => ?_)
        have hP : va_P G.1 classes (wT G a_t ra a_mv a_fr a_br a_e0 a_e1 a_e2 a_e3 a_lo a_ho c25 z9.toNatClampNeg c_mv c_ml v26 c_rt c_fr c_br c_fi c_st c_vz) H := hP
        have hD : va_D A (wT G a_t ra a_mv a_fr a_br a_e0 a_e1 a_e2 a_e3 a_lo a_ho c25 z9.toNatClampNeg c_mv c_ml v26 c_rt c_fr c_br c_fi c_st c_vz) := hD
        refine lv_iconst (v := 0) hx hb d_Tree_room_85 (by decide) ?_
        refine lv_istore_n (lv' := [(3, .int 0), (2, .int c_en), (0, .ref a_t), (1, .int p_1)]) hx hb d_Tree_room_86 rfl hl (by decide) rfl (fun ls hl => ?_)
        obtain ⟨y29, hy29, h⟩ := ob h
        have E87 : ∀ (z34 : (Nat → Int32)), z34 = y29 → ∀ (H : Heap) (locs : List Loc) (ls : Array Slot), va_P G.1 classes (wT G a_t ra a_mv a_fr a_br a_e0 a_e1 a_e2 a_e3 a_lo a_ho z34 z9.toNatClampNeg c_mv c_ml v26 c_rt c_fr c_br c_fi c_st c_vz) H → va_D A (wT G a_t ra a_mv a_fr a_br a_e0 a_e1 a_e2 a_e3 a_lo a_ho z34 z9.toNatClampNeg c_mv c_ml v26 c_rt c_fr c_br c_fi c_st c_vz) → va_S A xs.heap H locs → lv_has ls 4 [(2, .int c_en)] → W xp l xe { frames := 2, cells := rc, slots := 1024 * rc, locals := 82 } xs xm ([.ref a_t, .int p_1] : List Value).toArray xb xme xc H locs (0 + (z9.toNatClampNeg / 1024 + 1)) (1024 * (0 + (z9.toNatClampNeg / 1024 + 1))) Q (F0 xm 107 ls []) := by
          intro z34 ey H locs ls hP hD hS hl
          subst ey
          try dsimp only at h
          refine lv_iload_n hx hb d_Tree_room_107 rfl (lv_at hl 0 rfl) ?_
          have ey := Option.some.inj h
          rw [← ey] at hRa hRc
          have hRa : r0 = (c_en, z34, z9.toNatClampNeg, v26, c_fr) := hRa
          have hRc : rc = 0 + (z9.toNatClampNeg / 1024 + 1) + 0 := hRc
          subst hRa
          exact zreti (ra, a_mv) hQ hS.2.2 hx hb hr hlocks hP hD hS rfl (by omega) (by omega) d_Tree_room_108
        have L87 : ∀ v : (Int32 × (Nat → Int32)), lp (fun v => s_Tree_room_87 z9.toNatClampNeg p_1 c_en v.1 v.2) v = some y29 → ∀ (H : Heap) (locs : List Loc) (ls : Array Slot), va_P G.1 classes (wT G a_t ra a_mv a_fr a_br a_e0 a_e1 a_e2 a_e3 a_lo a_ho v.2 z9.toNatClampNeg c_mv c_ml v26 c_rt c_fr c_br c_fi c_st c_vz) H → va_D A (wT G a_t ra a_mv a_fr a_br a_e0 a_e1 a_e2 a_e3 a_lo a_ho v.2 z9.toNatClampNeg c_mv c_ml v26 c_rt c_fr c_br c_fi c_st c_vz) → va_S A xs.heap H locs → lv_has ls 4 [(0, .ref a_t), (1, .int p_1), (2, .int c_en), (3, .int v.1)] → W xp l xe { frames := 2, cells := rc, slots := 1024 * rc, locals := 82 } xs xm ([.ref a_t, .int p_1] : List Value).toArray xb xme xc H locs (0 + (z9.toNatClampNeg / 1024 + 1)) (1024 * (0 + (z9.toNatClampNeg / 1024 + 1))) Q (F0 xm 87 ls []) := by
          refine lp_walk _ (fun v x h hc he => ?_)
          obtain ⟨x3_27, c28⟩ := v
          intro H locs ls hP hD hS hl
          have h : s_Tree_room_87 z9.toNatClampNeg p_1 c_en x3_27 c28 = some x := h
          unfold s_Tree_room_87 at h
          refine lv_iload_n hx hb d_Tree_room_87 rfl (lv_at hl 3 rfl) ?_
          refine lv_iload_n hx hb d_Tree_room_88 rfl (lv_at hl 1 rfl) ?_
          refine lv_icmp_ge (tgt := 107) hx hb d_Tree_room_89 (by decide) (fun q30 => ?_) (fun q30 => ?_)
          · have h := it h q30
            exact E87 c28 (he _ (Option.some.inj h).symm) H locs ls hP hD hS (lv_sub hl [2] rfl)
          · have h := ie h q30
            refine lv_aload_n hx hb d_Tree_room_92 rfl (lv_at hl 0 rfl) ?_
            refine va_get (D := G.1) (ci := 4) (v := .ref ra) (C := "BranchStore$Tree") (T := F_Tree) (N := 15) hx hb hts i_Tree hown hK hP 0 rfl rfl 0 (by decide) (hts _ k_123) (fun _ h9 => h9) rfl d_Tree_room_93 ?_
            refine lv_iload_n hx hb d_Tree_room_96 rfl (lv_at hl 2 rfl) ?_
            refine lv_iload_n hx hb d_Tree_room_97 rfl (lv_at hl 3 rfl) ?_
            refine lv_iadd hx hb d_Tree_room_98 ?_
            refine lv_iconst (v := 0) hx hb d_Tree_room_99 (by decide) ?_
            obtain ⟨h31, h⟩ := gi_k h
            refine va_iast hx hb hK hP hD hS 1 0 rfl rfl h31 d_Tree_room_100 (fun H locs hP hD hS => ?_)
            obtain ⟨c32, ec32⟩ : ∃ y, y = upd c28 (c_en + x3_27).toNatClampNeg 0 := ⟨_, rfl⟩
            have h := nm_k h c32 ec32
            have hP : va_P G.1 classes (wT G a_t ra a_mv a_fr a_br a_e0 a_e1 a_e2 a_e3 a_lo a_ho c32 z9.toNatClampNeg c_mv c_ml v26 c_rt c_fr c_br c_fi c_st c_vz) H := by rw [ec32]; exact hP
            have hD : va_D A (wT G a_t ra a_mv a_fr a_br a_e0 a_e1 a_e2 a_e3 a_lo a_ho c32 z9.toNatClampNeg c_mv c_ml v26 c_rt c_fr c_br c_fi c_st c_vz) := by rw [ec32]; exact hD
            obtain ⟨v33, ev33⟩ : ∃ y : Int32, y = x3_27 + 1 := ⟨_, rfl⟩
            have h := nm_k h v33 ev33
            refine lv_iinc (v := v33) (lv' := [(3, .int v33), (0, .ref a_t), (1, .int p_1), (2, .int c_en)]) hx hb d_Tree_room_101 hl (k := 3) rfl (by rw [ev33]; rfl) (by decide) rfl (fun ls hl => ?_)
            refine lv_goto (tgt := 87) hx hb d_Tree_room_104 (by decide) ?_
            exact hc _ (Option.some.inj h).symm H locs ls hP hD hS (lv_sub hl [1, 2, 3, 0] rfl)
        exact L87 _ hy29 _ _ ls hP hD hS (lv_sub hl [2, 3, 1, 0] rfl)
    have L32 : ∀ v : Int32, lp (fun v => s_Tree_room_32 c_en p_1 v) v = some y6 → ∀ (H : Heap) (locs : List Loc) (ls : Array Slot), va_P G.1 classes (wT G a_t a_c a_mv a_fr a_br a_e0 a_e1 a_e2 a_e3 a_lo a_ho c_c c_cl c_mv c_ml c_en c_rt c_fr c_br c_fi c_st c_vz) H → va_D A (wT G a_t a_c a_mv a_fr a_br a_e0 a_e1 a_e2 a_e3 a_lo a_ho c_c c_cl c_mv c_ml c_en c_rt c_fr c_br c_fi c_st c_vz) → va_S A xs.heap H locs → lv_has ls 4 [(0, .ref a_t), (1, .int p_1), (3, .int v)] → W xp l xe { frames := 2, cells := rc, slots := 1024 * rc, locals := 82 } xs xm ([.ref a_t, .int p_1] : List Value).toArray xb xme xc H locs (0) (1024 * (0)) Q (F0 xm 32 ls []) := by
      refine lp_walk _ (fun v x h hc he => ?_)
      obtain ⟨x3_5, rfl⟩ : ∃ z, z = v := ⟨_, rfl⟩
      intro H locs ls hP hD hS hl
      have h : s_Tree_room_32 c_en p_1 x3_5 = some x := h
      unfold s_Tree_room_32 at h
      refine lv_aload_n hx hb d_Tree_room_32 rfl (lv_at hl 0 rfl) ?_
      refine va_get (D := G.1) (ci := 4) (v := .int c_en) (C := "BranchStore$Tree") (T := F_Tree) (N := 15) hx hb hts i_Tree hown hK hP 0 rfl rfl 2 (by decide) (hts _ k_125) (fun _ h9 => h9) rfl d_Tree_room_33 ?_
      refine lv_iload_n hx hb d_Tree_room_36 rfl (lv_at hl 1 rfl) ?_
      refine lv_iadd hx hb d_Tree_room_37 ?_
      refine lv_iload_n hx hb d_Tree_room_38 rfl (lv_at hl 2 rfl) ?_
      refine lv_icmp_le (tgt := 49) hx hb d_Tree_room_39 (by decide) (fun q7 => ?_) (fun q7 => ?_)
      · have h := it h q7
        exact E32 x3_5 (he _ (Option.some.inj h).symm) H locs ls hP hD hS (lv_sub hl [0, 1, 2] rfl)
      · have h := ie h q7
        refine lv_iconst (v := 2) hx hb d_Tree_room_42 (by decide) ?_
        refine lv_iload_n hx hb d_Tree_room_43 rfl (lv_at hl 2 rfl) ?_
        refine lv_imul hx hb d_Tree_room_44 ?_
        refine lv_topi (fun v8 ev8 => ?_)
        have h := nm_k h v8 ev8
        refine lv_istore_n (lv' := [(3, .int v8), (0, .ref a_t), (1, .int p_1)]) hx hb d_Tree_room_45 rfl hl (by decide) rfl (fun ls hl => ?_)
        refine lv_goto (tgt := 32) hx hb d_Tree_room_46 (by decide) ?_
        exact hc _ (Option.some.inj h).symm H locs ls hP hD hS (lv_sub hl [1, 2, 0] rfl)
    exact L32 _ hy6 _ _ ls hP hD hS (lv_sub hl [2, 3, 0] rfl)
  · have h := ie h q3
    refine lv_aload_n hx hb d_Tree_room_11 rfl (lv_at hl 1 rfl) ?_
    refine va_get (D := G.1) (ci := 4) (v := .ref a_fr) (C := "BranchStore$Tree") (T := F_Tree) (N := 15) hx hb hts i_Tree hown hK hP 0 rfl rfl 4 (by decide) (hts _ k_127) (fun _ h9 => h9) rfl d_Tree_room_12 ?_
    refine lv_iload_n hx hb d_Tree_room_15 rfl (lv_at hl 2 rfl) ?_
    refine lv_aload_n hx hb d_Tree_room_16 rfl (lv_at hl 1 rfl) ?_
    refine va_get (D := G.1) (ci := 4) (v := .ref a_c) (C := "BranchStore$Tree") (T := F_Tree) (N := 15) hx hb hts i_Tree hown hK hP 0 rfl rfl 0 (by decide) (hts _ k_123) (fun _ h9 => h9) rfl d_Tree_room_17 ?_
    refine lv_iload_n hx hb d_Tree_room_20 rfl (lv_at hl 0 rfl) ?_
    obtain ⟨h36, h⟩ := gi_k h
    refine va_iald hx hb hK hP 1 0 rfl rfl h36 d_Tree_room_21 ?_
    obtain ⟨h37, h⟩ := gi_k h
    refine va_iast hx hb hK hP hD hS 3 0 rfl rfl h37 d_Tree_room_22 (fun H locs hP hD hS => ?_)
    obtain ⟨c38, ec38⟩ : ∃ y, y = upd c_fr p_1.toNatClampNeg (c_c v2.toNatClampNeg) := ⟨_, rfl⟩
    have h := nm_k h c38 ec38
    have hP : va_P G.1 classes (wT G a_t a_c a_mv a_fr a_br a_e0 a_e1 a_e2 a_e3 a_lo a_ho c_c c_cl c_mv c_ml c_en c_rt c38 c_br c_fi c_st c_vz) H := by rw [ec38]; exact hP
    have hD : va_D A (wT G a_t a_c a_mv a_fr a_br a_e0 a_e1 a_e2 a_e3 a_lo a_ho c_c c_cl c_mv c_ml c_en c_rt c38 c_br c_fi c_st c_vz) := by rw [ec38]; exact hD
    refine lv_goto (tgt := 85) hx hb d_Tree_room_23 (by decide) ?_
    refine lv_iconst (v := 0) hx hb d_Tree_room_85 (by decide) ?_
    refine lv_istore_n (lv' := [(3, .int 0), (2, .int v2), (0, .ref a_t), (1, .int p_1)]) hx hb d_Tree_room_86 rfl hl (by decide) rfl (fun ls hl => ?_)
    obtain ⟨y41, hy41, h⟩ := ob h
    have E87 : ∀ (z46 : (Nat → Int32)), z46 = y41 → ∀ (H : Heap) (locs : List Loc) (ls : Array Slot), va_P G.1 classes (wT G a_t a_c a_mv a_fr a_br a_e0 a_e1 a_e2 a_e3 a_lo a_ho z46 c_cl c_mv c_ml c_en c_rt c38 c_br c_fi c_st c_vz) H → va_D A (wT G a_t a_c a_mv a_fr a_br a_e0 a_e1 a_e2 a_e3 a_lo a_ho z46 c_cl c_mv c_ml c_en c_rt c38 c_br c_fi c_st c_vz) → va_S A xs.heap H locs → lv_has ls 4 [(2, .int v2)] → W xp l xe { frames := 2, cells := rc, slots := 1024 * rc, locals := 82 } xs xm ([.ref a_t, .int p_1] : List Value).toArray xb xme xc H locs (0) (1024 * (0)) Q (F0 xm 107 ls []) := by
      intro z46 ey H locs ls hP hD hS hl
      subst ey
      try dsimp only at h
      refine lv_iload_n hx hb d_Tree_room_107 rfl (lv_at hl 0 rfl) ?_
      have ey := Option.some.inj h
      rw [← ey] at hRa hRc
      have hRa : r0 = (v2, z46, c_cl, c_en, c38) := hRa
      have hRc : rc = 0 + 0 := hRc
      subst hRa
      exact zreti (a_c, a_mv) hQ hS.2.2 hx hb hr hlocks hP hD hS rfl (by omega) (by omega) d_Tree_room_108
    have L87 : ∀ v : (Int32 × (Nat → Int32)), lp (fun v => s_Tree_room_87 c_cl p_1 v2 v.1 v.2) v = some y41 → ∀ (H : Heap) (locs : List Loc) (ls : Array Slot), va_P G.1 classes (wT G a_t a_c a_mv a_fr a_br a_e0 a_e1 a_e2 a_e3 a_lo a_ho v.2 c_cl c_mv c_ml c_en c_rt c38 c_br c_fi c_st c_vz) H → va_D A (wT G a_t a_c a_mv a_fr a_br a_e0 a_e1 a_e2 a_e3 a_lo a_ho v.2 c_cl c_mv c_ml c_en c_rt c38 c_br c_fi c_st c_vz) → va_S A xs.heap H locs → lv_has ls 4 [(0, .ref a_t), (1, .int p_1), (2, .int v2), (3, .int v.1)] → W xp l xe { frames := 2, cells := rc, slots := 1024 * rc, locals := 82 } xs xm ([.ref a_t, .int p_1] : List Value).toArray xb xme xc H locs (0) (1024 * (0)) Q (F0 xm 87 ls []) := by
      refine lp_walk _ (fun v x h hc he => ?_)
      obtain ⟨x3_39, c40⟩ := v
      intro H locs ls hP hD hS hl
      have h : s_Tree_room_87 c_cl p_1 v2 x3_39 c40 = some x := h
      unfold s_Tree_room_87 at h
      refine lv_iload_n hx hb d_Tree_room_87 rfl (lv_at hl 3 rfl) ?_
      refine lv_iload_n hx hb d_Tree_room_88 rfl (lv_at hl 1 rfl) ?_
      refine lv_icmp_ge (tgt := 107) hx hb d_Tree_room_89 (by decide) (fun q42 => ?_) (fun q42 => ?_)
      · have h := it h q42
        exact E87 c40 (he _ (Option.some.inj h).symm) H locs ls hP hD hS (lv_sub hl [2] rfl)
      · have h := ie h q42
        refine lv_aload_n hx hb d_Tree_room_92 rfl (lv_at hl 0 rfl) ?_
        refine va_get (D := G.1) (ci := 4) (v := .ref a_c) (C := "BranchStore$Tree") (T := F_Tree) (N := 15) hx hb hts i_Tree hown hK hP 0 rfl rfl 0 (by decide) (hts _ k_123) (fun _ h9 => h9) rfl d_Tree_room_93 ?_
        refine lv_iload_n hx hb d_Tree_room_96 rfl (lv_at hl 2 rfl) ?_
        refine lv_iload_n hx hb d_Tree_room_97 rfl (lv_at hl 3 rfl) ?_
        refine lv_iadd hx hb d_Tree_room_98 ?_
        refine lv_iconst (v := 0) hx hb d_Tree_room_99 (by decide) ?_
        obtain ⟨h43, h⟩ := gi_k h
        refine va_iast hx hb hK hP hD hS 1 0 rfl rfl h43 d_Tree_room_100 (fun H locs hP hD hS => ?_)
        obtain ⟨c44, ec44⟩ : ∃ y, y = upd c40 (v2 + x3_39).toNatClampNeg 0 := ⟨_, rfl⟩
        have h := nm_k h c44 ec44
        have hP : va_P G.1 classes (wT G a_t a_c a_mv a_fr a_br a_e0 a_e1 a_e2 a_e3 a_lo a_ho c44 c_cl c_mv c_ml c_en c_rt c38 c_br c_fi c_st c_vz) H := by rw [ec44]; exact hP
        have hD : va_D A (wT G a_t a_c a_mv a_fr a_br a_e0 a_e1 a_e2 a_e3 a_lo a_ho c44 c_cl c_mv c_ml c_en c_rt c38 c_br c_fi c_st c_vz) := by rw [ec44]; exact hD
        obtain ⟨v45, ev45⟩ : ∃ y : Int32, y = x3_39 + 1 := ⟨_, rfl⟩
        have h := nm_k h v45 ev45
        refine lv_iinc (v := v45) (lv' := [(3, .int v45), (0, .ref a_t), (1, .int p_1), (2, .int v2)]) hx hb d_Tree_room_101 hl (k := 3) rfl (by rw [ev45]; rfl) (by decide) rfl (fun ls hl => ?_)
        refine lv_goto (tgt := 87) hx hb d_Tree_room_104 (by decide) ?_
        exact hc _ (Option.some.inj h).symm H locs ls hP hD hS (lv_sub hl [1, 2, 3, 0] rfl)
    exact L87 _ hy41 _ _ ls hP hD hS (lv_sub hl [2, 3, 1, 0] rfl)

theorem kv_Tree_82 : zKV "BranchStore$Tree" 82 y_Tree_room prog_7_method_2_code 4 (some .int) 1 := ⟨k_368, k_370, kp_16, k_2, k_371, by decide +kernel⟩
noncomputable def f_Tree_branch (c_c : (Nat → Int32)) (c_cl : Nat) (c_en : Int32) (c_fr : (Nat → Int32)) (c_br : (Nat → Int32)) (p_1 : Int32) (p_2 : Int32) : Option ((Int32 × (Nat → Int32) × Nat × Int32 × (Nat → Int32) × (Nat → Int32)) × Nat) :=
(f_Tree_shape p_1).bind fun r1 =>
bd (f_Tree_room c_c c_cl c_en c_fr (zcells r1)) fun r2 =>
gi r2.1 r2.2.2.1 <|
nm (upd r2.2.1 r2.1.toNatClampNeg p_1) fun c6 =>
gi (r2.1 + 3) r2.2.2.1 <|
nm (upd c6 (r2.1 + 3).toNatClampNeg p_2) fun c8 =>
gi p_1 4 <|
gi p_1 4 <|
nm (upd c_br p_1.toNatClampNeg ((c_br p_1.toNatClampNeg) + 1)) fun c11 =>
some ((r2.1, c8, r2.2.2.1, r2.2.2.2.1, r2.2.2.2.2, c11), 0)
set_option maxHeartbeats 8000000 in
set_option maxRecDepth 100000 in
theorem c_Tree_branch (l : Launch) (G : zG) (sz : Nat) (a_t a_c a_mv a_fr a_br a_e0 a_e1 a_e2 a_e3 a_lo a_ho : Nat) (c_c : (Nat → Int32)) (c_cl : Nat) (c_mv : (Nat → Int32)) (c_ml : Nat) (c_en : Int32) (c_rt : Int32) (c_fr : (Nat → Int32)) (c_br : (Nat → Int32)) (c_fi : Int64) (c_st : Int64) (c_vz : Int64) (p_1 : Int32) (p_2 : Int32) (r0 : (Int32 × (Nat → Int32) × Nat × Int32 × (Nat → Int32) × (Nat → Int32))) (rc : Nat) (hf : f_Tree_branch c_c c_cl c_en c_fr c_br p_1 p_2 = some (r0, rc)) :
    Met l y_Tree_branch (Cond.code y_Tree_branch prog_7_method_7_code 4 (some .int) :: lw_ok) { frames := 3, cells := rc, slots := 1024 * rc, locals := 105 } (zPc G sz [.ref a_t, .int p_1, .int p_2] (wT G a_t a_c a_mv a_fr a_br a_e0 a_e1 a_e2 a_e3 a_lo a_ho c_c c_cl c_mv c_ml c_en c_rt c_fr c_br c_fi c_st c_vz))
      ((fun (A : Nat → Prop) => va_Qi (fun (r : Int32) (u : Nat × Nat) => r = r0.1) (fun u t => zB G A (wT G a_t u.1 u.2 a_fr a_br a_e0 a_e1 a_e2 a_e3 a_lo a_ho r0.2.1 r0.2.2.1 c_mv c_ml r0.2.2.2.1 c_rt r0.2.2.2.2.1 r0.2.2.2.2.2 c_fi c_st c_vz) t) A) (va_A (wT G a_t a_c a_mv a_fr a_br a_e0 a_e1 a_e2 a_e3 a_lo a_ho c_c c_cl c_mv c_ml c_en c_rt c_fr c_br c_fi c_st c_vz) sz)) rc (1024 * rc) (va_A (wT G a_t a_c a_mv a_fr a_br a_e0 a_e1 a_e2 a_e3 a_lo a_ho c_c c_cl c_mv c_ml c_en c_rt c_fr c_br c_fi c_st c_vz) sz) := by
  refine zMet (Qc := fun (A : Nat → Prop) => va_Qi (fun (r : Int32) (u : Nat × Nat) => r = r0.1) (fun u t => zB G A (wT G a_t u.1 u.2 a_fr a_br a_e0 a_e1 a_e2 a_e3 a_lo a_ho r0.2.1 r0.2.2.1 c_mv c_ml r0.2.2.2.1 c_rt r0.2.2.2.2.1 r0.2.2.2.2.2 c_fi c_st c_vz) t) A) (by decide) (Nat.le_of_ble_eq_true rfl) (fun xp xe xs xm xb xme xc A ls Q H locs C hN hK hP hD hS hA hl hQ => ?_)
  obtain ⟨hx, hb, hr, hts, hown, hlocks, hml, hin⟩ := C
  have hl : lv_has ls 4 [(0, .ref a_t), (1, .int p_1), (2, .int p_2)] := hl
  have h := hf
  unfold f_Tree_branch at h
  have hRa : r0 = (r0, rc).1 := rfl
  have hRc : rc = 0 + (r0, rc).2 := (Nat.zero_add _).symm
  refine W.widen (k := 0) (n := 1024 * 0) (Nat.le_refl _) (Nat.le_refl _) ?_
  refine lv_aload_n hx hb d_Tree_branch_0 rfl (lv_at hl 0 rfl) ?_
  refine lv_aload_n hx hb d_Tree_branch_1 rfl (lv_at hl 0 rfl) ?_
  refine lv_iload_n hx hb d_Tree_branch_2 rfl (lv_at hl 1 rfl) ?_
  obtain ⟨r1, hr1, h⟩ := ob h
  refine zpcallr (wr := []) (w2 := fun _ => (wT G a_t a_c a_mv a_fr a_br a_e0 a_e1 a_e2 a_e3 a_lo a_ho c_c c_cl c_mv c_ml c_en c_rt c_fr c_br c_fi c_st c_vz)) (zrunV (As := [.int p_1]) (rest := [.ref a_t]) ⟨hx, hb, hml, hown, hts⟩ hN hK (c_Tree_shape l G H.size a_t a_c a_mv a_fr a_br a_e0 a_e1 a_e2 a_e3 a_lo a_ho c_c c_cl c_mv c_ml c_en c_rt c_fr c_br c_fi c_st c_vz p_1 r1 hr1) ⟨rfl, rfl⟩ kv_Tree_73 ⟨Nat.le_of_ble_eq_true rfl, Nat.le_of_ble_eq_true rfl⟩ 0 rfl rfl rfl hl.1 (Nat.le_of_ble_eq_true rfl) d_Tree_branch_3 ⟨by show _ ≤ rc; omega, by show _ ≤ 1024 * rc; omega⟩) hP hD hS hA [0, 1, 2, 3, 4, 5, 6, 7, 8] [] [0, 1, 2, 3, 4, 5, 6, 7, 8] rfl rfl rfl rfl (by decide) rfl (fun _ => rfl) (fun _ ra H hw hP hD hS => ?_)
  subst hw
  refine zget_cells (k := r1) hx hb hts hown hK hP (zE_mk rfl rfl rfl rfl) d_Tree_branch_6 ?_
  obtain ⟨r2, dr2, y3, hr2, h, hRa, hRc⟩ := bd_k h hRa hRc
  refine zcalli (wr := []) (w2 := fun (u4 : Nat × Nat) => (wT G a_t u4.1 u4.2 a_fr a_br a_e0 a_e1 a_e2 a_e3 a_lo a_ho r2.2.1 r2.2.2.1 c_mv c_ml r2.2.2.2.1 c_rt r2.2.2.2.2 c_br c_fi c_st c_vz)) (zrunV (As := [.int (zcells r1)]) (rest := []) ⟨hx, hb, hml, hown, hts⟩ hN hK (c_Tree_room l G H.size a_t a_c a_mv a_fr a_br a_e0 a_e1 a_e2 a_e3 a_lo a_ho c_c c_cl c_mv c_ml c_en c_rt c_fr c_br c_fi c_st c_vz (zcells r1) r2 dr2 hr2) ⟨rfl, rfl⟩ kv_Tree_82 ⟨Nat.le_of_ble_eq_true rfl, Nat.le_of_ble_eq_true rfl⟩ 0 rfl rfl rfl hl.1 (Nat.le_of_ble_eq_true rfl) d_Tree_branch_9 ⟨by show _ ≤ rc; omega, by show _ ≤ 1024 * rc; omega⟩) hP hD hS hA [0, 1, 2, 3, 4, 5, 6, 7, 8] [] [0, 1, 2, 3, 4, 5, 6, 7, 8] rfl rfl rfl rfl (by decide) rfl (fun _ => rfl) (fun rr u4 H locs hw hP hD hS => ?_)
  refine W.widen (k := 0 + dr2) (n := 1024 * (0 + dr2)) (by omega) (by omega) ?_
  have hw := hw.symm
  subst hw
  refine lv_istore_n (lv' := [(3, .int r2.1), (0, .ref a_t), (1, .int p_1), (2, .int p_2)]) hx hb d_Tree_branch_12 rfl hl (by decide) rfl (fun ls hl => ?_)
  refine lv_aload_n hx hb d_Tree_branch_13 rfl (lv_at hl 1 rfl) ?_
  refine va_get (D := G.1) (ci := 4) (v := .ref u4.1) (C := "BranchStore$Tree") (T := F_Tree) (N := 15) hx hb hts i_Tree hown hK hP 0 rfl rfl 0 (by decide) (hts _ k_123) (fun _ h9 => h9) rfl d_Tree_branch_14 ?_
  refine lv_iload_n hx hb d_Tree_branch_17 rfl (lv_at hl 0 rfl) ?_
  refine lv_iload_n hx hb d_Tree_branch_18 rfl (lv_at hl 2 rfl) ?_
  obtain ⟨h5, h⟩ := gi_k h
  refine va_iast hx hb hK hP hD hS 1 0 rfl rfl h5 d_Tree_branch_19 (fun H locs hP hD hS => ?_)
  obtain ⟨c6, ec6⟩ : ∃ y, y = upd r2.2.1 r2.1.toNatClampNeg p_1 := ⟨_, rfl⟩
  have h := nm_k h c6 ec6
  have hP : va_P G.1 classes (wT G a_t u4.1 u4.2 a_fr a_br a_e0 a_e1 a_e2 a_e3 a_lo a_ho c6 r2.2.2.1 c_mv c_ml r2.2.2.2.1 c_rt r2.2.2.2.2 c_br c_fi c_st c_vz) H := by rw [ec6]; exact hP
  have hD : va_D A (wT G a_t u4.1 u4.2 a_fr a_br a_e0 a_e1 a_e2 a_e3 a_lo a_ho c6 r2.2.2.1 c_mv c_ml r2.2.2.2.1 c_rt r2.2.2.2.2 c_br c_fi c_st c_vz) := by rw [ec6]; exact hD
  refine lv_aload_n hx hb d_Tree_branch_20 rfl (lv_at hl 1 rfl) ?_
  refine va_get (D := G.1) (ci := 4) (v := .ref u4.1) (C := "BranchStore$Tree") (T := F_Tree) (N := 15) hx hb hts i_Tree hown hK hP 0 rfl rfl 0 (by decide) (hts _ k_123) (fun _ h9 => h9) rfl d_Tree_branch_21 ?_
  refine lv_iload_n hx hb d_Tree_branch_24 rfl (lv_at hl 0 rfl) ?_
  refine lv_iconst (v := 3) hx hb d_Tree_branch_25 (by decide) ?_
  refine lv_iadd hx hb d_Tree_branch_26 ?_
  refine lv_iload_n hx hb d_Tree_branch_27 rfl (lv_at hl 3 rfl) ?_
  obtain ⟨h7, h⟩ := gi_k h
  refine va_iast hx hb hK hP hD hS 1 0 rfl rfl h7 d_Tree_branch_28 (fun H locs hP hD hS => ?_)
  obtain ⟨c8, ec8⟩ : ∃ y, y = upd c6 (r2.1 + 3).toNatClampNeg p_2 := ⟨_, rfl⟩
  have h := nm_k h c8 ec8
  have hP : va_P G.1 classes (wT G a_t u4.1 u4.2 a_fr a_br a_e0 a_e1 a_e2 a_e3 a_lo a_ho c8 r2.2.2.1 c_mv c_ml r2.2.2.2.1 c_rt r2.2.2.2.2 c_br c_fi c_st c_vz) H := by rw [ec8]; exact hP
  have hD : va_D A (wT G a_t u4.1 u4.2 a_fr a_br a_e0 a_e1 a_e2 a_e3 a_lo a_ho c8 r2.2.2.1 c_mv c_ml r2.2.2.2.1 c_rt r2.2.2.2.2 c_br c_fi c_st c_vz) := by rw [ec8]; exact hD
  refine lv_aload_n hx hb d_Tree_branch_29 rfl (lv_at hl 1 rfl) ?_
  refine va_get (D := G.1) (ci := 4) (v := .ref a_br) (C := "BranchStore$Tree") (T := F_Tree) (N := 15) hx hb hts i_Tree hown hK hP 0 rfl rfl 9 (by decide) (hts _ k_132) (fun _ h9 => h9) rfl d_Tree_branch_30 ?_
  refine lv_iload_n hx hb d_Tree_branch_33 rfl (lv_at hl 2 rfl) ?_
  refine lv_dup2_11 hx hb d_Tree_branch_34 rfl rfl ?_
  obtain ⟨h9, h⟩ := gi_k h
  refine va_iald hx hb hK hP 4 0 rfl rfl h9 d_Tree_branch_35 ?_
  refine lv_iconst (v := 1) hx hb d_Tree_branch_36 (by decide) ?_
  refine lv_iadd hx hb d_Tree_branch_37 ?_
  obtain ⟨h10, h⟩ := gi_k h
  refine va_iast hx hb hK hP hD hS 4 0 rfl rfl h10 d_Tree_branch_38 (fun H locs hP hD hS => ?_)
  obtain ⟨c11, ec11⟩ : ∃ y, y = upd c_br p_1.toNatClampNeg ((c_br p_1.toNatClampNeg) + 1) := ⟨_, rfl⟩
  have h := nm_k h c11 ec11
  have hP : va_P G.1 classes (wT G a_t u4.1 u4.2 a_fr a_br a_e0 a_e1 a_e2 a_e3 a_lo a_ho c8 r2.2.2.1 c_mv c_ml r2.2.2.2.1 c_rt r2.2.2.2.2 c11 c_fi c_st c_vz) H := by rw [ec11]; exact hP
  have hD : va_D A (wT G a_t u4.1 u4.2 a_fr a_br a_e0 a_e1 a_e2 a_e3 a_lo a_ho c8 r2.2.2.1 c_mv c_ml r2.2.2.2.1 c_rt r2.2.2.2.2 c11 c_fi c_st c_vz) := by rw [ec11]; exact hD
  refine lv_iload_n hx hb d_Tree_branch_39 rfl (lv_at hl 0 rfl) ?_
  have ey := Option.some.inj h
  rw [← ey] at hRa hRc
  have hRa : r0 = (r2.1, c8, r2.2.2.1, r2.2.2.2.1, r2.2.2.2.2, c11) := hRa
  have hRc : rc = 0 + dr2 + 0 := hRc
  subst hRa
  exact zreti (u4.1, u4.2) hQ hS.2.2 hx hb hr hlocks hP hD hS rfl (by omega) (by omega) d_Tree_branch_40

theorem kv_Tree_89 : zKS "BranchStore$Tree" 89 y_Tree_leafCells prog_7_method_8_code 1 (some .int) 1 := ⟨k_331, k_332, k_2, k_333, by decide +kernel⟩
theorem kv_Tree_95 : zKV "BranchStore$Tree" 95 y_Tree_setValue prog_7_method_10_code 4 none 2 := ⟨k_592, k_581, k_582, k_2, k_583, by decide +kernel⟩
noncomputable def s_Tree_leaf_46 (c_cl : Nat) (c_kb : (Nat → Int32)) (c_kn : Int32) (x5 : Int32) (x6 : Int32) (c_c : (Nat → Int32)) : Option ((Int32 × (Nat → Int32)) ⊕ (Nat → Int32)) :=
if c_kn ≤ x6 then
(some (.inr c_c))
else
(gi ((x5 + 4) + (x6 / 4)) c_cl <|
(f_Key_at c_kb x6).bind fun r19 =>
gi ((x5 + 4) + (x6 / 4)) c_cl <|
nm (upd c_c ((x5 + 4) + (x6 / 4)).toNatClampNeg ((c_c ((x5 + 4) + (x6 / 4)).toNatClampNeg) ||| (r19 <<< ((24 - (8 * (x6 - x6 / 4 * 4))) &&& 31)))) fun c21 =>
nm (x6 + 1) fun v22 =>
some (.inl (v22, c21)))
noncomputable def f_Tree_leaf (c_c : (Nat → Int32)) (c_cl : Nat) (c_en : Int32) (c_fr : (Nat → Int32)) (c_kb : (Nat → Int32)) (c_kn : Int32) (p_2 : Int64) (p_4 : Int32) : Option ((Int32 × (Nat → Int32) × Nat × Int32 × (Nat → Int32)) × Nat) :=
(f_Tree_leafCells c_kn).bind fun r1 =>
bd (f_Tree_room c_c c_cl c_en c_fr r1) fun r2 =>
gi r2.1 r2.2.2.1 <|
nm (upd r2.2.1 r2.1.toNatClampNeg c_kn) fun c6 =>
(if p_4 = 0 then
(some 0)
else
(some 1)).bind fun y10 =>
gi (r2.1 + 3) r2.2.2.1 <|
nm (upd c6 (r2.1 + 3).toNatClampNeg y10) fun c13 =>
(lp (fun v => s_Tree_leaf_46 r2.2.2.1 c_kb c_kn r2.1 v.1 v.2) (0, c13)).bind fun y24 =>
(f_Tree_setValue y24 r2.2.2.1 (-r2.1) p_2).bind fun r25 =>
some ((-r2.1, r25, r2.2.2.1, r2.2.2.2.1, r2.2.2.2.2), 0)
set_option maxHeartbeats 8000000 in
set_option maxRecDepth 100000 in
theorem c_Tree_leaf (l : Launch) (G : zG) (sz : Nat) (a_t a_c a_mv a_fr a_br a_e0 a_e1 a_e2 a_e3 a_lo a_ho a_ko a_kq : Nat) (c_c : (Nat → Int32)) (c_cl : Nat) (c_mv : (Nat → Int32)) (c_ml : Nat) (c_en : Int32) (c_rt : Int32) (c_fr : (Nat → Int32)) (c_br : (Nat → Int32)) (c_fi : Int64) (c_st : Int64) (c_vz : Int64) (c_kb : (Nat → Int32)) (c_kn : Int32) (c_kt : Int32) (p_2 : Int64) (p_4 : Int32) (b_4 : narrow .boolean (.int p_4) = .int p_4) (r0 : (Int32 × (Nat → Int32) × Nat × Int32 × (Nat → Int32))) (rc : Nat) (hf : f_Tree_leaf c_c c_cl c_en c_fr c_kb c_kn p_2 p_4 = some (r0, rc)) :
    Met l y_Tree_leaf (Cond.code y_Tree_leaf prog_7_method_9_code 7 (some .int) :: lw_ok) { frames := 3, cells := rc, slots := 1024 * rc, locals := 105 } (zPc G sz [.ref a_t, .ref a_ko, .long p_2, .int p_4] (wT G a_t a_c a_mv a_fr a_br a_e0 a_e1 a_e2 a_e3 a_lo a_ho c_c c_cl c_mv c_ml c_en c_rt c_fr c_br c_fi c_st c_vz ++ wK G a_ko a_kq c_kb c_kn c_kt))
      ((fun (A : Nat → Prop) => va_Qi (fun (r : Int32) (u : Nat × Nat) => r = r0.1) (fun u t => zB G A (wT G a_t u.1 u.2 a_fr a_br a_e0 a_e1 a_e2 a_e3 a_lo a_ho r0.2.1 r0.2.2.1 c_mv c_ml r0.2.2.2.1 c_rt r0.2.2.2.2 c_br c_fi c_st c_vz ++ wK G a_ko a_kq c_kb c_kn c_kt) t) A) (va_A (wT G a_t a_c a_mv a_fr a_br a_e0 a_e1 a_e2 a_e3 a_lo a_ho c_c c_cl c_mv c_ml c_en c_rt c_fr c_br c_fi c_st c_vz ++ wK G a_ko a_kq c_kb c_kn c_kt) sz)) rc (1024 * rc) (va_A (wT G a_t a_c a_mv a_fr a_br a_e0 a_e1 a_e2 a_e3 a_lo a_ho c_c c_cl c_mv c_ml c_en c_rt c_fr c_br c_fi c_st c_vz ++ wK G a_ko a_kq c_kb c_kn c_kt) sz) := by
  refine zMet (Qc := fun (A : Nat → Prop) => va_Qi (fun (r : Int32) (u : Nat × Nat) => r = r0.1) (fun u t => zB G A (wT G a_t u.1 u.2 a_fr a_br a_e0 a_e1 a_e2 a_e3 a_lo a_ho r0.2.1 r0.2.2.1 c_mv c_ml r0.2.2.2.1 c_rt r0.2.2.2.2 c_br c_fi c_st c_vz ++ wK G a_ko a_kq c_kb c_kn c_kt) t) A) (by decide) (Nat.le_of_ble_eq_true rfl) (fun xp xe xs xm xb xme xc A ls Q H locs C hN hK hP hD hS hA hl hQ => ?_)
  obtain ⟨hx, hb, hr, hts, hown, hlocks, hml, hin⟩ := C
  have hl : lv_has ls 7 [(0, .ref a_t), (1, .ref a_ko), (2, .long p_2), (4, .int p_4)] := hl
  have h := hf
  unfold f_Tree_leaf at h
  have hRa : r0 = (r0, rc).1 := rfl
  have hRc : rc = 0 + (r0, rc).2 := (Nat.zero_add _).symm
  refine W.widen (k := 0) (n := 1024 * 0) (Nat.le_refl _) (Nat.le_refl _) ?_
  refine lv_aload_n hx hb d_Tree_leaf_0 rfl (lv_at hl 0 rfl) ?_
  refine lv_aload_n hx hb d_Tree_leaf_1 rfl (lv_at hl 1 rfl) ?_
  refine va_get (D := G.1) (ci := 0) (v := .int c_kn) (C := "BranchStore$Key") (T := F_Key) (N := 3) hx hb hts i_Key hown hK hP 9 rfl rfl 1 (by decide) (hts _ k_110) (fun _ h9 => h9) rfl d_Tree_leaf_2 ?_
  obtain ⟨r1, hr1, h⟩ := ob h
  refine zpcalli (wr := (wT G a_t a_c a_mv a_fr a_br a_e0 a_e1 a_e2 a_e3 a_lo a_ho c_c c_cl c_mv c_ml c_en c_rt c_fr c_br c_fi c_st c_vz ++ wK G a_ko a_kq c_kb c_kn c_kt)) (w2 := fun _ => (wT G a_t a_c a_mv a_fr a_br a_e0 a_e1 a_e2 a_e3 a_lo a_ho c_c c_cl c_mv c_ml c_en c_rt c_fr c_br c_fi c_st c_vz ++ wK G a_ko a_kq c_kb c_kn c_kt)) (zrunS (As := [.int c_kn]) (rest := [.ref a_t]) ⟨hx, hb, hml, hown, hts⟩ hN hK (c_Tree_leafCells l G H.size c_kn r1 hr1) ⟨rfl, rfl⟩ kv_Tree_89 ⟨Nat.le_of_ble_eq_true rfl, Nat.le_of_ble_eq_true rfl⟩ rfl hl.1 (Nat.le_of_ble_eq_true rfl) d_Tree_leaf_5 ⟨by show _ ≤ rc; omega, by show _ ≤ 1024 * rc; omega⟩) hP hD hS hA [] [0, 1, 2, 3, 4, 5, 6, 7, 8, 9, 10] [0, 1, 2, 3, 4, 5, 6, 7, 8, 9, 10] rfl rfl rfl rfl (by decide) rfl (fun _ => rfl) (fun rr _ H hw hP hD hS => ?_)
  have hw := hw.symm
  subst hw
  obtain ⟨r2, dr2, y3, hr2, h, hRa, hRc⟩ := bd_k h hRa hRc
  refine zcalli (wr := [(a_ko, .inr (0, [.ref a_kq, .int c_kn, .int c_kt])), (a_kq, .inl (G.2.2.1, 50, .inl c_kb))]) (w2 := fun (u4 : Nat × Nat) => (wT G a_t u4.1 u4.2 a_fr a_br a_e0 a_e1 a_e2 a_e3 a_lo a_ho r2.2.1 r2.2.2.1 c_mv c_ml r2.2.2.2.1 c_rt r2.2.2.2.2 c_br c_fi c_st c_vz ++ wK G a_ko a_kq c_kb c_kn c_kt)) (zrunV (As := [.int r1]) (rest := []) ⟨hx, hb, hml, hown, hts⟩ hN hK (c_Tree_room l G H.size a_t a_c a_mv a_fr a_br a_e0 a_e1 a_e2 a_e3 a_lo a_ho c_c c_cl c_mv c_ml c_en c_rt c_fr c_br c_fi c_st c_vz r1 r2 dr2 hr2) ⟨rfl, rfl⟩ kv_Tree_82 ⟨Nat.le_of_ble_eq_true rfl, Nat.le_of_ble_eq_true rfl⟩ 0 rfl rfl rfl hl.1 (Nat.le_of_ble_eq_true rfl) d_Tree_leaf_8 ⟨by show _ ≤ rc; omega, by show _ ≤ 1024 * rc; omega⟩) hP hD hS hA [0, 1, 2, 3, 4, 5, 6, 7, 8] [9, 10] [2, 3, 4, 5, 6, 7, 8, 9, 10, 0, 1] rfl rfl rfl rfl (by decide) rfl (fun _ => rfl) (fun rr u4 H locs hw hP hD hS => ?_)
  refine W.widen (k := 0 + dr2) (n := 1024 * (0 + dr2)) (by omega) (by omega) ?_
  have hw := hw.symm
  subst hw
  refine lv_istore (lv' := [(5, .int r2.1), (0, .ref a_t), (1, .ref a_ko), (2, .long p_2), (4, .int p_4)]) hx hb d_Tree_leaf_11 hl (by decide) rfl (fun ls hl => ?_)
  refine lv_aload_n hx hb d_Tree_leaf_13 rfl (lv_at hl 1 rfl) ?_
  refine va_get (D := G.1) (ci := 4) (v := .ref u4.1) (C := "BranchStore$Tree") (T := F_Tree) (N := 15) hx hb hts i_Tree hown hK hP 0 rfl rfl 0 (by decide) (hts _ k_123) (fun _ h9 => h9) rfl d_Tree_leaf_14 ?_
  refine lv_iload hx hb d_Tree_leaf_17 (lv_at hl 0 rfl) ?_
  refine lv_aload_n hx hb d_Tree_leaf_19 rfl (lv_at hl 2 rfl) ?_
  refine va_get (D := G.1) (ci := 0) (v := .int c_kn) (C := "BranchStore$Key") (T := F_Key) (N := 3) hx hb hts i_Key hown hK hP 9 rfl rfl 1 (by decide) (hts _ k_110) (fun _ h9 => h9) rfl d_Tree_leaf_20 ?_
  obtain ⟨h5, h⟩ := gi_k h
  refine va_iast hx hb hK hP hD hS 1 0 rfl rfl h5 d_Tree_leaf_23 (fun H locs hP hD hS => ?_)
  obtain ⟨c6, ec6⟩ : ∃ y, y = upd r2.2.1 r2.1.toNatClampNeg c_kn := ⟨_, rfl⟩
  have h := nm_k h c6 ec6
  have hP : va_P G.1 classes (wT G a_t u4.1 u4.2 a_fr a_br a_e0 a_e1 a_e2 a_e3 a_lo a_ho c6 r2.2.2.1 c_mv c_ml r2.2.2.2.1 c_rt r2.2.2.2.2 c_br c_fi c_st c_vz ++ wK G a_ko a_kq c_kb c_kn c_kt) H := by rw [ec6]; exact hP
  have hD : va_D A (wT G a_t u4.1 u4.2 a_fr a_br a_e0 a_e1 a_e2 a_e3 a_lo a_ho c6 r2.2.2.1 c_mv c_ml r2.2.2.2.1 c_rt r2.2.2.2.2 c_br c_fi c_st c_vz ++ wK G a_ko a_kq c_kb c_kn c_kt) := by rw [ec6]; exact hD
  refine lv_aload_n hx hb d_Tree_leaf_24 rfl (lv_at hl 1 rfl) ?_
  refine va_get (D := G.1) (ci := 4) (v := .ref u4.1) (C := "BranchStore$Tree") (T := F_Tree) (N := 15) hx hb hts i_Tree hown hK hP 0 rfl rfl 0 (by decide) (hts _ k_123) (fun _ h9 => h9) rfl d_Tree_leaf_25 ?_
  refine lv_iload hx hb d_Tree_leaf_28 (lv_at hl 0 rfl) ?_
  refine lv_iconst (v := 3) hx hb d_Tree_leaf_30 (by decide) ?_
  refine lv_iadd hx hb d_Tree_leaf_31 ?_
  refine lv_iload hx hb d_Tree_leaf_32 (lv_at hl 4 rfl) ?_
  obtain ⟨y9, hy9, h⟩ := ob h
  have J42 : ∀ (z11 : Int32), narrow .boolean (.int z11) = .int z11 → z11 = y9 → ∀ (H : Heap) (locs : List Loc) (ls : Array Slot), va_P G.1 classes (wT G a_t u4.1 u4.2 a_fr a_br a_e0 a_e1 a_e2 a_e3 a_lo a_ho c6 r2.2.2.1 c_mv c_ml r2.2.2.2.1 c_rt r2.2.2.2.2 c_br c_fi c_st c_vz ++ wK G a_ko a_kq c_kb c_kn c_kt) H → va_D A (wT G a_t u4.1 u4.2 a_fr a_br a_e0 a_e1 a_e2 a_e3 a_lo a_ho c6 r2.2.2.1 c_mv c_ml r2.2.2.2.1 c_rt r2.2.2.2.2 c_br c_fi c_st c_vz ++ wK G a_ko a_kq c_kb c_kn c_kt) → va_S A xs.heap H locs → lv_has ls 7 [(0, .ref a_t), (1, .ref a_ko), (2, .long p_2), (5, .int r2.1)] → W xp l xe { frames := 3, cells := rc, slots := 1024 * rc, locals := 105 } xs xm ([.ref a_t, .ref a_ko, .long p_2, .int p_4] : List Value).toArray xb xme xc H locs (0 + dr2) (1024 * (0 + dr2)) Q (F0 xm 42 ls [.int z11, .int (r2.1 + 3), .ref u4.1]) := by
    intro z11 hzz11 ey H locs ls hP hD hS hl
    subst ey
    try dsimp only at h
    obtain ⟨h12, h⟩ := gi_k h
    refine va_iast hx hb hK hP hD hS 1 0 rfl rfl h12 d_Tree_leaf_42 (fun H locs hP hD hS => ?_)
    obtain ⟨c13, ec13⟩ : ∃ y, y = upd c6 (r2.1 + 3).toNatClampNeg z11 := ⟨_, rfl⟩
    have h := nm_k h c13 ec13
    have hP : va_P G.1 classes (wT G a_t u4.1 u4.2 a_fr a_br a_e0 a_e1 a_e2 a_e3 a_lo a_ho c13 r2.2.2.1 c_mv c_ml r2.2.2.2.1 c_rt r2.2.2.2.2 c_br c_fi c_st c_vz ++ wK G a_ko a_kq c_kb c_kn c_kt) H := by rw [ec13]; exact hP
    have hD : va_D A (wT G a_t u4.1 u4.2 a_fr a_br a_e0 a_e1 a_e2 a_e3 a_lo a_ho c13 r2.2.2.1 c_mv c_ml r2.2.2.2.1 c_rt r2.2.2.2.2 c_br c_fi c_st c_vz ++ wK G a_ko a_kq c_kb c_kn c_kt) := by rw [ec13]; exact hD
    refine lv_iconst (v := 0) hx hb d_Tree_leaf_43 (by decide) ?_
    refine lv_istore (lv' := [(6, .int 0), (0, .ref a_t), (1, .ref a_ko), (2, .long p_2), (5, .int r2.1)]) hx hb d_Tree_leaf_44 hl (by decide) rfl (fun ls hl => ?_)
    obtain ⟨y16, hy16, h⟩ := ob h
    have E46 : ∀ (z23 : (Nat → Int32)), z23 = y16 → ∀ (H : Heap) (locs : List Loc) (ls : Array Slot), va_P G.1 classes (wT G a_t u4.1 u4.2 a_fr a_br a_e0 a_e1 a_e2 a_e3 a_lo a_ho z23 r2.2.2.1 c_mv c_ml r2.2.2.2.1 c_rt r2.2.2.2.2 c_br c_fi c_st c_vz ++ wK G a_ko a_kq c_kb c_kn c_kt) H → va_D A (wT G a_t u4.1 u4.2 a_fr a_br a_e0 a_e1 a_e2 a_e3 a_lo a_ho z23 r2.2.2.1 c_mv c_ml r2.2.2.2.1 c_rt r2.2.2.2.2 c_br c_fi c_st c_vz ++ wK G a_ko a_kq c_kb c_kn c_kt) → va_S A xs.heap H locs → lv_has ls 7 [(0, .ref a_t), (2, .long p_2), (5, .int r2.1)] → W xp l xe { frames := 3, cells := rc, slots := 1024 * rc, locals := 105 } xs xm ([.ref a_t, .ref a_ko, .long p_2, .int p_4] : List Value).toArray xb xme xc H locs (0 + dr2) (1024 * (0 + dr2)) Q (F0 xm 95 ls []) := by
      intro z23 ey H locs ls hP hD hS hl
      subst ey
      try dsimp only at h
      refine lv_aload_n hx hb d_Tree_leaf_95 rfl (lv_at hl 0 rfl) ?_
      refine lv_iload hx hb d_Tree_leaf_96 (lv_at hl 2 rfl) ?_
      refine lv_ineg hx hb d_Tree_leaf_98 ?_
      refine lv_lload_n hx hb d_Tree_leaf_99 rfl (lv_at hl 1 rfl) ?_
      obtain ⟨r25, hr25, h⟩ := ob h
      refine zcallv (wr := [(a_ko, .inr (0, [.ref a_kq, .int c_kn, .int c_kt])), (a_kq, .inl (G.2.2.1, 50, .inl c_kb))]) (w2 := fun _ => (wT G a_t u4.1 u4.2 a_fr a_br a_e0 a_e1 a_e2 a_e3 a_lo a_ho r25 r2.2.2.1 c_mv c_ml r2.2.2.2.1 c_rt r2.2.2.2.2 c_br c_fi c_st c_vz ++ wK G a_ko a_kq c_kb c_kn c_kt)) (zrunV (As := [.int (-r2.1), .long p_2]) (rest := []) ⟨hx, hb, hml, hown, hts⟩ hN hK (c_Tree_setValue l G H.size a_t u4.1 u4.2 a_fr a_br a_e0 a_e1 a_e2 a_e3 a_lo a_ho z23 r2.2.2.1 c_mv c_ml r2.2.2.2.1 c_rt r2.2.2.2.2 c_br c_fi c_st c_vz (-r2.1) p_2 r25 hr25) ⟨rfl, rfl⟩ kv_Tree_95 ⟨Nat.le_of_ble_eq_true rfl, Nat.le_of_ble_eq_true rfl⟩ 0 rfl rfl rfl hl.1 (Nat.le_of_ble_eq_true rfl) d_Tree_leaf_100 ⟨by show _ ≤ rc; omega, by show _ ≤ 1024 * rc; omega⟩) hP hD hS hA [0, 1, 2, 3, 4, 5, 6, 7, 8] [9, 10] [2, 3, 4, 5, 6, 7, 8, 9, 10, 0, 1] rfl rfl rfl rfl (by decide) rfl (fun _ => rfl) (fun _ H locs _ hP hD hS => ?_)
      refine lv_iload hx hb d_Tree_leaf_103 (lv_at hl 2 rfl) ?_
      refine lv_ineg hx hb d_Tree_leaf_105 ?_
      have ey := Option.some.inj h
      rw [← ey] at hRa hRc
      have hRa : r0 = (-r2.1, r25, r2.2.2.1, r2.2.2.2.1, r2.2.2.2.2) := hRa
      have hRc : rc = 0 + dr2 + 0 := hRc
      subst hRa
      exact zreti (u4.1, u4.2) hQ hS.2.2 hx hb hr hlocks hP hD hS rfl (by omega) (by omega) d_Tree_leaf_106
    have L46 : ∀ v : (Int32 × (Nat → Int32)), lp (fun v => s_Tree_leaf_46 r2.2.2.1 c_kb c_kn r2.1 v.1 v.2) v = some y16 → ∀ (H : Heap) (locs : List Loc) (ls : Array Slot), va_P G.1 classes (wT G a_t u4.1 u4.2 a_fr a_br a_e0 a_e1 a_e2 a_e3 a_lo a_ho v.2 r2.2.2.1 c_mv c_ml r2.2.2.2.1 c_rt r2.2.2.2.2 c_br c_fi c_st c_vz ++ wK G a_ko a_kq c_kb c_kn c_kt) H → va_D A (wT G a_t u4.1 u4.2 a_fr a_br a_e0 a_e1 a_e2 a_e3 a_lo a_ho v.2 r2.2.2.1 c_mv c_ml r2.2.2.2.1 c_rt r2.2.2.2.2 c_br c_fi c_st c_vz ++ wK G a_ko a_kq c_kb c_kn c_kt) → va_S A xs.heap H locs → lv_has ls 7 [(0, .ref a_t), (1, .ref a_ko), (2, .long p_2), (5, .int r2.1), (6, .int v.1)] → W xp l xe { frames := 3, cells := rc, slots := 1024 * rc, locals := 105 } xs xm ([.ref a_t, .ref a_ko, .long p_2, .int p_4] : List Value).toArray xb xme xc H locs (0 + dr2) (1024 * (0 + dr2)) Q (F0 xm 46 ls []) := by
      refine lp_walk _ (fun v x h hc he => ?_)
      obtain ⟨x6_14, c15⟩ := v
      intro H locs ls hP hD hS hl
      have h : s_Tree_leaf_46 r2.2.2.1 c_kb c_kn r2.1 x6_14 c15 = some x := h
      unfold s_Tree_leaf_46 at h
      refine lv_iload hx hb d_Tree_leaf_46 (lv_at hl 4 rfl) ?_
      refine lv_aload_n hx hb d_Tree_leaf_48 rfl (lv_at hl 1 rfl) ?_
      refine va_get (D := G.1) (ci := 0) (v := .int c_kn) (C := "BranchStore$Key") (T := F_Key) (N := 3) hx hb hts i_Key hown hK hP 9 rfl rfl 1 (by decide) (hts _ k_110) (fun _ h9 => h9) rfl d_Tree_leaf_49 ?_
      refine lv_icmp_ge (tgt := 95) hx hb d_Tree_leaf_52 (by decide) (fun q17 => ?_) (fun q17 => ?_)
      · have h := it h q17
        exact E46 c15 (he _ (Option.some.inj h).symm) H locs ls hP hD hS (lv_sub hl [0, 2, 3] rfl)
      · have h := ie h q17
        refine lv_aload_n hx hb d_Tree_leaf_55 rfl (lv_at hl 0 rfl) ?_
        refine va_get (D := G.1) (ci := 4) (v := .ref u4.1) (C := "BranchStore$Tree") (T := F_Tree) (N := 15) hx hb hts i_Tree hown hK hP 0 rfl rfl 0 (by decide) (hts _ k_123) (fun _ h9 => h9) rfl d_Tree_leaf_56 ?_
        refine lv_iload hx hb d_Tree_leaf_59 (lv_at hl 3 rfl) ?_
        refine lv_iconst (v := 4) hx hb d_Tree_leaf_61 (by decide) ?_
        refine lv_iadd hx hb d_Tree_leaf_62 ?_
        refine lv_iload hx hb d_Tree_leaf_63 (lv_at hl 4 rfl) ?_
        refine lv_iconst (v := 4) hx hb d_Tree_leaf_65 (by decide) ?_
        refine lv_idiv hx hb d_Tree_leaf_66 (by decide) ?_
        refine lv_iadd hx hb d_Tree_leaf_67 ?_
        refine lv_dup2_11 hx hb d_Tree_leaf_68 rfl rfl ?_
        obtain ⟨h18, h⟩ := gi_k h
        refine va_iald hx hb hK hP 1 0 rfl rfl h18 d_Tree_leaf_69 ?_
        refine lv_aload_n hx hb d_Tree_leaf_70 rfl (lv_at hl 1 rfl) ?_
        refine lv_iload hx hb d_Tree_leaf_71 (lv_at hl 4 rfl) ?_
        obtain ⟨r19, hr19, h⟩ := ob h
        refine zpcalli (wr := [(a_t, .inr (4, [.ref u4.1, .ref u4.2, .int r2.2.2.2.1, .int c_rt, .ref a_fr, .ref a_e0, .ref a_e1, .ref a_e2, .ref a_e3, .ref a_br, .ref a_lo, .ref a_ho, .long c_fi, .long c_st, .long c_vz])), (u4.1, .inl (G.2.1, r2.2.2.1, .inl c15)), (u4.2, .inl (G.2.1, c_ml, .inl c_mv)), (a_fr, .inl (G.2.1, 261, .inl r2.2.2.2.2)), (a_br, .inl (G.2.1, 4, .inl c_br)), (a_e0, .inr (1, [.int 0, .int 9, .int 4, .int 5])), (a_e1, .inr (1, [.int 1, .int 24, .int 16, .int 8])), (a_e2, .inr (2, [.int 2, .int 116, .int 48])), (a_e3, .inr (3, [.int 3, .int 260, .int 256]))]) (w2 := fun _ => (wT G a_t u4.1 u4.2 a_fr a_br a_e0 a_e1 a_e2 a_e3 a_lo a_ho c15 r2.2.2.1 c_mv c_ml r2.2.2.2.1 c_rt r2.2.2.2.2 c_br c_fi c_st c_vz ++ wK G a_ko a_kq c_kb c_kn c_kt)) (zrunV (As := [.int x6_14]) (rest := [.int (c15 ((r2.1 + 4) + (x6_14 / 4)).toNatClampNeg), .int ((r2.1 + 4) + (x6_14 / 4)), .ref u4.1]) ⟨hx, hb, hml, hown, hts⟩ hN hK (c_Key_at l G H.size a_ko a_kq c_kb c_kn c_kt x6_14 r19 hr19) ⟨rfl, rfl⟩ kv_Tree_92 ⟨Nat.le_of_ble_eq_true rfl, Nat.le_of_ble_eq_true rfl⟩ 0 rfl rfl rfl hl.1 (Nat.le_of_ble_eq_true rfl) d_Tree_leaf_73 ⟨by show _ ≤ rc; omega, by show _ ≤ 1024 * rc; omega⟩) hP hD hS hA [9, 10] [0, 1, 2, 3, 4, 5, 6, 7, 8] [0, 1, 2, 3, 4, 5, 6, 7, 8, 9, 10] rfl rfl rfl rfl (by decide) rfl (fun _ => rfl) (fun rr _ H hw hP hD hS => ?_)
        have hw := hw.symm
        subst hw
        refine lv_bipush (v := 24) hx hb d_Tree_leaf_76 (by decide) ?_
        refine lv_bipush (v := 8) hx hb d_Tree_leaf_78 (by decide) ?_
        refine lv_iload hx hb d_Tree_leaf_80 (lv_at hl 4 rfl) ?_
        refine lv_iconst (v := 4) hx hb d_Tree_leaf_82 (by decide) ?_
        refine lv_irem hx hb d_Tree_leaf_83 (by decide) ?_
        refine lv_imul hx hb d_Tree_leaf_84 ?_
        refine lv_isub hx hb d_Tree_leaf_85 ?_
        refine lv_ishl hx hb d_Tree_leaf_86 ?_
        refine lv_ior hx hb d_Tree_leaf_87 ?_
        obtain ⟨h20, h⟩ := gi_k h
        refine va_iast hx hb hK hP hD hS 1 0 rfl rfl h20 d_Tree_leaf_88 (fun H locs hP hD hS => ?_)
        obtain ⟨c21, ec21⟩ : ∃ y, y = upd c15 ((r2.1 + 4) + (x6_14 / 4)).toNatClampNeg ((c15 ((r2.1 + 4) + (x6_14 / 4)).toNatClampNeg) ||| (r19 <<< ((24 - (8 * (x6_14 - x6_14 / 4 * 4))) &&& 31))) := ⟨_, rfl⟩
        have h := nm_k h c21 ec21
        have hP : va_P G.1 classes (wT G a_t u4.1 u4.2 a_fr a_br a_e0 a_e1 a_e2 a_e3 a_lo a_ho c21 r2.2.2.1 c_mv c_ml r2.2.2.2.1 c_rt r2.2.2.2.2 c_br c_fi c_st c_vz ++ wK G a_ko a_kq c_kb c_kn c_kt) H := by rw [ec21]; exact hP
        have hD : va_D A (wT G a_t u4.1 u4.2 a_fr a_br a_e0 a_e1 a_e2 a_e3 a_lo a_ho c21 r2.2.2.1 c_mv c_ml r2.2.2.2.1 c_rt r2.2.2.2.2 c_br c_fi c_st c_vz ++ wK G a_ko a_kq c_kb c_kn c_kt) := by rw [ec21]; exact hD
        obtain ⟨v22, ev22⟩ : ∃ y : Int32, y = x6_14 + 1 := ⟨_, rfl⟩
        have h := nm_k h v22 ev22
        refine lv_iinc (v := v22) (lv' := [(6, .int v22), (0, .ref a_t), (1, .ref a_ko), (2, .long p_2), (5, .int r2.1)]) hx hb d_Tree_leaf_89 hl (k := 4) rfl (by rw [ev22]; rfl) (by decide) rfl (fun ls hl => ?_)
        refine lv_goto (tgt := 46) hx hb d_Tree_leaf_92 (by decide) ?_
        exact hc _ (Option.some.inj h).symm H locs ls hP hD hS (lv_sub hl [1, 2, 3, 4, 0] rfl)
    exact L46 _ hy16 _ _ ls hP hD hS (lv_sub hl [1, 2, 3, 4, 0] rfl)
  have h := hy9
  refine lv_if_eq (tgt := 41) hx hb d_Tree_leaf_34 (by decide) (fun q8 => ?_) (fun q8 => ?_)
  · have h := it h q8
    refine lv_iconst (v := 0) hx hb d_Tree_leaf_41 (by decide) ?_
    exact J42 0 rfl (Option.some.inj h) H locs ls hP hD hS (lv_sub hl [1, 2, 3, 0] rfl)
  · have h := ie h q8
    refine lv_iconst (v := 1) hx hb d_Tree_leaf_37 (by decide) ?_
    refine lv_goto (tgt := 42) hx hb d_Tree_leaf_38 (by decide) ?_
    exact J42 1 rfl (Option.some.inj h) H locs ls hP hD hS (lv_sub hl [1, 2, 3, 0] rfl)

theorem kv_Tree_169 : zKV "BranchStore$Tree" 169 y_Tree_branch prog_7_method_7_code 4 (some .int) 2 := ⟨k_364, k_366, kp_15, k_2, k_367, by decide +kernel⟩
theorem kv_Tree_172 : zKV "BranchStore$Tree" 172 y_Tree_release prog_7_method_3_code 3 none 2 := ⟨k_334, k_336, kp_12, k_2, k_337, by decide +kernel⟩
noncomputable def s_Tree_resized_57 (c_cl : Nat) (x1 : Int32) (x3 : Int32) (x4 : Nat) (x5 : Nat) (x6 : Int32) (c_c : (Nat → Int32)) : Option ((Int32 × (Nat → Int32)) ⊕ (Nat → Int32)) :=
if x6 = (-1) then
(some (.inr c_c))
else
((f_Tree_child c_c c_cl x1 x6).bind fun r15 =>
(f_add x5 c_cl c_c x3 x6 r15).bind fun r16 =>
(if x6 = 255 then
(some (-1))
else
((f_from x4 c_cl r16 x1 (x6 + 1)).bind fun r19 =>
some r19)).bind fun y21 =>
some (.inl (y21, r16)))
noncomputable def f_Tree_resized (c_c : (Nat → Int32)) (c_cl : Nat) (c_en : Int32) (c_fr : (Nat → Int32)) (c_br : (Nat → Int32)) (p_1 : Int32) (p_2 : Int32) : Option ((Int32 × (Nat → Int32) × Nat × Int32 × (Nat → Int32) × (Nat → Int32)) × Nat) :=
gi (p_1 + 3) c_cl <|
bd (f_Tree_branch c_c c_cl c_en c_fr c_br p_2 (c_c (p_1 + 3).toNatClampNeg)) fun r2 =>
(f_Tree_shapeOf r2.2.1 r2.2.2.1 p_1).bind fun r5 =>
(f_Tree_shape p_2).bind fun r6 =>
gi (p_1 + 2) r2.2.2.1 <|
gi (r2.1 + 2) r2.2.2.1 <|
nm (upd r2.2.1 (r2.1 + 2).toNatClampNeg (r2.2.1 (p_1 + 2).toNatClampNeg)) fun c9 =>
(f_from r5 r2.2.2.1 c9 p_1 0).bind fun r10 =>
(lp (fun v => s_Tree_resized_57 r2.2.2.1 p_1 r2.1 r5 r6 v.1 v.2) (r10, c9)).bind fun y24 =>
gi p_1 r2.2.2.1 <|
gi (y24 p_1.toNatClampNeg) 4 <|
gi (y24 p_1.toNatClampNeg) 4 <|
nm (upd r2.2.2.2.2.2 (y24 p_1.toNatClampNeg).toNatClampNeg ((r2.2.2.2.2.2 (y24 p_1.toNatClampNeg).toNatClampNeg) - 1)) fun c28 =>
(f_Tree_release y24 r2.2.2.1 r2.2.2.2.2.1 p_1 (zcells r5)).bind fun r29 =>
some ((r2.1, r29.1, r2.2.2.1, r2.2.2.2.1, r29.2, c28), 0)
set_option maxHeartbeats 8000000 in
set_option maxRecDepth 100000 in
theorem c_Tree_resized (l : Launch) (G : zG) (sz : Nat) (a_t a_c a_mv a_fr a_br a_e0 a_e1 a_e2 a_e3 a_lo a_ho : Nat) (c_c : (Nat → Int32)) (c_cl : Nat) (c_mv : (Nat → Int32)) (c_ml : Nat) (c_en : Int32) (c_rt : Int32) (c_fr : (Nat → Int32)) (c_br : (Nat → Int32)) (c_fi : Int64) (c_st : Int64) (c_vz : Int64) (p_1 : Int32) (p_2 : Int32) (r0 : (Int32 × (Nat → Int32) × Nat × Int32 × (Nat → Int32) × (Nat → Int32))) (rc : Nat) (hf : f_Tree_resized c_c c_cl c_en c_fr c_br p_1 p_2 = some (r0, rc)) :
    Met l y_Tree_resized (Cond.code y_Tree_resized prog_7_method_27_code 7 (some .int) :: lw_ok) { frames := 4, cells := rc, slots := 1024 * rc, locals := 128 } (zPc G sz [.ref a_t, .int p_1, .int p_2] (wT G a_t a_c a_mv a_fr a_br a_e0 a_e1 a_e2 a_e3 a_lo a_ho c_c c_cl c_mv c_ml c_en c_rt c_fr c_br c_fi c_st c_vz))
      ((fun (A : Nat → Prop) => va_Qi (fun (r : Int32) (u : Nat × Nat) => r = r0.1) (fun u t => zB G A (wT G a_t u.1 u.2 a_fr a_br a_e0 a_e1 a_e2 a_e3 a_lo a_ho r0.2.1 r0.2.2.1 c_mv c_ml r0.2.2.2.1 c_rt r0.2.2.2.2.1 r0.2.2.2.2.2 c_fi c_st c_vz) t) A) (va_A (wT G a_t a_c a_mv a_fr a_br a_e0 a_e1 a_e2 a_e3 a_lo a_ho c_c c_cl c_mv c_ml c_en c_rt c_fr c_br c_fi c_st c_vz) sz)) rc (1024 * rc) (va_A (wT G a_t a_c a_mv a_fr a_br a_e0 a_e1 a_e2 a_e3 a_lo a_ho c_c c_cl c_mv c_ml c_en c_rt c_fr c_br c_fi c_st c_vz) sz) := by
  refine zMet (Qc := fun (A : Nat → Prop) => va_Qi (fun (r : Int32) (u : Nat × Nat) => r = r0.1) (fun u t => zB G A (wT G a_t u.1 u.2 a_fr a_br a_e0 a_e1 a_e2 a_e3 a_lo a_ho r0.2.1 r0.2.2.1 c_mv c_ml r0.2.2.2.1 c_rt r0.2.2.2.2.1 r0.2.2.2.2.2 c_fi c_st c_vz) t) A) (by decide) (Nat.le_of_ble_eq_true rfl) (fun xp xe xs xm xb xme xc A ls Q H locs C hN hK hP hD hS hA hl hQ => ?_)
  obtain ⟨hx, hb, hr, hts, hown, hlocks, hml, hin⟩ := C
  have hl : lv_has ls 7 [(0, .ref a_t), (1, .int p_1), (2, .int p_2)] := hl
  have h := hf
  unfold f_Tree_resized at h
  have hRa : r0 = (r0, rc).1 := rfl
  have hRc : rc = 0 + (r0, rc).2 := (Nat.zero_add _).symm
  refine W.widen (k := 0) (n := 1024 * 0) (Nat.le_refl _) (Nat.le_refl _) ?_
  refine lv_aload_n hx hb d_Tree_resized_0 rfl (lv_at hl 0 rfl) ?_
  refine lv_iload_n hx hb d_Tree_resized_1 rfl (lv_at hl 2 rfl) ?_
  refine lv_aload_n hx hb d_Tree_resized_2 rfl (lv_at hl 0 rfl) ?_
  refine va_get (D := G.1) (ci := 4) (v := .ref a_c) (C := "BranchStore$Tree") (T := F_Tree) (N := 15) hx hb hts i_Tree hown hK hP 0 rfl rfl 0 (by decide) (hts _ k_123) (fun _ h9 => h9) rfl d_Tree_resized_3 ?_
  refine lv_iload_n hx hb d_Tree_resized_6 rfl (lv_at hl 1 rfl) ?_
  refine lv_iconst (v := 3) hx hb d_Tree_resized_7 (by decide) ?_
  refine lv_iadd hx hb d_Tree_resized_8 ?_
  obtain ⟨h1, h⟩ := gi_k h
  refine va_iald hx hb hK hP 1 0 rfl rfl h1 d_Tree_resized_9 ?_
  obtain ⟨r2, dr2, y3, hr2, h, hRa, hRc⟩ := bd_k h hRa hRc
  refine zcalli (wr := []) (w2 := fun (u4 : Nat × Nat) => (wT G a_t u4.1 u4.2 a_fr a_br a_e0 a_e1 a_e2 a_e3 a_lo a_ho r2.2.1 r2.2.2.1 c_mv c_ml r2.2.2.2.1 c_rt r2.2.2.2.2.1 r2.2.2.2.2.2 c_fi c_st c_vz)) (zrunV (As := [.int p_2, .int (c_c (p_1 + 3).toNatClampNeg)]) (rest := []) ⟨hx, hb, hml, hown, hts⟩ hN hK (c_Tree_branch l G H.size a_t a_c a_mv a_fr a_br a_e0 a_e1 a_e2 a_e3 a_lo a_ho c_c c_cl c_mv c_ml c_en c_rt c_fr c_br c_fi c_st c_vz p_2 (c_c (p_1 + 3).toNatClampNeg) r2 dr2 hr2) ⟨rfl, rfl⟩ kv_Tree_169 ⟨Nat.le_of_ble_eq_true rfl, Nat.le_of_ble_eq_true rfl⟩ 0 rfl rfl rfl hl.1 (Nat.le_of_ble_eq_true rfl) d_Tree_resized_10 ⟨by show _ ≤ rc; omega, by show _ ≤ 1024 * rc; omega⟩) hP hD hS hA [0, 1, 2, 3, 4, 5, 6, 7, 8] [] [0, 1, 2, 3, 4, 5, 6, 7, 8] rfl rfl rfl rfl (by decide) rfl (fun _ => rfl) (fun rr u4 H locs hw hP hD hS => ?_)
  refine W.widen (k := 0 + dr2) (n := 1024 * (0 + dr2)) (by omega) (by omega) ?_
  have hw := hw.symm
  subst hw
  refine lv_istore_n (lv' := [(3, .int r2.1), (0, .ref a_t), (1, .int p_1), (2, .int p_2)]) hx hb d_Tree_resized_13 rfl hl (by decide) rfl (fun ls hl => ?_)
  refine lv_aload_n hx hb d_Tree_resized_14 rfl (lv_at hl 1 rfl) ?_
  refine lv_iload_n hx hb d_Tree_resized_15 rfl (lv_at hl 2 rfl) ?_
  obtain ⟨r5, hr5, h⟩ := ob h
  refine zpcallr (wr := []) (w2 := fun _ => (wT G a_t u4.1 u4.2 a_fr a_br a_e0 a_e1 a_e2 a_e3 a_lo a_ho r2.2.1 r2.2.2.1 c_mv c_ml r2.2.2.2.1 c_rt r2.2.2.2.2.1 r2.2.2.2.2.2 c_fi c_st c_vz)) (zrunV (As := [.int p_1]) (rest := []) ⟨hx, hb, hml, hown, hts⟩ hN hK (c_Tree_shapeOf l G H.size a_t u4.1 u4.2 a_fr a_br a_e0 a_e1 a_e2 a_e3 a_lo a_ho r2.2.1 r2.2.2.1 c_mv c_ml r2.2.2.2.1 c_rt r2.2.2.2.2.1 r2.2.2.2.2.2 c_fi c_st c_vz p_1 r5 hr5) ⟨rfl, rfl⟩ kv_Tree_116 ⟨Nat.le_of_ble_eq_true rfl, Nat.le_of_ble_eq_true rfl⟩ 0 rfl rfl rfl hl.1 (Nat.le_of_ble_eq_true rfl) d_Tree_resized_16 ⟨by show _ ≤ rc; omega, by show _ ≤ 1024 * rc; omega⟩) hP hD hS hA [0, 1, 2, 3, 4, 5, 6, 7, 8] [] [0, 1, 2, 3, 4, 5, 6, 7, 8] rfl rfl rfl rfl (by decide) rfl (fun _ => rfl) (fun _ ra H hw hP hD hS => ?_)
  subst hw
  refine lv_astore (lv' := [(4, .ref (zsh a_e0 a_e1 a_e2 a_e3 r5)), (3, .int r2.1), (0, .ref a_t), (1, .int p_1), (2, .int p_2)]) hx hb d_Tree_resized_19 hl (by decide) rfl (fun ls hl => ?_)
  refine lv_aload_n hx hb d_Tree_resized_21 rfl (lv_at hl 2 rfl) ?_
  refine lv_iload_n hx hb d_Tree_resized_22 rfl (lv_at hl 4 rfl) ?_
  obtain ⟨r6, hr6, h⟩ := ob h
  refine zpcallr (wr := []) (w2 := fun _ => (wT G a_t u4.1 u4.2 a_fr a_br a_e0 a_e1 a_e2 a_e3 a_lo a_ho r2.2.1 r2.2.2.1 c_mv c_ml r2.2.2.2.1 c_rt r2.2.2.2.2.1 r2.2.2.2.2.2 c_fi c_st c_vz)) (zrunV (As := [.int p_2]) (rest := []) ⟨hx, hb, hml, hown, hts⟩ hN hK (c_Tree_shape l G H.size a_t u4.1 u4.2 a_fr a_br a_e0 a_e1 a_e2 a_e3 a_lo a_ho r2.2.1 r2.2.2.1 c_mv c_ml r2.2.2.2.1 c_rt r2.2.2.2.2.1 r2.2.2.2.2.2 c_fi c_st c_vz p_2 r6 hr6) ⟨rfl, rfl⟩ kv_Tree_73 ⟨Nat.le_of_ble_eq_true rfl, Nat.le_of_ble_eq_true rfl⟩ 0 rfl rfl rfl hl.1 (Nat.le_of_ble_eq_true rfl) d_Tree_resized_23 ⟨by show _ ≤ rc; omega, by show _ ≤ 1024 * rc; omega⟩) hP hD hS hA [0, 1, 2, 3, 4, 5, 6, 7, 8] [] [0, 1, 2, 3, 4, 5, 6, 7, 8] rfl rfl rfl rfl (by decide) rfl (fun _ => rfl) (fun _ ra H hw hP hD hS => ?_)
  subst hw
  refine lv_astore (lv' := [(5, .ref (zsh a_e0 a_e1 a_e2 a_e3 r6)), (4, .ref (zsh a_e0 a_e1 a_e2 a_e3 r5)), (3, .int r2.1), (0, .ref a_t), (1, .int p_1), (2, .int p_2)]) hx hb d_Tree_resized_26 hl (by decide) rfl (fun ls hl => ?_)
  refine lv_aload_n hx hb d_Tree_resized_28 rfl (lv_at hl 3 rfl) ?_
  refine va_get (D := G.1) (ci := 4) (v := .ref u4.1) (C := "BranchStore$Tree") (T := F_Tree) (N := 15) hx hb hts i_Tree hown hK hP 0 rfl rfl 0 (by decide) (hts _ k_123) (fun _ h9 => h9) rfl d_Tree_resized_29 ?_
  refine lv_iload_n hx hb d_Tree_resized_32 rfl (lv_at hl 2 rfl) ?_
  refine lv_iconst (v := 2) hx hb d_Tree_resized_33 (by decide) ?_
  refine lv_iadd hx hb d_Tree_resized_34 ?_
  refine lv_aload_n hx hb d_Tree_resized_35 rfl (lv_at hl 3 rfl) ?_
  refine va_get (D := G.1) (ci := 4) (v := .ref u4.1) (C := "BranchStore$Tree") (T := F_Tree) (N := 15) hx hb hts i_Tree hown hK hP 0 rfl rfl 0 (by decide) (hts _ k_123) (fun _ h9 => h9) rfl d_Tree_resized_36 ?_
  refine lv_iload_n hx hb d_Tree_resized_39 rfl (lv_at hl 4 rfl) ?_
  refine lv_iconst (v := 2) hx hb d_Tree_resized_40 (by decide) ?_
  refine lv_iadd hx hb d_Tree_resized_41 ?_
  obtain ⟨h7, h⟩ := gi_k h
  refine va_iald hx hb hK hP 1 0 rfl rfl h7 d_Tree_resized_42 ?_
  obtain ⟨h8, h⟩ := gi_k h
  refine va_iast hx hb hK hP hD hS 1 0 rfl rfl h8 d_Tree_resized_43 (fun H locs hP hD hS => ?_)
  obtain ⟨c9, ec9⟩ : ∃ y, y = upd r2.2.1 (r2.1 + 2).toNatClampNeg (r2.2.1 (p_1 + 2).toNatClampNeg) := ⟨_, rfl⟩
  have h := nm_k h c9 ec9
  have hP : va_P G.1 classes (wT G a_t u4.1 u4.2 a_fr a_br a_e0 a_e1 a_e2 a_e3 a_lo a_ho c9 r2.2.2.1 c_mv c_ml r2.2.2.2.1 c_rt r2.2.2.2.2.1 r2.2.2.2.2.2 c_fi c_st c_vz) H := by rw [ec9]; exact hP
  have hD : va_D A (wT G a_t u4.1 u4.2 a_fr a_br a_e0 a_e1 a_e2 a_e3 a_lo a_ho c9 r2.2.2.1 c_mv c_ml r2.2.2.2.1 c_rt r2.2.2.2.2.1 r2.2.2.2.2.2 c_fi c_st c_vz) := by rw [ec9]; exact hD
  refine lv_aload hx hb d_Tree_resized_44 (lv_at hl 1 rfl) ?_
  refine lv_aload_n hx hb d_Tree_resized_46 rfl (lv_at hl 3 rfl) ?_
  refine va_get (D := G.1) (ci := 4) (v := .ref u4.1) (C := "BranchStore$Tree") (T := F_Tree) (N := 15) hx hb hts i_Tree hown hK hP 0 rfl rfl 0 (by decide) (hts _ k_123) (fun _ h9 => h9) rfl d_Tree_resized_47 ?_
  refine lv_iload_n hx hb d_Tree_resized_50 rfl (lv_at hl 4 rfl) ?_
  refine lv_iconst (v := 0) hx hb d_Tree_resized_51 (by decide) ?_
  obtain ⟨r10, hr10, h⟩ := ob h
  refine zv_from (k := r5) ⟨hx, hb, hml, hown, hts⟩ hN hK hP hD hS hA (zE_mk rfl rfl rfl rfl) rfl hr10 (Nat.le_of_ble_eq_true rfl) (Nat.le_of_ble_eq_true rfl) hl.1 (Nat.le_of_ble_eq_true rfl) d_Tree_resized_52 ⟨by show _ ≤ rc; omega, by show _ ≤ 1024 * rc; omega⟩ (fun H hP hS => ?_)
  refine lv_istore (lv' := [(6, .int r10), (5, .ref (zsh a_e0 a_e1 a_e2 a_e3 r6)), (4, .ref (zsh a_e0 a_e1 a_e2 a_e3 r5)), (3, .int r2.1), (0, .ref a_t), (1, .int p_1), (2, .int p_2)]) hx hb d_Tree_resized_55 hl (by decide) rfl (fun ls hl => ?_)
  obtain ⟨y13, hy13, h⟩ := ob h
  have E57 : ∀ (z23 : (Nat → Int32)), z23 = y13 → ∀ (H : Heap) (locs : List Loc) (ls : Array Slot), va_P G.1 classes (wT G a_t u4.1 u4.2 a_fr a_br a_e0 a_e1 a_e2 a_e3 a_lo a_ho z23 r2.2.2.1 c_mv c_ml r2.2.2.2.1 c_rt r2.2.2.2.2.1 r2.2.2.2.2.2 c_fi c_st c_vz) H → va_D A (wT G a_t u4.1 u4.2 a_fr a_br a_e0 a_e1 a_e2 a_e3 a_lo a_ho z23 r2.2.2.1 c_mv c_ml r2.2.2.2.1 c_rt r2.2.2.2.2.1 r2.2.2.2.2.2 c_fi c_st c_vz) → va_S A xs.heap H locs → lv_has ls 7 [(0, .ref a_t), (1, .int p_1), (3, .int r2.1), (4, .ref (zsh a_e0 a_e1 a_e2 a_e3 r5))] → W xp l xe { frames := 4, cells := rc, slots := 1024 * rc, locals := 128 } xs xm ([.ref a_t, .int p_1, .int p_2] : List Value).toArray xb xme xc H locs (0 + dr2) (1024 * (0 + dr2)) Q (F0 xm 113 ls []) := by
    intro z23 ey H locs ls hP hD hS hl
    subst ey
    try dsimp only at h
    refine lv_aload_n hx hb d_Tree_resized_113 rfl (lv_at hl 0 rfl) ?_
    refine va_get (D := G.1) (ci := 4) (v := .ref a_br) (C := "BranchStore$Tree") (T := F_Tree) (N := 15) hx hb hts i_Tree hown hK hP 0 rfl rfl 9 (by decide) (hts _ k_132) (fun _ h9 => h9) rfl d_Tree_resized_114 ?_
    refine lv_aload_n hx hb d_Tree_resized_117 rfl (lv_at hl 0 rfl) ?_
    refine va_get (D := G.1) (ci := 4) (v := .ref u4.1) (C := "BranchStore$Tree") (T := F_Tree) (N := 15) hx hb hts i_Tree hown hK hP 0 rfl rfl 0 (by decide) (hts _ k_123) (fun _ h9 => h9) rfl d_Tree_resized_118 ?_
    refine lv_iload_n hx hb d_Tree_resized_121 rfl (lv_at hl 1 rfl) ?_
    obtain ⟨h25, h⟩ := gi_k h
    refine va_iald hx hb hK hP 1 0 rfl rfl h25 d_Tree_resized_122 ?_
    refine lv_dup2_11 hx hb d_Tree_resized_123 rfl rfl ?_
    obtain ⟨h26, h⟩ := gi_k h
    refine va_iald hx hb hK hP 4 0 rfl rfl h26 d_Tree_resized_124 ?_
    refine lv_iconst (v := 1) hx hb d_Tree_resized_125 (by decide) ?_
    refine lv_isub hx hb d_Tree_resized_126 ?_
    obtain ⟨h27, h⟩ := gi_k h
    refine va_iast hx hb hK hP hD hS 4 0 rfl rfl h27 d_Tree_resized_127 (fun H locs hP hD hS => ?_)
    obtain ⟨c28, ec28⟩ : ∃ y, y = upd r2.2.2.2.2.2 (z23 p_1.toNatClampNeg).toNatClampNeg ((r2.2.2.2.2.2 (z23 p_1.toNatClampNeg).toNatClampNeg) - 1) := ⟨_, rfl⟩
    have h := nm_k h c28 ec28
    have hP : va_P G.1 classes (wT G a_t u4.1 u4.2 a_fr a_br a_e0 a_e1 a_e2 a_e3 a_lo a_ho z23 r2.2.2.1 c_mv c_ml r2.2.2.2.1 c_rt r2.2.2.2.2.1 c28 c_fi c_st c_vz) H := by rw [ec28]; exact hP
    have hD : va_D A (wT G a_t u4.1 u4.2 a_fr a_br a_e0 a_e1 a_e2 a_e3 a_lo a_ho z23 r2.2.2.1 c_mv c_ml r2.2.2.2.1 c_rt r2.2.2.2.2.1 c28 c_fi c_st c_vz) := by rw [ec28]; exact hD
    refine lv_aload_n hx hb d_Tree_resized_128 rfl (lv_at hl 0 rfl) ?_
    refine lv_iload_n hx hb d_Tree_resized_129 rfl (lv_at hl 1 rfl) ?_
    refine lv_aload hx hb d_Tree_resized_130 (lv_at hl 3 rfl) ?_
    refine zget_cells (k := r5) hx hb hts hown hK hP (zE_mk rfl rfl rfl rfl) d_Tree_resized_132 ?_
    obtain ⟨r29, hr29, h⟩ := ob h
    refine zcallv (wr := []) (w2 := fun _ => (wT G a_t u4.1 u4.2 a_fr a_br a_e0 a_e1 a_e2 a_e3 a_lo a_ho r29.1 r2.2.2.1 c_mv c_ml r2.2.2.2.1 c_rt r29.2 c28 c_fi c_st c_vz)) (zrunV (As := [.int p_1, .int (zcells r5)]) (rest := []) ⟨hx, hb, hml, hown, hts⟩ hN hK (c_Tree_release l G H.size a_t u4.1 u4.2 a_fr a_br a_e0 a_e1 a_e2 a_e3 a_lo a_ho z23 r2.2.2.1 c_mv c_ml r2.2.2.2.1 c_rt r2.2.2.2.2.1 c28 c_fi c_st c_vz p_1 (zcells r5) r29 hr29) ⟨rfl, rfl⟩ kv_Tree_172 ⟨Nat.le_of_ble_eq_true rfl, Nat.le_of_ble_eq_true rfl⟩ 0 rfl rfl rfl hl.1 (Nat.le_of_ble_eq_true rfl) d_Tree_resized_135 ⟨by show _ ≤ rc; omega, by show _ ≤ 1024 * rc; omega⟩) hP hD hS hA [0, 1, 2, 3, 4, 5, 6, 7, 8] [] [0, 1, 2, 3, 4, 5, 6, 7, 8] rfl rfl rfl rfl (by decide) rfl (fun _ => rfl) (fun _ H locs _ hP hD hS => ?_)
    refine lv_iload_n hx hb d_Tree_resized_138 rfl (lv_at hl 2 rfl) ?_
    have ey := Option.some.inj h
    rw [← ey] at hRa hRc
    have hRa : r0 = (r2.1, r29.1, r2.2.2.1, r2.2.2.2.1, r29.2, c28) := hRa
    have hRc : rc = 0 + dr2 + 0 := hRc
    subst hRa
    exact zreti (u4.1, u4.2) hQ hS.2.2 hx hb hr hlocks hP hD hS rfl (by omega) (by omega) d_Tree_resized_139
  have L57 : ∀ v : (Int32 × (Nat → Int32)), lp (fun v => s_Tree_resized_57 r2.2.2.1 p_1 r2.1 r5 r6 v.1 v.2) v = some y13 → ∀ (H : Heap) (locs : List Loc) (ls : Array Slot), va_P G.1 classes (wT G a_t u4.1 u4.2 a_fr a_br a_e0 a_e1 a_e2 a_e3 a_lo a_ho v.2 r2.2.2.1 c_mv c_ml r2.2.2.2.1 c_rt r2.2.2.2.2.1 r2.2.2.2.2.2 c_fi c_st c_vz) H → va_D A (wT G a_t u4.1 u4.2 a_fr a_br a_e0 a_e1 a_e2 a_e3 a_lo a_ho v.2 r2.2.2.1 c_mv c_ml r2.2.2.2.1 c_rt r2.2.2.2.2.1 r2.2.2.2.2.2 c_fi c_st c_vz) → va_S A xs.heap H locs → lv_has ls 7 [(0, .ref a_t), (1, .int p_1), (3, .int r2.1), (4, .ref (zsh a_e0 a_e1 a_e2 a_e3 r5)), (5, .ref (zsh a_e0 a_e1 a_e2 a_e3 r6)), (6, .int v.1)] → W xp l xe { frames := 4, cells := rc, slots := 1024 * rc, locals := 128 } xs xm ([.ref a_t, .int p_1, .int p_2] : List Value).toArray xb xme xc H locs (0 + dr2) (1024 * (0 + dr2)) Q (F0 xm 57 ls []) := by
    refine lp_walk _ (fun v x h hc he => ?_)
    obtain ⟨x6_11, c12⟩ := v
    intro H locs ls hP hD hS hl
    have h : s_Tree_resized_57 r2.2.2.1 p_1 r2.1 r5 r6 x6_11 c12 = some x := h
    unfold s_Tree_resized_57 at h
    refine lv_iload hx hb d_Tree_resized_57 (lv_at hl 5 rfl) ?_
    refine lv_iconst (v := (-1)) hx hb d_Tree_resized_59 (by decide) ?_
    refine lv_icmp_eq (tgt := 113) hx hb d_Tree_resized_60 (by decide) (fun q14 => ?_) (fun q14 => ?_)
    · have h := it h q14
      exact E57 c12 (he _ (Option.some.inj h).symm) H locs ls hP hD hS (lv_sub hl [0, 1, 2, 3] rfl)
    · have h := ie h q14
      refine lv_aload hx hb d_Tree_resized_63 (lv_at hl 4 rfl) ?_
      refine lv_aload_n hx hb d_Tree_resized_65 rfl (lv_at hl 0 rfl) ?_
      refine va_get (D := G.1) (ci := 4) (v := .ref u4.1) (C := "BranchStore$Tree") (T := F_Tree) (N := 15) hx hb hts i_Tree hown hK hP 0 rfl rfl 0 (by decide) (hts _ k_123) (fun _ h9 => h9) rfl d_Tree_resized_66 ?_
      refine lv_iload_n hx hb d_Tree_resized_69 rfl (lv_at hl 2 rfl) ?_
      refine lv_iload hx hb d_Tree_resized_70 (lv_at hl 5 rfl) ?_
      refine lv_aload_n hx hb d_Tree_resized_72 rfl (lv_at hl 0 rfl) ?_
      refine lv_iload_n hx hb d_Tree_resized_73 rfl (lv_at hl 1 rfl) ?_
      refine lv_iload hx hb d_Tree_resized_74 (lv_at hl 5 rfl) ?_
      obtain ⟨r15, hr15, h⟩ := ob h
      refine zpcalli (wr := []) (w2 := fun _ => (wT G a_t u4.1 u4.2 a_fr a_br a_e0 a_e1 a_e2 a_e3 a_lo a_ho c12 r2.2.2.1 c_mv c_ml r2.2.2.2.1 c_rt r2.2.2.2.2.1 r2.2.2.2.2.2 c_fi c_st c_vz)) (zrunV (As := [.int p_1, .int x6_11]) (rest := [.int x6_11, .int r2.1, .ref u4.1, .ref (zsh a_e0 a_e1 a_e2 a_e3 r6)]) ⟨hx, hb, hml, hown, hts⟩ hN hK (c_Tree_child l G H.size a_t u4.1 u4.2 a_fr a_br a_e0 a_e1 a_e2 a_e3 a_lo a_ho c12 r2.2.2.1 c_mv c_ml r2.2.2.2.1 c_rt r2.2.2.2.2.1 r2.2.2.2.2.2 c_fi c_st c_vz p_1 x6_11 r15 hr15) ⟨rfl, rfl⟩ kv_Tree_126 ⟨Nat.le_of_ble_eq_true rfl, Nat.le_of_ble_eq_true rfl⟩ 0 rfl rfl rfl hl.1 (Nat.le_of_ble_eq_true rfl) d_Tree_resized_76 ⟨by show _ ≤ rc; omega, by show _ ≤ 1024 * rc; omega⟩) hP hD hS hA [0, 1, 2, 3, 4, 5, 6, 7, 8] [] [0, 1, 2, 3, 4, 5, 6, 7, 8] rfl rfl rfl rfl (by decide) rfl (fun _ => rfl) (fun rr _ H hw hP hD hS => ?_)
      have hw := hw.symm
      subst hw
      obtain ⟨r16, hr16, h⟩ := ob h
      refine zv_add (k := r6) ⟨hx, hb, hml, hown, hts⟩ hN hK hP hD hS hA (zE_mk rfl rfl rfl rfl) rfl hr16 (Nat.le_of_ble_eq_true rfl) (Nat.le_of_ble_eq_true rfl) hl.1 (Nat.le_of_ble_eq_true rfl) d_Tree_resized_79 ⟨by show _ ≤ rc; omega, by show _ ≤ 1024 * rc; omega⟩ (fun H locs hP hD hS => ?_)
      have hP : va_P G.1 classes (wT G a_t u4.1 u4.2 a_fr a_br a_e0 a_e1 a_e2 a_e3 a_lo a_ho r16 r2.2.2.1 c_mv c_ml r2.2.2.2.1 c_rt r2.2.2.2.2.1 r2.2.2.2.2.2 c_fi c_st c_vz) H := hP
      have hD : va_D A (wT G a_t u4.1 u4.2 a_fr a_br a_e0 a_e1 a_e2 a_e3 a_lo a_ho r16 r2.2.2.1 c_mv c_ml r2.2.2.2.1 c_rt r2.2.2.2.2.1 r2.2.2.2.2.2 c_fi c_st c_vz) := hD
      refine lv_iload hx hb d_Tree_resized_82 (lv_at hl 5 rfl) ?_
      refine lv_sipush (v := 255) hx hb d_Tree_resized_84 (by decide) ?_
      obtain ⟨y20, hy20, h⟩ := ob h
      have J108 : ∀ (z22 : Int32), z22 = y20 → ∀ (H : Heap) (locs : List Loc) (ls : Array Slot), va_P G.1 classes (wT G a_t u4.1 u4.2 a_fr a_br a_e0 a_e1 a_e2 a_e3 a_lo a_ho r16 r2.2.2.1 c_mv c_ml r2.2.2.2.1 c_rt r2.2.2.2.2.1 r2.2.2.2.2.2 c_fi c_st c_vz) H → va_D A (wT G a_t u4.1 u4.2 a_fr a_br a_e0 a_e1 a_e2 a_e3 a_lo a_ho r16 r2.2.2.1 c_mv c_ml r2.2.2.2.1 c_rt r2.2.2.2.2.1 r2.2.2.2.2.2 c_fi c_st c_vz) → va_S A xs.heap H locs → lv_has ls 7 [(0, .ref a_t), (1, .int p_1), (3, .int r2.1), (4, .ref (zsh a_e0 a_e1 a_e2 a_e3 r5)), (5, .ref (zsh a_e0 a_e1 a_e2 a_e3 r6))] → W xp l xe { frames := 4, cells := rc, slots := 1024 * rc, locals := 128 } xs xm ([.ref a_t, .int p_1, .int p_2] : List Value).toArray xb xme xc H locs (0 + dr2) (1024 * (0 + dr2)) Q (F0 xm 108 ls [.int z22]) := by
        intro z22 ey H locs ls hP hD hS hl
        subst ey
        try dsimp only at h
        refine lv_istore (lv' := [(6, .int z22), (0, .ref a_t), (1, .int p_1), (3, .int r2.1), (4, .ref (zsh a_e0 a_e1 a_e2 a_e3 r5)), (5, .ref (zsh a_e0 a_e1 a_e2 a_e3 r6))]) hx hb d_Tree_resized_108 hl (by decide) rfl (fun ls hl => ?_)
        refine lv_goto (tgt := 57) hx hb d_Tree_resized_110 (by decide) ?_
        exact hc _ (Option.some.inj h).symm H locs ls hP hD hS (lv_sub hl [1, 2, 3, 4, 5, 0] rfl)
      have h := hy20
      refine lv_icmp_ne (tgt := 94) hx hb d_Tree_resized_87 (by decide) (fun q18 => ?_) (fun q18 => ?_)
      · have h := ie h q18
        refine lv_aload hx hb d_Tree_resized_94 (lv_at hl 3 rfl) ?_
        refine lv_aload_n hx hb d_Tree_resized_96 rfl (lv_at hl 0 rfl) ?_
        refine va_get (D := G.1) (ci := 4) (v := .ref u4.1) (C := "BranchStore$Tree") (T := F_Tree) (N := 15) hx hb hts i_Tree hown hK hP 0 rfl rfl 0 (by decide) (hts _ k_123) (fun _ h9 => h9) rfl d_Tree_resized_97 ?_
        refine lv_iload_n hx hb d_Tree_resized_100 rfl (lv_at hl 1 rfl) ?_
        refine lv_iload hx hb d_Tree_resized_101 (lv_at hl 5 rfl) ?_
        refine lv_iconst (v := 1) hx hb d_Tree_resized_103 (by decide) ?_
        refine lv_iadd hx hb d_Tree_resized_104 ?_
        obtain ⟨r19, hr19, h⟩ := ob h
        refine zv_from (k := r5) ⟨hx, hb, hml, hown, hts⟩ hN hK hP hD hS hA (zE_mk rfl rfl rfl rfl) rfl hr19 (Nat.le_of_ble_eq_true rfl) (Nat.le_of_ble_eq_true rfl) hl.1 (Nat.le_of_ble_eq_true rfl) d_Tree_resized_105 ⟨by show _ ≤ rc; omega, by show _ ≤ 1024 * rc; omega⟩ (fun H hP hS => ?_)
        exact J108 r19 (Option.some.inj h) H locs ls hP hD hS (lv_sub hl [0, 1, 2, 3, 4] rfl)
      · have h := it h q18
        refine lv_iconst (v := (-1)) hx hb d_Tree_resized_90 (by decide) ?_
        refine lv_goto (tgt := 108) hx hb d_Tree_resized_91 (by decide) ?_
        exact J108 (-1) (Option.some.inj h) H locs ls hP hD hS (lv_sub hl [0, 1, 2, 3, 4] rfl)
  exact L57 _ hy13 _ _ ls hP hD hS (lv_sub hl [4, 5, 3, 2, 1, 0] rfl)

theorem kv_Tree_151 : zKV "BranchStore$Tree" 151 y_Tree_leaf prog_7_method_9_code 7 (some .int) 3 := ⟨k_588, k_590, kp_19, k_2, k_591, by decide +kernel⟩
theorem kv_Tree_158 : zKV "BranchStore$Tree" 158 y_Tree_resized prog_7_method_27_code 7 (some .int) 2 := ⟨k_360, k_362, kp_14, k_2, k_363, by decide +kernel⟩
theorem kv_Tree_161 : zKV "BranchStore$Tree" 161 y_Tree_relink prog_7_method_25_code 4 none 3 := ⟨k_356, k_358, kp_13, k_2, k_359, by decide +kernel⟩
noncomputable def s_Tree_add_70 (c_cl : Nat) (c_kb : (Nat → Int32)) (x6 : Int32) (x7 : Int32) (x8 : Int32) (x9 : Int32) (c_c : (Nat → Int32)) : Option ((Int32 × Int32 × Int32 × (Nat → Int32)) ⊕ (Int32 × Int32 × Int32 × (Nat → Int32))) :=
if x9 ≤ 0 then
(some (.inr (x7, x8, x9, c_c)))
else
(gi (x9 + 3) c_cl <|
if x6 ≤ (c_c (x9 + 3).toNatClampNeg) then
(some (.inr (x7, x8, x9, c_c)))
else
(gi (x9 + 2) c_cl <|
gi (x9 + 2) c_cl <|
nm (upd c_c (x9 + 2).toNatClampNeg ((c_c (x9 + 2).toNatClampNeg) + 1)) fun c20 =>
gi (x9 + 3) c_cl <|
(f_Key_at c_kb (c20 (x9 + 3).toNatClampNeg)).bind fun r22 =>
(f_Tree_child c20 c_cl x9 r22).bind fun r23 =>
some (.inl (x9, r22, r23, c20))))
noncomputable def f_Tree_add (c_c : (Nat → Int32)) (c_cl : Nat) (c_en : Int32) (c_rt : Int32) (c_fr : (Nat → Int32)) (c_br : (Nat → Int32)) (c_kb : (Nat → Int32)) (c_kn : Int32) (c_kt : Int32) (p_2 : Int64) : Option (((Nat → Int32) × Nat × Int32 × Int32 × (Nat → Int32) × (Nat → Int32)) × Nat) :=
(if 0 < c_kt then
(some 1)
else
(if c_kn = 2 then
(some 1)
else
(some 0))).bind fun y5 =>
if c_rt = 0 then
(bd (f_Tree_leaf c_c c_cl c_en c_fr c_kb c_kn p_2 y5) fun r83 =>
some ((r83.2.1, r83.2.2.1, r83.2.2.2.1, r83.1, r83.2.2.2.2, c_br), 0))
else
((f_Tree_nearest c_c c_cl c_rt c_kb c_kn).bind fun r8 =>
(f_Tree_differs c_c c_cl c_kb c_kn r8).bind fun r9 =>
(lp (fun v => s_Tree_add_70 c_cl c_kb r9 v.1 v.2.1 v.2.2.1 v.2.2.2) (0, 0, c_rt, c_c)).bind fun y28 =>
(f_Key_at c_kb r9).bind fun r29 =>
if y28.2.2.1 ≤ 0 then
((f_Tree_byteOf y28.2.2.2 c_cl r8 r9).bind fun r31 =>
(f_Tree_below y28.2.2.2 c_cl y28.2.2.1).bind fun r32 =>
bd (f_Tree_leaf y28.2.2.2 c_cl c_en c_fr c_kb c_kn p_2 y5) fun r33 =>
bd (f_Tree_branch r33.2.1 r33.2.2.1 r33.2.2.2.1 r33.2.2.2.2 c_br 0 r9) fun r36 =>
(f_add 0 r36.2.2.1 r36.2.1 r36.1 r31 y28.2.2.1).bind fun r39 =>
(f_add 0 r36.2.2.1 r39 r36.1 r29 r33.1).bind fun r40 =>
gi (r36.1 + 2) r36.2.2.1 <|
nm (upd r40 (r36.1 + 2).toNatClampNeg (r32 + 1)) fun c42 =>
(f_Tree_relink c42 r36.2.2.1 c_rt y28.1 y28.2.1 r36.1).bind fun r43 =>
some ((r43.1, r36.2.2.1, r36.2.2.2.1, r43.2, r36.2.2.2.2.1, r36.2.2.2.2.2), 0))
else
(gi (y28.2.2.1 + 3) c_cl <|
if (y28.2.2.2 (y28.2.2.1 + 3).toNatClampNeg) = r9 then
(gi (y28.2.2.1 + 1) c_cl <|
(f_Tree_shapeOf y28.2.2.2 c_cl y28.2.2.1).bind fun r60 =>
if (y28.2.2.2 (y28.2.2.1 + 1).toNatClampNeg) = (zmost r60) then
(gi y28.2.2.1 c_cl <|
bd (f_Tree_resized y28.2.2.2 c_cl c_en c_fr c_br y28.2.2.1 ((y28.2.2.2 y28.2.2.1.toNatClampNeg) + 1)) fun r71 =>
(f_Tree_relink r71.2.1 r71.2.2.1 c_rt y28.1 y28.2.1 r71.1).bind fun r74 =>
bd (f_Tree_leaf r74.1 r71.2.2.1 r71.2.2.2.1 r71.2.2.2.2.1 c_kb c_kn p_2 y5) fun r75 =>
(f_Tree_shapeOf r75.2.1 r75.2.2.1 r71.1).bind fun r78 =>
(f_add r78 r75.2.2.1 r75.2.1 r71.1 r29 r75.1).bind fun r79 =>
gi (r71.1 + 2) r75.2.2.1 <|
gi (r71.1 + 2) r75.2.2.1 <|
nm (upd r79 (r71.1 + 2).toNatClampNeg ((r79 (r71.1 + 2).toNatClampNeg) + 1)) fun c82 =>
some ((c82, r75.2.2.1, r75.2.2.2.1, r74.2, r75.2.2.2.2, r71.2.2.2.2.2), 0))
else
(bd (f_Tree_leaf y28.2.2.2 c_cl c_en c_fr c_kb c_kn p_2 y5) fun r62 =>
(f_Tree_shapeOf r62.2.1 r62.2.2.1 y28.2.2.1).bind fun r65 =>
(f_add r65 r62.2.2.1 r62.2.1 y28.2.2.1 r29 r62.1).bind fun r66 =>
gi (y28.2.2.1 + 2) r62.2.2.1 <|
gi (y28.2.2.1 + 2) r62.2.2.1 <|
nm (upd r66 (y28.2.2.1 + 2).toNatClampNeg ((r66 (y28.2.2.1 + 2).toNatClampNeg) + 1)) fun c69 =>
some ((c69, r62.2.2.1, r62.2.2.2.1, c_rt, r62.2.2.2.2, c_br), 0)))
else
((f_Tree_byteOf y28.2.2.2 c_cl r8 r9).bind fun r46 =>
(f_Tree_below y28.2.2.2 c_cl y28.2.2.1).bind fun r47 =>
bd (f_Tree_leaf y28.2.2.2 c_cl c_en c_fr c_kb c_kn p_2 y5) fun r48 =>
bd (f_Tree_branch r48.2.1 r48.2.2.1 r48.2.2.2.1 r48.2.2.2.2 c_br 0 r9) fun r51 =>
(f_add 0 r51.2.2.1 r51.2.1 r51.1 r46 y28.2.2.1).bind fun r54 =>
(f_add 0 r51.2.2.1 r54 r51.1 r29 r48.1).bind fun r55 =>
gi (r51.1 + 2) r51.2.2.1 <|
nm (upd r55 (r51.1 + 2).toNatClampNeg (r47 + 1)) fun c57 =>
(f_Tree_relink c57 r51.2.2.1 c_rt y28.1 y28.2.1 r51.1).bind fun r58 =>
some ((r58.1, r51.2.2.1, r51.2.2.2.1, r58.2, r51.2.2.2.2.1, r51.2.2.2.2.2), 0))))
set_option maxHeartbeats 8000000 in
set_option maxRecDepth 100000 in
theorem c_Tree_add (l : Launch) (G : zG) (sz : Nat) (a_t a_c a_mv a_fr a_br a_e0 a_e1 a_e2 a_e3 a_lo a_ho a_ko a_kq : Nat) (c_c : (Nat → Int32)) (c_cl : Nat) (c_mv : (Nat → Int32)) (c_ml : Nat) (c_en : Int32) (c_rt : Int32) (c_fr : (Nat → Int32)) (c_br : (Nat → Int32)) (c_fi : Int64) (c_st : Int64) (c_vz : Int64) (c_kb : (Nat → Int32)) (c_kn : Int32) (c_kt : Int32) (p_2 : Int64) (r0 : ((Nat → Int32) × Nat × Int32 × Int32 × (Nat → Int32) × (Nat → Int32))) (rc : Nat) (hf : f_Tree_add c_c c_cl c_en c_rt c_fr c_br c_kb c_kn c_kt p_2 = some (r0, rc)) :
    Met l y_Tree_add (Cond.code y_Tree_add prog_7_method_26_code 15 none :: lw_ok) { frames := 6, cells := rc, slots := 1024 * rc, locals := 154 } (zPc G sz [.ref a_t, .ref a_ko, .long p_2] (wT G a_t a_c a_mv a_fr a_br a_e0 a_e1 a_e2 a_e3 a_lo a_ho c_c c_cl c_mv c_ml c_en c_rt c_fr c_br c_fi c_st c_vz ++ wK G a_ko a_kq c_kb c_kn c_kt))
      ((fun (A : Nat → Prop) => va_Qv (fun (u : Nat × Nat) => True) (fun u t => zB G A (wT G a_t u.1 u.2 a_fr a_br a_e0 a_e1 a_e2 a_e3 a_lo a_ho r0.1 r0.2.1 c_mv c_ml r0.2.2.1 r0.2.2.2.1 r0.2.2.2.2.1 r0.2.2.2.2.2 c_fi c_st c_vz ++ wK G a_ko a_kq c_kb c_kn c_kt) t) A) (va_A (wT G a_t a_c a_mv a_fr a_br a_e0 a_e1 a_e2 a_e3 a_lo a_ho c_c c_cl c_mv c_ml c_en c_rt c_fr c_br c_fi c_st c_vz ++ wK G a_ko a_kq c_kb c_kn c_kt) sz)) rc (1024 * rc) (va_A (wT G a_t a_c a_mv a_fr a_br a_e0 a_e1 a_e2 a_e3 a_lo a_ho c_c c_cl c_mv c_ml c_en c_rt c_fr c_br c_fi c_st c_vz ++ wK G a_ko a_kq c_kb c_kn c_kt) sz) := by
  refine zMet (Qc := fun (A : Nat → Prop) => va_Qv (fun (u : Nat × Nat) => True) (fun u t => zB G A (wT G a_t u.1 u.2 a_fr a_br a_e0 a_e1 a_e2 a_e3 a_lo a_ho r0.1 r0.2.1 c_mv c_ml r0.2.2.1 r0.2.2.2.1 r0.2.2.2.2.1 r0.2.2.2.2.2 c_fi c_st c_vz ++ wK G a_ko a_kq c_kb c_kn c_kt) t) A) (by decide) (Nat.le_of_ble_eq_true rfl) (fun xp xe xs xm xb xme xc A ls Q H locs C hN hK hP hD hS hA hl hQ => ?_)
  obtain ⟨hx, hb, hr, hts, hown, hlocks, hml, hin⟩ := C
  have hl : lv_has ls 15 [(0, .ref a_t), (1, .ref a_ko), (2, .long p_2)] := hl
  have h := hf
  unfold f_Tree_add at h
  have hRa : r0 = (r0, rc).1 := rfl
  have hRc : rc = 0 + (r0, rc).2 := (Nat.zero_add _).symm
  refine W.widen (k := 0) (n := 1024 * 0) (Nat.le_refl _) (Nat.le_refl _) ?_
  refine lv_aload_n hx hb d_Tree_add_0 rfl (lv_at hl 1 rfl) ?_
  refine va_get (D := G.1) (ci := 0) (v := .int c_kt) (C := "BranchStore$Key") (T := F_Key) (N := 3) hx hb hts i_Key hown hK hP 9 rfl rfl 2 (by decide) (hts _ k_114) (fun _ h9 => h9) rfl d_Tree_add_1 ?_
  obtain ⟨y4, hy4, h⟩ := ob h
  have J20 : ∀ (z6 : Int32), narrow .boolean (.int z6) = .int z6 → z6 = y4 → ∀ (H : Heap) (locs : List Loc) (ls : Array Slot), va_P G.1 classes (wT G a_t a_c a_mv a_fr a_br a_e0 a_e1 a_e2 a_e3 a_lo a_ho c_c c_cl c_mv c_ml c_en c_rt c_fr c_br c_fi c_st c_vz ++ wK G a_ko a_kq c_kb c_kn c_kt) H → va_D A (wT G a_t a_c a_mv a_fr a_br a_e0 a_e1 a_e2 a_e3 a_lo a_ho c_c c_cl c_mv c_ml c_en c_rt c_fr c_br c_fi c_st c_vz ++ wK G a_ko a_kq c_kb c_kn c_kt) → va_S A xs.heap H locs → lv_has ls 15 [(0, .ref a_t), (1, .ref a_ko), (2, .long p_2)] → W xp l xe { frames := 6, cells := rc, slots := 1024 * rc, locals := 154 } xs xm ([.ref a_t, .ref a_ko, .long p_2] : List Value).toArray xb xme xc H locs (0) (1024 * (0)) Q (F0 xm 20 ls [.int z6]) := by
    intro z6 hzz6 ey H locs ls hP hD hS hl
    subst ey
    try dsimp only at h
    refine lv_istore (lv' := [(4, .int z6), (0, .ref a_t), (1, .ref a_ko), (2, .long p_2)]) hx hb d_Tree_add_20 hl (by decide) rfl (fun ls hl => ?_)
    refine lv_aload_n hx hb d_Tree_add_22 rfl (lv_at hl 1 rfl) ?_
    refine va_get (D := G.1) (ci := 4) (v := .int c_rt) (C := "BranchStore$Tree") (T := F_Tree) (N := 15) hx hb hts i_Tree hown hK hP 0 rfl rfl 3 (by decide) (hts _ k_126) (fun _ h9 => h9) rfl d_Tree_add_23 ?_
    refine lv_if_ne (tgt := 42) hx hb d_Tree_add_26 (by decide) (fun q7 => ?_) (fun q7 => ?_)
    · have h := ie h q7
      refine lv_aload_n hx hb d_Tree_add_42 rfl (lv_at hl 1 rfl) ?_
      refine lv_aload_n hx hb d_Tree_add_43 rfl (lv_at hl 2 rfl) ?_
      obtain ⟨r8, hr8, h⟩ := ob h
      refine zpcalli (wr := []) (w2 := fun _ => (wT G a_t a_c a_mv a_fr a_br a_e0 a_e1 a_e2 a_e3 a_lo a_ho c_c c_cl c_mv c_ml c_en c_rt c_fr c_br c_fi c_st c_vz ++ wK G a_ko a_kq c_kb c_kn c_kt)) (zrunV (As := [.ref a_ko]) (rest := []) ⟨hx, hb, hml, hown, hts⟩ hN hK (c_Tree_nearest l G H.size a_t a_c a_mv a_fr a_br a_e0 a_e1 a_e2 a_e3 a_lo a_ho a_ko a_kq c_c c_cl c_mv c_ml c_en c_rt c_fr c_br c_fi c_st c_vz c_kb c_kn c_kt r8 hr8) ⟨rfl, rfl⟩ kv_Tree_141 ⟨Nat.le_of_ble_eq_true rfl, Nat.le_of_ble_eq_true rfl⟩ 0 rfl rfl rfl hl.1 (Nat.le_of_ble_eq_true rfl) d_Tree_add_44 ⟨by show _ ≤ rc; omega, by show _ ≤ 1024 * rc; omega⟩) hP hD hS hA [0, 1, 2, 3, 4, 5, 6, 7, 8, 9, 10] [] [0, 1, 2, 3, 4, 5, 6, 7, 8, 9, 10] rfl rfl rfl rfl (by decide) rfl (fun _ => rfl) (fun rr _ H hw hP hD hS => ?_)
      have hw := hw.symm
      subst hw
      refine lv_istore (lv' := [(5, .int r8), (4, .int z6), (0, .ref a_t), (1, .ref a_ko), (2, .long p_2)]) hx hb d_Tree_add_47 hl (by decide) rfl (fun ls hl => ?_)
      refine lv_aload_n hx hb d_Tree_add_49 rfl (lv_at hl 2 rfl) ?_
      refine lv_aload_n hx hb d_Tree_add_50 rfl (lv_at hl 3 rfl) ?_
      refine lv_iload hx hb d_Tree_add_51 (lv_at hl 0 rfl) ?_
      obtain ⟨r9, hr9, h⟩ := ob h
      refine zpcalli (wr := []) (w2 := fun _ => (wT G a_t a_c a_mv a_fr a_br a_e0 a_e1 a_e2 a_e3 a_lo a_ho c_c c_cl c_mv c_ml c_en c_rt c_fr c_br c_fi c_st c_vz ++ wK G a_ko a_kq c_kb c_kn c_kt)) (zrunV (As := [.ref a_ko, .int r8]) (rest := []) ⟨hx, hb, hml, hown, hts⟩ hN hK (c_Tree_differs l G H.size a_t a_c a_mv a_fr a_br a_e0 a_e1 a_e2 a_e3 a_lo a_ho a_ko a_kq c_c c_cl c_mv c_ml c_en c_rt c_fr c_br c_fi c_st c_vz c_kb c_kn c_kt r8 r9 hr9) ⟨rfl, rfl⟩ kv_Tree_137 ⟨Nat.le_of_ble_eq_true rfl, Nat.le_of_ble_eq_true rfl⟩ 0 rfl rfl rfl hl.1 (Nat.le_of_ble_eq_true rfl) d_Tree_add_53 ⟨by show _ ≤ rc; omega, by show _ ≤ 1024 * rc; omega⟩) hP hD hS hA [0, 1, 2, 3, 4, 5, 6, 7, 8, 9, 10] [] [0, 1, 2, 3, 4, 5, 6, 7, 8, 9, 10] rfl rfl rfl rfl (by decide) rfl (fun _ => rfl) (fun rr _ H hw hP hD hS => ?_)
      have hw := hw.symm
      subst hw
      refine lv_istore (lv' := [(6, .int r9), (5, .int r8), (4, .int z6), (0, .ref a_t), (1, .ref a_ko), (2, .long p_2)]) hx hb d_Tree_add_56 hl (by decide) rfl (fun ls hl => ?_)
      refine lv_iconst (v := 0) hx hb d_Tree_add_58 (by decide) ?_
      refine lv_istore (lv' := [(7, .int 0), (6, .int r9), (5, .int r8), (4, .int z6), (0, .ref a_t), (1, .ref a_ko), (2, .long p_2)]) hx hb d_Tree_add_59 hl (by decide) rfl (fun ls hl => ?_)
      refine lv_iconst (v := 0) hx hb d_Tree_add_61 (by decide) ?_
      refine lv_istore (lv' := [(8, .int 0), (7, .int 0), (6, .int r9), (5, .int r8), (4, .int z6), (0, .ref a_t), (1, .ref a_ko), (2, .long p_2)]) hx hb d_Tree_add_62 hl (by decide) rfl (fun ls hl => ?_)
      refine lv_aload_n hx hb d_Tree_add_64 rfl (lv_at hl 5 rfl) ?_
      refine va_get (D := G.1) (ci := 4) (v := .int c_rt) (C := "BranchStore$Tree") (T := F_Tree) (N := 15) hx hb hts i_Tree hown hK hP 0 rfl rfl 3 (by decide) (hts _ k_126) (fun _ h9 => h9) rfl d_Tree_add_65 ?_
      refine lv_istore (lv' := [(9, .int c_rt), (8, .int 0), (7, .int 0), (6, .int r9), (5, .int r8), (4, .int z6), (0, .ref a_t), (1, .ref a_ko), (2, .long p_2)]) hx hb d_Tree_add_68 hl (by decide) rfl (fun ls hl => ?_)
      obtain ⟨y14, hy14, h⟩ := ob h
      have E70 : ∀ (z24 : Int32) (z25 : Int32) (z26 : Int32) (z27 : (Nat → Int32)), (z24, z25, z26, z27) = y14 → ∀ (H : Heap) (locs : List Loc) (ls : Array Slot), va_P G.1 classes (wT G a_t a_c a_mv a_fr a_br a_e0 a_e1 a_e2 a_e3 a_lo a_ho z27 c_cl c_mv c_ml c_en c_rt c_fr c_br c_fi c_st c_vz ++ wK G a_ko a_kq c_kb c_kn c_kt) H → va_D A (wT G a_t a_c a_mv a_fr a_br a_e0 a_e1 a_e2 a_e3 a_lo a_ho z27 c_cl c_mv c_ml c_en c_rt c_fr c_br c_fi c_st c_vz ++ wK G a_ko a_kq c_kb c_kn c_kt) → va_S A xs.heap H locs → lv_has ls 15 [(0, .ref a_t), (1, .ref a_ko), (2, .long p_2), (4, .int z6), (5, .int r8), (6, .int r9), (7, .int z24), (8, .int z25), (9, .int z26)] → W xp l xe { frames := 6, cells := rc, slots := 1024 * rc, locals := 154 } xs xm ([.ref a_t, .ref a_ko, .long p_2] : List Value).toArray xb xme xc H locs (0) (1024 * (0)) Q (F0 xm 134 ls []) := by
        intro z24 z25 z26 z27 ey H locs ls hP hD hS hl
        subst ey
        try dsimp only at h
        refine lv_aload_n hx hb d_Tree_add_134 rfl (lv_at hl 1 rfl) ?_
        refine lv_iload hx hb d_Tree_add_135 (lv_at hl 5 rfl) ?_
        obtain ⟨r29, hr29, h⟩ := ob h
        refine zpcalli (wr := [(a_t, .inr (4, [.ref a_c, .ref a_mv, .int c_en, .int c_rt, .ref a_fr, .ref a_e0, .ref a_e1, .ref a_e2, .ref a_e3, .ref a_br, .ref a_lo, .ref a_ho, .long c_fi, .long c_st, .long c_vz])), (a_c, .inl (G.2.1, c_cl, .inl z27)), (a_mv, .inl (G.2.1, c_ml, .inl c_mv)), (a_fr, .inl (G.2.1, 261, .inl c_fr)), (a_br, .inl (G.2.1, 4, .inl c_br)), (a_e0, .inr (1, [.int 0, .int 9, .int 4, .int 5])), (a_e1, .inr (1, [.int 1, .int 24, .int 16, .int 8])), (a_e2, .inr (2, [.int 2, .int 116, .int 48])), (a_e3, .inr (3, [.int 3, .int 260, .int 256]))]) (w2 := fun _ => (wT G a_t a_c a_mv a_fr a_br a_e0 a_e1 a_e2 a_e3 a_lo a_ho z27 c_cl c_mv c_ml c_en c_rt c_fr c_br c_fi c_st c_vz ++ wK G a_ko a_kq c_kb c_kn c_kt)) (zrunV (As := [.int r9]) (rest := []) ⟨hx, hb, hml, hown, hts⟩ hN hK (c_Key_at l G H.size a_ko a_kq c_kb c_kn c_kt r9 r29 hr29) ⟨rfl, rfl⟩ kv_Tree_92 ⟨Nat.le_of_ble_eq_true rfl, Nat.le_of_ble_eq_true rfl⟩ 0 rfl rfl rfl hl.1 (Nat.le_of_ble_eq_true rfl) d_Tree_add_137 ⟨by show _ ≤ rc; omega, by show _ ≤ 1024 * rc; omega⟩) hP hD hS hA [9, 10] [0, 1, 2, 3, 4, 5, 6, 7, 8] [0, 1, 2, 3, 4, 5, 6, 7, 8, 9, 10] rfl rfl rfl rfl (by decide) rfl (fun _ => rfl) (fun rr _ H hw hP hD hS => ?_)
        have hw := hw.symm
        subst hw
        refine lv_istore (lv' := [(10, .int r29), (0, .ref a_t), (1, .ref a_ko), (2, .long p_2), (4, .int z6), (5, .int r8), (6, .int r9), (7, .int z24), (8, .int z25), (9, .int z26)]) hx hb d_Tree_add_140 hl (by decide) rfl (fun ls hl => ?_)
        refine lv_iload hx hb d_Tree_add_142 (lv_at hl 9 rfl) ?_
        refine lv_if_le (tgt := 252) hx hb d_Tree_add_144 (by decide) (fun q30 => ?_) (fun q30 => ?_)
        · have h := it h q30
          refine lv_aload_n hx hb d_Tree_add_252 rfl (lv_at hl 1 rfl) ?_
          refine lv_iload hx hb d_Tree_add_253 (lv_at hl 5 rfl) ?_
          refine lv_iload hx hb d_Tree_add_255 (lv_at hl 6 rfl) ?_
          obtain ⟨r31, hr31, h⟩ := ob h
          refine zpcalli (wr := [(a_ko, .inr (0, [.ref a_kq, .int c_kn, .int c_kt])), (a_kq, .inl (G.2.2.1, 50, .inl c_kb))]) (w2 := fun _ => (wT G a_t a_c a_mv a_fr a_br a_e0 a_e1 a_e2 a_e3 a_lo a_ho z27 c_cl c_mv c_ml c_en c_rt c_fr c_br c_fi c_st c_vz ++ wK G a_ko a_kq c_kb c_kn c_kt)) (zrunV (As := [.int r8, .int r9]) (rest := []) ⟨hx, hb, hml, hown, hts⟩ hN hK (c_Tree_byteOf l G H.size a_t a_c a_mv a_fr a_br a_e0 a_e1 a_e2 a_e3 a_lo a_ho z27 c_cl c_mv c_ml c_en c_rt c_fr c_br c_fi c_st c_vz r8 r9 r31 hr31) ⟨rfl, rfl⟩ kv_Tree_105 ⟨Nat.le_of_ble_eq_true rfl, Nat.le_of_ble_eq_true rfl⟩ 0 rfl rfl rfl hl.1 (Nat.le_of_ble_eq_true rfl) d_Tree_add_257 ⟨by show _ ≤ rc; omega, by show _ ≤ 1024 * rc; omega⟩) hP hD hS hA [0, 1, 2, 3, 4, 5, 6, 7, 8] [9, 10] [2, 3, 4, 5, 6, 7, 8, 9, 10, 0, 1] rfl rfl rfl rfl (by decide) rfl (fun _ => rfl) (fun rr _ H hw hP hD hS => ?_)
          have hw := hw.symm
          subst hw
          refine lv_istore (lv' := [(11, .int r31), (10, .int r29), (0, .ref a_t), (1, .ref a_ko), (2, .long p_2), (4, .int z6), (5, .int r8), (6, .int r9), (7, .int z24), (8, .int z25), (9, .int z26)]) hx hb d_Tree_add_260 hl (by decide) rfl (fun ls hl => ?_)
          refine lv_aload_n hx hb d_Tree_add_262 rfl (lv_at hl 2 rfl) ?_
          refine lv_iload hx hb d_Tree_add_263 (lv_at hl 10 rfl) ?_
          obtain ⟨r32, hr32, h⟩ := ob h
          refine zpcalli (wr := [(a_ko, .inr (0, [.ref a_kq, .int c_kn, .int c_kt])), (a_kq, .inl (G.2.2.1, 50, .inl c_kb))]) (w2 := fun _ => (wT G a_t a_c a_mv a_fr a_br a_e0 a_e1 a_e2 a_e3 a_lo a_ho z27 c_cl c_mv c_ml c_en c_rt c_fr c_br c_fi c_st c_vz ++ wK G a_ko a_kq c_kb c_kn c_kt)) (zrunV (As := [.int z26]) (rest := []) ⟨hx, hb, hml, hown, hts⟩ hN hK (c_Tree_below l G H.size a_t a_c a_mv a_fr a_br a_e0 a_e1 a_e2 a_e3 a_lo a_ho z27 c_cl c_mv c_ml c_en c_rt c_fr c_br c_fi c_st c_vz z26 r32 hr32) ⟨rfl, rfl⟩ kv_Tree_113 ⟨Nat.le_of_ble_eq_true rfl, Nat.le_of_ble_eq_true rfl⟩ 0 rfl rfl rfl hl.1 (Nat.le_of_ble_eq_true rfl) d_Tree_add_265 ⟨by show _ ≤ rc; omega, by show _ ≤ 1024 * rc; omega⟩) hP hD hS hA [0, 1, 2, 3, 4, 5, 6, 7, 8] [9, 10] [2, 3, 4, 5, 6, 7, 8, 9, 10, 0, 1] rfl rfl rfl rfl (by decide) rfl (fun _ => rfl) (fun rr _ H hw hP hD hS => ?_)
          have hw := hw.symm
          subst hw
          refine lv_istore (lv' := [(12, .int r32), (11, .int r31), (10, .int r29), (0, .ref a_t), (1, .ref a_ko), (2, .long p_2), (4, .int z6), (5, .int r8), (6, .int r9), (7, .int z24), (8, .int z25), (9, .int z26)]) hx hb d_Tree_add_268 hl (by decide) rfl (fun ls hl => ?_)
          refine lv_aload_n hx hb d_Tree_add_270 rfl (lv_at hl 3 rfl) ?_
          refine lv_aload_n hx hb d_Tree_add_271 rfl (lv_at hl 4 rfl) ?_
          refine lv_lload_n hx hb d_Tree_add_272 rfl (lv_at hl 5 rfl) ?_
          refine lv_iload hx hb d_Tree_add_273 (lv_at hl 6 rfl) ?_
          obtain ⟨r33, dr33, y34, hr33, h, hRa, hRc⟩ := bd_k h hRa hRc
          refine zcalli (wr := []) (w2 := fun (u35 : Nat × Nat) => (wT G a_t u35.1 u35.2 a_fr a_br a_e0 a_e1 a_e2 a_e3 a_lo a_ho r33.2.1 r33.2.2.1 c_mv c_ml r33.2.2.2.1 c_rt r33.2.2.2.2 c_br c_fi c_st c_vz ++ wK G a_ko a_kq c_kb c_kn c_kt)) (zrunV (As := [.ref a_ko, .long p_2, .int z6]) (rest := []) ⟨hx, hb, hml, hown, hts⟩ hN hK (c_Tree_leaf l G H.size a_t a_c a_mv a_fr a_br a_e0 a_e1 a_e2 a_e3 a_lo a_ho a_ko a_kq z27 c_cl c_mv c_ml c_en c_rt c_fr c_br c_fi c_st c_vz c_kb c_kn c_kt p_2 z6 hzz6 r33 dr33 hr33) ⟨rfl, rfl⟩ kv_Tree_151 ⟨Nat.le_of_ble_eq_true rfl, Nat.le_of_ble_eq_true rfl⟩ 0 rfl rfl rfl hl.1 (Nat.le_of_ble_eq_true rfl) d_Tree_add_275 ⟨by show _ ≤ rc; omega, by show _ ≤ 1024 * rc; omega⟩) hP hD hS hA [0, 1, 2, 3, 4, 5, 6, 7, 8, 9, 10] [] [0, 1, 2, 3, 4, 5, 6, 7, 8, 9, 10] rfl rfl rfl rfl (by decide) rfl (fun _ => rfl) (fun rr u35 H locs hw hP hD hS => ?_)
          refine W.widen (k := 0 + dr33) (n := 1024 * (0 + dr33)) (by omega) (by omega) ?_
          have hw := hw.symm
          subst hw
          refine lv_istore (lv' := [(13, .int r33.1), (12, .int r32), (11, .int r31), (10, .int r29), (0, .ref a_t), (1, .ref a_ko), (2, .long p_2), (4, .int z6), (5, .int r8), (6, .int r9), (7, .int z24), (8, .int z25), (9, .int z26)]) hx hb d_Tree_add_278 hl (by decide) rfl (fun ls hl => ?_)
          refine lv_aload_n hx hb d_Tree_add_280 rfl (lv_at hl 4 rfl) ?_
          refine lv_iconst (v := 0) hx hb d_Tree_add_281 (by decide) ?_
          refine lv_iload hx hb d_Tree_add_282 (lv_at hl 9 rfl) ?_
          obtain ⟨r36, dr36, y37, hr36, h, hRa, hRc⟩ := bd_k h hRa hRc
          refine zcalli (wr := [(a_ko, .inr (0, [.ref a_kq, .int c_kn, .int c_kt])), (a_kq, .inl (G.2.2.1, 50, .inl c_kb))]) (w2 := fun (u38 : Nat × Nat) => (wT G a_t u38.1 u38.2 a_fr a_br a_e0 a_e1 a_e2 a_e3 a_lo a_ho r36.2.1 r36.2.2.1 c_mv c_ml r36.2.2.2.1 c_rt r36.2.2.2.2.1 r36.2.2.2.2.2 c_fi c_st c_vz ++ wK G a_ko a_kq c_kb c_kn c_kt)) (zrunV (As := [.int 0, .int r9]) (rest := []) ⟨hx, hb, hml, hown, hts⟩ hN hK (c_Tree_branch l G H.size a_t u35.1 u35.2 a_fr a_br a_e0 a_e1 a_e2 a_e3 a_lo a_ho r33.2.1 r33.2.2.1 c_mv c_ml r33.2.2.2.1 c_rt r33.2.2.2.2 c_br c_fi c_st c_vz 0 r9 r36 dr36 hr36) ⟨rfl, rfl⟩ kv_Tree_169 ⟨Nat.le_of_ble_eq_true rfl, Nat.le_of_ble_eq_true rfl⟩ 0 rfl rfl rfl hl.1 (Nat.le_of_ble_eq_true rfl) d_Tree_add_284 ⟨by show _ ≤ rc; omega, by show _ ≤ 1024 * rc; omega⟩) hP hD hS hA [0, 1, 2, 3, 4, 5, 6, 7, 8] [9, 10] [2, 3, 4, 5, 6, 7, 8, 9, 10, 0, 1] rfl rfl rfl rfl (by decide) rfl (fun _ => rfl) (fun rr u38 H locs hw hP hD hS => ?_)
          refine W.widen (k := 0 + dr33 + dr36) (n := 1024 * (0 + dr33 + dr36)) (by omega) (by omega) ?_
          have hw := hw.symm
          subst hw
          refine lv_istore (lv' := [(14, .int r36.1), (13, .int r33.1), (12, .int r32), (11, .int r31), (10, .int r29), (0, .ref a_t), (1, .ref a_ko), (2, .long p_2), (4, .int z6), (5, .int r8), (6, .int r9), (7, .int z24), (8, .int z25), (9, .int z26)]) hx hb d_Tree_add_287 hl (by decide) rfl (fun ls hl => ?_)
          refine lv_aload_n hx hb d_Tree_add_289 rfl (lv_at hl 5 rfl) ?_
          refine va_get (D := G.1) (ci := 4) (v := .ref (zsh a_e0 a_e1 a_e2 a_e3 0)) (C := "BranchStore$Tree") (T := F_Tree) (N := 15) hx hb hts i_Tree hown hK hP 0 rfl rfl 5 (by decide) (hts _ k_128) (fun _ h9 => h9) rfl d_Tree_add_290 ?_
          refine lv_aload_n hx hb d_Tree_add_293 rfl (lv_at hl 5 rfl) ?_
          refine va_get (D := G.1) (ci := 4) (v := .ref u38.1) (C := "BranchStore$Tree") (T := F_Tree) (N := 15) hx hb hts i_Tree hown hK hP 0 rfl rfl 0 (by decide) (hts _ k_123) (fun _ h9 => h9) rfl d_Tree_add_294 ?_
          refine lv_iload hx hb d_Tree_add_297 (lv_at hl 0 rfl) ?_
          refine lv_iload hx hb d_Tree_add_299 (lv_at hl 3 rfl) ?_
          refine lv_iload hx hb d_Tree_add_301 (lv_at hl 13 rfl) ?_
          obtain ⟨r39, hr39, h⟩ := ob h
          refine zv_add (k := 0) ⟨hx, hb, hml, hown, hts⟩ hN hK hP hD hS hA (zE_mk rfl rfl rfl rfl) rfl hr39 (Nat.le_of_ble_eq_true rfl) (Nat.le_of_ble_eq_true rfl) hl.1 (Nat.le_of_ble_eq_true rfl) d_Tree_add_303 ⟨by show _ ≤ rc; omega, by show _ ≤ 1024 * rc; omega⟩ (fun H locs hP hD hS => ?_)
          have hP : va_P G.1 classes (wT G a_t u38.1 u38.2 a_fr a_br a_e0 a_e1 a_e2 a_e3 a_lo a_ho r39 r36.2.2.1 c_mv c_ml r36.2.2.2.1 c_rt r36.2.2.2.2.1 r36.2.2.2.2.2 c_fi c_st c_vz ++ wK G a_ko a_kq c_kb c_kn c_kt) H := hP
          have hD : va_D A (wT G a_t u38.1 u38.2 a_fr a_br a_e0 a_e1 a_e2 a_e3 a_lo a_ho r39 r36.2.2.1 c_mv c_ml r36.2.2.2.1 c_rt r36.2.2.2.2.1 r36.2.2.2.2.2 c_fi c_st c_vz ++ wK G a_ko a_kq c_kb c_kn c_kt) := hD
          refine lv_aload_n hx hb d_Tree_add_306 rfl (lv_at hl 5 rfl) ?_
          refine va_get (D := G.1) (ci := 4) (v := .ref (zsh a_e0 a_e1 a_e2 a_e3 0)) (C := "BranchStore$Tree") (T := F_Tree) (N := 15) hx hb hts i_Tree hown hK hP 0 rfl rfl 5 (by decide) (hts _ k_128) (fun _ h9 => h9) rfl d_Tree_add_307 ?_
          refine lv_aload_n hx hb d_Tree_add_310 rfl (lv_at hl 5 rfl) ?_
          refine va_get (D := G.1) (ci := 4) (v := .ref u38.1) (C := "BranchStore$Tree") (T := F_Tree) (N := 15) hx hb hts i_Tree hown hK hP 0 rfl rfl 0 (by decide) (hts _ k_123) (fun _ h9 => h9) rfl d_Tree_add_311 ?_
          refine lv_iload hx hb d_Tree_add_314 (lv_at hl 0 rfl) ?_
          refine lv_iload hx hb d_Tree_add_316 (lv_at hl 4 rfl) ?_
          refine lv_iload hx hb d_Tree_add_318 (lv_at hl 1 rfl) ?_
          obtain ⟨r40, hr40, h⟩ := ob h
          refine zv_add (k := 0) ⟨hx, hb, hml, hown, hts⟩ hN hK hP hD hS hA (zE_mk rfl rfl rfl rfl) rfl hr40 (Nat.le_of_ble_eq_true rfl) (Nat.le_of_ble_eq_true rfl) hl.1 (Nat.le_of_ble_eq_true rfl) d_Tree_add_320 ⟨by show _ ≤ rc; omega, by show _ ≤ 1024 * rc; omega⟩ (fun H locs hP hD hS => ?_)
          have hP : va_P G.1 classes (wT G a_t u38.1 u38.2 a_fr a_br a_e0 a_e1 a_e2 a_e3 a_lo a_ho r40 r36.2.2.1 c_mv c_ml r36.2.2.2.1 c_rt r36.2.2.2.2.1 r36.2.2.2.2.2 c_fi c_st c_vz ++ wK G a_ko a_kq c_kb c_kn c_kt) H := hP
          have hD : va_D A (wT G a_t u38.1 u38.2 a_fr a_br a_e0 a_e1 a_e2 a_e3 a_lo a_ho r40 r36.2.2.1 c_mv c_ml r36.2.2.2.1 c_rt r36.2.2.2.2.1 r36.2.2.2.2.2 c_fi c_st c_vz ++ wK G a_ko a_kq c_kb c_kn c_kt) := hD
          refine lv_aload_n hx hb d_Tree_add_323 rfl (lv_at hl 5 rfl) ?_
          refine va_get (D := G.1) (ci := 4) (v := .ref u38.1) (C := "BranchStore$Tree") (T := F_Tree) (N := 15) hx hb hts i_Tree hown hK hP 0 rfl rfl 0 (by decide) (hts _ k_123) (fun _ h9 => h9) rfl d_Tree_add_324 ?_
          refine lv_iload hx hb d_Tree_add_327 (lv_at hl 0 rfl) ?_
          refine lv_iconst (v := 2) hx hb d_Tree_add_329 (by decide) ?_
          refine lv_iadd hx hb d_Tree_add_330 ?_
          refine lv_iload hx hb d_Tree_add_331 (lv_at hl 2 rfl) ?_
          refine lv_iconst (v := 1) hx hb d_Tree_add_333 (by decide) ?_
          refine lv_iadd hx hb d_Tree_add_334 ?_
          obtain ⟨h41, h⟩ := gi_k h
          refine va_iast hx hb hK hP hD hS 1 0 rfl rfl h41 d_Tree_add_335 (fun H locs hP hD hS => ?_)
          obtain ⟨c42, ec42⟩ : ∃ y, y = upd r40 (r36.1 + 2).toNatClampNeg (r32 + 1) := ⟨_, rfl⟩
          have h := nm_k h c42 ec42
          have hP : va_P G.1 classes (wT G a_t u38.1 u38.2 a_fr a_br a_e0 a_e1 a_e2 a_e3 a_lo a_ho c42 r36.2.2.1 c_mv c_ml r36.2.2.2.1 c_rt r36.2.2.2.2.1 r36.2.2.2.2.2 c_fi c_st c_vz ++ wK G a_ko a_kq c_kb c_kn c_kt) H := by rw [ec42]; exact hP
          have hD : va_D A (wT G a_t u38.1 u38.2 a_fr a_br a_e0 a_e1 a_e2 a_e3 a_lo a_ho c42 r36.2.2.1 c_mv c_ml r36.2.2.2.1 c_rt r36.2.2.2.2.1 r36.2.2.2.2.2 c_fi c_st c_vz ++ wK G a_ko a_kq c_kb c_kn c_kt) := by rw [ec42]; exact hD
          refine lv_aload_n hx hb d_Tree_add_336 rfl (lv_at hl 5 rfl) ?_
          refine lv_iload hx hb d_Tree_add_337 (lv_at hl 11 rfl) ?_
          refine lv_iload hx hb d_Tree_add_339 (lv_at hl 12 rfl) ?_
          refine lv_iload hx hb d_Tree_add_341 (lv_at hl 0 rfl) ?_
          obtain ⟨r43, hr43, h⟩ := ob h
          refine zcallv (wr := [(a_ko, .inr (0, [.ref a_kq, .int c_kn, .int c_kt])), (a_kq, .inl (G.2.2.1, 50, .inl c_kb))]) (w2 := fun _ => (wT G a_t u38.1 u38.2 a_fr a_br a_e0 a_e1 a_e2 a_e3 a_lo a_ho r43.1 r36.2.2.1 c_mv c_ml r36.2.2.2.1 r43.2 r36.2.2.2.2.1 r36.2.2.2.2.2 c_fi c_st c_vz ++ wK G a_ko a_kq c_kb c_kn c_kt)) (zrunV (As := [.int z24, .int z25, .int r36.1]) (rest := []) ⟨hx, hb, hml, hown, hts⟩ hN hK (c_Tree_relink l G H.size a_t u38.1 u38.2 a_fr a_br a_e0 a_e1 a_e2 a_e3 a_lo a_ho c42 r36.2.2.1 c_mv c_ml r36.2.2.2.1 c_rt r36.2.2.2.2.1 r36.2.2.2.2.2 c_fi c_st c_vz z24 z25 r36.1 r43 hr43) ⟨rfl, rfl⟩ kv_Tree_161 ⟨Nat.le_of_ble_eq_true rfl, Nat.le_of_ble_eq_true rfl⟩ 0 rfl rfl rfl hl.1 (Nat.le_of_ble_eq_true rfl) d_Tree_add_343 ⟨by show _ ≤ rc; omega, by show _ ≤ 1024 * rc; omega⟩) hP hD hS hA [0, 1, 2, 3, 4, 5, 6, 7, 8] [9, 10] [2, 3, 4, 5, 6, 7, 8, 9, 10, 0, 1] rfl rfl rfl rfl (by decide) rfl (fun _ => rfl) (fun _ H locs _ hP hD hS => ?_)
          have ey := Option.some.inj h
          rw [← ey] at hRa hRc
          have hRa : r0 = (r43.1, r36.2.2.1, r36.2.2.2.1, r43.2, r36.2.2.2.2.1, r36.2.2.2.2.2) := hRa
          have hRc : rc = 0 + dr33 + dr36 + 0 := hRc
          subst hRa
          exact zretv (u38.1, u38.2) hQ hS.2.2 hx hb hr hlocks hP hD hS trivial (by omega) (by omega) d_Tree_add_346
        · have h := ie h q30
          refine lv_aload_n hx hb d_Tree_add_147 rfl (lv_at hl 1 rfl) ?_
          refine va_get (D := G.1) (ci := 4) (v := .ref a_c) (C := "BranchStore$Tree") (T := F_Tree) (N := 15) hx hb hts i_Tree hown hK hP 0 rfl rfl 0 (by decide) (hts _ k_123) (fun _ h9 => h9) rfl d_Tree_add_148 ?_
          refine lv_iload hx hb d_Tree_add_151 (lv_at hl 9 rfl) ?_
          refine lv_iconst (v := 3) hx hb d_Tree_add_153 (by decide) ?_
          refine lv_iadd hx hb d_Tree_add_154 ?_
          obtain ⟨h44, h⟩ := gi_k h
          refine va_iald hx hb hK hP 1 0 rfl rfl h44 d_Tree_add_155 ?_
          refine lv_iload hx hb d_Tree_add_156 (lv_at hl 6 rfl) ?_
          refine lv_icmp_ne (tgt := 252) hx hb d_Tree_add_158 (by decide) (fun q45 => ?_) (fun q45 => ?_)
          · have h := ie h q45
            refine lv_aload_n hx hb d_Tree_add_252 rfl (lv_at hl 1 rfl) ?_
            refine lv_iload hx hb d_Tree_add_253 (lv_at hl 5 rfl) ?_
            refine lv_iload hx hb d_Tree_add_255 (lv_at hl 6 rfl) ?_
            obtain ⟨r46, hr46, h⟩ := ob h
            refine zpcalli (wr := [(a_ko, .inr (0, [.ref a_kq, .int c_kn, .int c_kt])), (a_kq, .inl (G.2.2.1, 50, .inl c_kb))]) (w2 := fun _ => (wT G a_t a_c a_mv a_fr a_br a_e0 a_e1 a_e2 a_e3 a_lo a_ho z27 c_cl c_mv c_ml c_en c_rt c_fr c_br c_fi c_st c_vz ++ wK G a_ko a_kq c_kb c_kn c_kt)) (zrunV (As := [.int r8, .int r9]) (rest := []) ⟨hx, hb, hml, hown, hts⟩ hN hK (c_Tree_byteOf l G H.size a_t a_c a_mv a_fr a_br a_e0 a_e1 a_e2 a_e3 a_lo a_ho z27 c_cl c_mv c_ml c_en c_rt c_fr c_br c_fi c_st c_vz r8 r9 r46 hr46) ⟨rfl, rfl⟩ kv_Tree_105 ⟨Nat.le_of_ble_eq_true rfl, Nat.le_of_ble_eq_true rfl⟩ 0 rfl rfl rfl hl.1 (Nat.le_of_ble_eq_true rfl) d_Tree_add_257 ⟨by show _ ≤ rc; omega, by show _ ≤ 1024 * rc; omega⟩) hP hD hS hA [0, 1, 2, 3, 4, 5, 6, 7, 8] [9, 10] [2, 3, 4, 5, 6, 7, 8, 9, 10, 0, 1] rfl rfl rfl rfl (by decide) rfl (fun _ => rfl) (fun rr _ H hw hP hD hS => ?_)
            have hw := hw.symm
            subst hw
            refine lv_istore (lv' := [(11, .int r46), (10, .int r29), (0, .ref a_t), (1, .ref a_ko), (2, .long p_2), (4, .int z6), (5, .int r8), (6, .int r9), (7, .int z24), (8, .int z25), (9, .int z26)]) hx hb d_Tree_add_260 hl (by decide) rfl (fun ls hl => ?_)
            refine lv_aload_n hx hb d_Tree_add_262 rfl (lv_at hl 2 rfl) ?_
            refine lv_iload hx hb d_Tree_add_263 (lv_at hl 10 rfl) ?_
            obtain ⟨r47, hr47, h⟩ := ob h
            refine zpcalli (wr := [(a_ko, .inr (0, [.ref a_kq, .int c_kn, .int c_kt])), (a_kq, .inl (G.2.2.1, 50, .inl c_kb))]) (w2 := fun _ => (wT G a_t a_c a_mv a_fr a_br a_e0 a_e1 a_e2 a_e3 a_lo a_ho z27 c_cl c_mv c_ml c_en c_rt c_fr c_br c_fi c_st c_vz ++ wK G a_ko a_kq c_kb c_kn c_kt)) (zrunV (As := [.int z26]) (rest := []) ⟨hx, hb, hml, hown, hts⟩ hN hK (c_Tree_below l G H.size a_t a_c a_mv a_fr a_br a_e0 a_e1 a_e2 a_e3 a_lo a_ho z27 c_cl c_mv c_ml c_en c_rt c_fr c_br c_fi c_st c_vz z26 r47 hr47) ⟨rfl, rfl⟩ kv_Tree_113 ⟨Nat.le_of_ble_eq_true rfl, Nat.le_of_ble_eq_true rfl⟩ 0 rfl rfl rfl hl.1 (Nat.le_of_ble_eq_true rfl) d_Tree_add_265 ⟨by show _ ≤ rc; omega, by show _ ≤ 1024 * rc; omega⟩) hP hD hS hA [0, 1, 2, 3, 4, 5, 6, 7, 8] [9, 10] [2, 3, 4, 5, 6, 7, 8, 9, 10, 0, 1] rfl rfl rfl rfl (by decide) rfl (fun _ => rfl) (fun rr _ H hw hP hD hS => ?_)
            have hw := hw.symm
            subst hw
            refine lv_istore (lv' := [(12, .int r47), (11, .int r46), (10, .int r29), (0, .ref a_t), (1, .ref a_ko), (2, .long p_2), (4, .int z6), (5, .int r8), (6, .int r9), (7, .int z24), (8, .int z25), (9, .int z26)]) hx hb d_Tree_add_268 hl (by decide) rfl (fun ls hl => ?_)
            refine lv_aload_n hx hb d_Tree_add_270 rfl (lv_at hl 3 rfl) ?_
            refine lv_aload_n hx hb d_Tree_add_271 rfl (lv_at hl 4 rfl) ?_
            refine lv_lload_n hx hb d_Tree_add_272 rfl (lv_at hl 5 rfl) ?_
            refine lv_iload hx hb d_Tree_add_273 (lv_at hl 6 rfl) ?_
            obtain ⟨r48, dr48, y49, hr48, h, hRa, hRc⟩ := bd_k h hRa hRc
            refine zcalli (wr := []) (w2 := fun (u50 : Nat × Nat) => (wT G a_t u50.1 u50.2 a_fr a_br a_e0 a_e1 a_e2 a_e3 a_lo a_ho r48.2.1 r48.2.2.1 c_mv c_ml r48.2.2.2.1 c_rt r48.2.2.2.2 c_br c_fi c_st c_vz ++ wK G a_ko a_kq c_kb c_kn c_kt)) (zrunV (As := [.ref a_ko, .long p_2, .int z6]) (rest := []) ⟨hx, hb, hml, hown, hts⟩ hN hK (c_Tree_leaf l G H.size a_t a_c a_mv a_fr a_br a_e0 a_e1 a_e2 a_e3 a_lo a_ho a_ko a_kq z27 c_cl c_mv c_ml c_en c_rt c_fr c_br c_fi c_st c_vz c_kb c_kn c_kt p_2 z6 hzz6 r48 dr48 hr48) ⟨rfl, rfl⟩ kv_Tree_151 ⟨Nat.le_of_ble_eq_true rfl, Nat.le_of_ble_eq_true rfl⟩ 0 rfl rfl rfl hl.1 (Nat.le_of_ble_eq_true rfl) d_Tree_add_275 ⟨by show _ ≤ rc; omega, by show _ ≤ 1024 * rc; omega⟩) hP hD hS hA [0, 1, 2, 3, 4, 5, 6, 7, 8, 9, 10] [] [0, 1, 2, 3, 4, 5, 6, 7, 8, 9, 10] rfl rfl rfl rfl (by decide) rfl (fun _ => rfl) (fun rr u50 H locs hw hP hD hS => ?_)
            refine W.widen (k := 0 + dr48) (n := 1024 * (0 + dr48)) (by omega) (by omega) ?_
            have hw := hw.symm
            subst hw
            refine lv_istore (lv' := [(13, .int r48.1), (12, .int r47), (11, .int r46), (10, .int r29), (0, .ref a_t), (1, .ref a_ko), (2, .long p_2), (4, .int z6), (5, .int r8), (6, .int r9), (7, .int z24), (8, .int z25), (9, .int z26)]) hx hb d_Tree_add_278 hl (by decide) rfl (fun ls hl => ?_)
            refine lv_aload_n hx hb d_Tree_add_280 rfl (lv_at hl 4 rfl) ?_
            refine lv_iconst (v := 0) hx hb d_Tree_add_281 (by decide) ?_
            refine lv_iload hx hb d_Tree_add_282 (lv_at hl 9 rfl) ?_
            obtain ⟨r51, dr51, y52, hr51, h, hRa, hRc⟩ := bd_k h hRa hRc
            refine zcalli (wr := [(a_ko, .inr (0, [.ref a_kq, .int c_kn, .int c_kt])), (a_kq, .inl (G.2.2.1, 50, .inl c_kb))]) (w2 := fun (u53 : Nat × Nat) => (wT G a_t u53.1 u53.2 a_fr a_br a_e0 a_e1 a_e2 a_e3 a_lo a_ho r51.2.1 r51.2.2.1 c_mv c_ml r51.2.2.2.1 c_rt r51.2.2.2.2.1 r51.2.2.2.2.2 c_fi c_st c_vz ++ wK G a_ko a_kq c_kb c_kn c_kt)) (zrunV (As := [.int 0, .int r9]) (rest := []) ⟨hx, hb, hml, hown, hts⟩ hN hK (c_Tree_branch l G H.size a_t u50.1 u50.2 a_fr a_br a_e0 a_e1 a_e2 a_e3 a_lo a_ho r48.2.1 r48.2.2.1 c_mv c_ml r48.2.2.2.1 c_rt r48.2.2.2.2 c_br c_fi c_st c_vz 0 r9 r51 dr51 hr51) ⟨rfl, rfl⟩ kv_Tree_169 ⟨Nat.le_of_ble_eq_true rfl, Nat.le_of_ble_eq_true rfl⟩ 0 rfl rfl rfl hl.1 (Nat.le_of_ble_eq_true rfl) d_Tree_add_284 ⟨by show _ ≤ rc; omega, by show _ ≤ 1024 * rc; omega⟩) hP hD hS hA [0, 1, 2, 3, 4, 5, 6, 7, 8] [9, 10] [2, 3, 4, 5, 6, 7, 8, 9, 10, 0, 1] rfl rfl rfl rfl (by decide) rfl (fun _ => rfl) (fun rr u53 H locs hw hP hD hS => ?_)
            refine W.widen (k := 0 + dr48 + dr51) (n := 1024 * (0 + dr48 + dr51)) (by omega) (by omega) ?_
            have hw := hw.symm
            subst hw
            refine lv_istore (lv' := [(14, .int r51.1), (13, .int r48.1), (12, .int r47), (11, .int r46), (10, .int r29), (0, .ref a_t), (1, .ref a_ko), (2, .long p_2), (4, .int z6), (5, .int r8), (6, .int r9), (7, .int z24), (8, .int z25), (9, .int z26)]) hx hb d_Tree_add_287 hl (by decide) rfl (fun ls hl => ?_)
            refine lv_aload_n hx hb d_Tree_add_289 rfl (lv_at hl 5 rfl) ?_
            refine va_get (D := G.1) (ci := 4) (v := .ref (zsh a_e0 a_e1 a_e2 a_e3 0)) (C := "BranchStore$Tree") (T := F_Tree) (N := 15) hx hb hts i_Tree hown hK hP 0 rfl rfl 5 (by decide) (hts _ k_128) (fun _ h9 => h9) rfl d_Tree_add_290 ?_
            refine lv_aload_n hx hb d_Tree_add_293 rfl (lv_at hl 5 rfl) ?_
            refine va_get (D := G.1) (ci := 4) (v := .ref u53.1) (C := "BranchStore$Tree") (T := F_Tree) (N := 15) hx hb hts i_Tree hown hK hP 0 rfl rfl 0 (by decide) (hts _ k_123) (fun _ h9 => h9) rfl d_Tree_add_294 ?_
            refine lv_iload hx hb d_Tree_add_297 (lv_at hl 0 rfl) ?_
            refine lv_iload hx hb d_Tree_add_299 (lv_at hl 3 rfl) ?_
            refine lv_iload hx hb d_Tree_add_301 (lv_at hl 13 rfl) ?_
            obtain ⟨r54, hr54, h⟩ := ob h
            refine zv_add (k := 0) ⟨hx, hb, hml, hown, hts⟩ hN hK hP hD hS hA (zE_mk rfl rfl rfl rfl) rfl hr54 (Nat.le_of_ble_eq_true rfl) (Nat.le_of_ble_eq_true rfl) hl.1 (Nat.le_of_ble_eq_true rfl) d_Tree_add_303 ⟨by show _ ≤ rc; omega, by show _ ≤ 1024 * rc; omega⟩ (fun H locs hP hD hS => ?_)
            have hP : va_P G.1 classes (wT G a_t u53.1 u53.2 a_fr a_br a_e0 a_e1 a_e2 a_e3 a_lo a_ho r54 r51.2.2.1 c_mv c_ml r51.2.2.2.1 c_rt r51.2.2.2.2.1 r51.2.2.2.2.2 c_fi c_st c_vz ++ wK G a_ko a_kq c_kb c_kn c_kt) H := hP
            have hD : va_D A (wT G a_t u53.1 u53.2 a_fr a_br a_e0 a_e1 a_e2 a_e3 a_lo a_ho r54 r51.2.2.1 c_mv c_ml r51.2.2.2.1 c_rt r51.2.2.2.2.1 r51.2.2.2.2.2 c_fi c_st c_vz ++ wK G a_ko a_kq c_kb c_kn c_kt) := hD
            refine lv_aload_n hx hb d_Tree_add_306 rfl (lv_at hl 5 rfl) ?_
            refine va_get (D := G.1) (ci := 4) (v := .ref (zsh a_e0 a_e1 a_e2 a_e3 0)) (C := "BranchStore$Tree") (T := F_Tree) (N := 15) hx hb hts i_Tree hown hK hP 0 rfl rfl 5 (by decide) (hts _ k_128) (fun _ h9 => h9) rfl d_Tree_add_307 ?_
            refine lv_aload_n hx hb d_Tree_add_310 rfl (lv_at hl 5 rfl) ?_
            refine va_get (D := G.1) (ci := 4) (v := .ref u53.1) (C := "BranchStore$Tree") (T := F_Tree) (N := 15) hx hb hts i_Tree hown hK hP 0 rfl rfl 0 (by decide) (hts _ k_123) (fun _ h9 => h9) rfl d_Tree_add_311 ?_
            refine lv_iload hx hb d_Tree_add_314 (lv_at hl 0 rfl) ?_
            refine lv_iload hx hb d_Tree_add_316 (lv_at hl 4 rfl) ?_
            refine lv_iload hx hb d_Tree_add_318 (lv_at hl 1 rfl) ?_
            obtain ⟨r55, hr55, h⟩ := ob h
            refine zv_add (k := 0) ⟨hx, hb, hml, hown, hts⟩ hN hK hP hD hS hA (zE_mk rfl rfl rfl rfl) rfl hr55 (Nat.le_of_ble_eq_true rfl) (Nat.le_of_ble_eq_true rfl) hl.1 (Nat.le_of_ble_eq_true rfl) d_Tree_add_320 ⟨by show _ ≤ rc; omega, by show _ ≤ 1024 * rc; omega⟩ (fun H locs hP hD hS => ?_)
            have hP : va_P G.1 classes (wT G a_t u53.1 u53.2 a_fr a_br a_e0 a_e1 a_e2 a_e3 a_lo a_ho r55 r51.2.2.1 c_mv c_ml r51.2.2.2.1 c_rt r51.2.2.2.2.1 r51.2.2.2.2.2 c_fi c_st c_vz ++ wK G a_ko a_kq c_kb c_kn c_kt) H := hP
            have hD : va_D A (wT G a_t u53.1 u53.2 a_fr a_br a_e0 a_e1 a_e2 a_e3 a_lo a_ho r55 r51.2.2.1 c_mv c_ml r51.2.2.2.1 c_rt r51.2.2.2.2.1 r51.2.2.2.2.2 c_fi c_st c_vz ++ wK G a_ko a_kq c_kb c_kn c_kt) := hD
            refine lv_aload_n hx hb d_Tree_add_323 rfl (lv_at hl 5 rfl) ?_
            refine va_get (D := G.1) (ci := 4) (v := .ref u53.1) (C := "BranchStore$Tree") (T := F_Tree) (N := 15) hx hb hts i_Tree hown hK hP 0 rfl rfl 0 (by decide) (hts _ k_123) (fun _ h9 => h9) rfl d_Tree_add_324 ?_
            refine lv_iload hx hb d_Tree_add_327 (lv_at hl 0 rfl) ?_
            refine lv_iconst (v := 2) hx hb d_Tree_add_329 (by decide) ?_
            refine lv_iadd hx hb d_Tree_add_330 ?_
            refine lv_iload hx hb d_Tree_add_331 (lv_at hl 2 rfl) ?_
            refine lv_iconst (v := 1) hx hb d_Tree_add_333 (by decide) ?_
            refine lv_iadd hx hb d_Tree_add_334 ?_
            obtain ⟨h56, h⟩ := gi_k h
            refine va_iast hx hb hK hP hD hS 1 0 rfl rfl h56 d_Tree_add_335 (fun H locs hP hD hS => ?_)
            obtain ⟨c57, ec57⟩ : ∃ y, y = upd r55 (r51.1 + 2).toNatClampNeg (r47 + 1) := ⟨_, rfl⟩
            have h := nm_k h c57 ec57
            have hP : va_P G.1 classes (wT G a_t u53.1 u53.2 a_fr a_br a_e0 a_e1 a_e2 a_e3 a_lo a_ho c57 r51.2.2.1 c_mv c_ml r51.2.2.2.1 c_rt r51.2.2.2.2.1 r51.2.2.2.2.2 c_fi c_st c_vz ++ wK G a_ko a_kq c_kb c_kn c_kt) H := by rw [ec57]; exact hP
            have hD : va_D A (wT G a_t u53.1 u53.2 a_fr a_br a_e0 a_e1 a_e2 a_e3 a_lo a_ho c57 r51.2.2.1 c_mv c_ml r51.2.2.2.1 c_rt r51.2.2.2.2.1 r51.2.2.2.2.2 c_fi c_st c_vz ++ wK G a_ko a_kq c_kb c_kn c_kt) := by rw [ec57]; exact hD
            refine lv_aload_n hx hb d_Tree_add_336 rfl (lv_at hl 5 rfl) ?_
            refine lv_iload hx hb d_Tree_add_337 (lv_at hl 11 rfl) ?_
            refine lv_iload hx hb d_Tree_add_339 (lv_at hl 12 rfl) ?_
            refine lv_iload hx hb d_Tree_add_341 (lv_at hl 0 rfl) ?_
            obtain ⟨r58, hr58, h⟩ := ob h
            refine zcallv (wr := [(a_ko, .inr (0, [.ref a_kq, .int c_kn, .int c_kt])), (a_kq, .inl (G.2.2.1, 50, .inl c_kb))]) (w2 := fun _ => (wT G a_t u53.1 u53.2 a_fr a_br a_e0 a_e1 a_e2 a_e3 a_lo a_ho r58.1 r51.2.2.1 c_mv c_ml r51.2.2.2.1 r58.2 r51.2.2.2.2.1 r51.2.2.2.2.2 c_fi c_st c_vz ++ wK G a_ko a_kq c_kb c_kn c_kt)) (zrunV (As := [.int z24, .int z25, .int r51.1]) (rest := []) ⟨hx, hb, hml, hown, hts⟩ hN hK (c_Tree_relink l G H.size a_t u53.1 u53.2 a_fr a_br a_e0 a_e1 a_e2 a_e3 a_lo a_ho c57 r51.2.2.1 c_mv c_ml r51.2.2.2.1 c_rt r51.2.2.2.2.1 r51.2.2.2.2.2 c_fi c_st c_vz z24 z25 r51.1 r58 hr58) ⟨rfl, rfl⟩ kv_Tree_161 ⟨Nat.le_of_ble_eq_true rfl, Nat.le_of_ble_eq_true rfl⟩ 0 rfl rfl rfl hl.1 (Nat.le_of_ble_eq_true rfl) d_Tree_add_343 ⟨by show _ ≤ rc; omega, by show _ ≤ 1024 * rc; omega⟩) hP hD hS hA [0, 1, 2, 3, 4, 5, 6, 7, 8] [9, 10] [2, 3, 4, 5, 6, 7, 8, 9, 10, 0, 1] rfl rfl rfl rfl (by decide) rfl (fun _ => rfl) (fun _ H locs _ hP hD hS => ?_)
            have ey := Option.some.inj h
            rw [← ey] at hRa hRc
            have hRa : r0 = (r58.1, r51.2.2.1, r51.2.2.2.1, r58.2, r51.2.2.2.2.1, r51.2.2.2.2.2) := hRa
            have hRc : rc = 0 + dr48 + dr51 + 0 := hRc
            subst hRa
            exact zretv (u53.1, u53.2) hQ hS.2.2 hx hb hr hlocks hP hD hS trivial (by omega) (by omega) d_Tree_add_346
          · have h := it h q45
            refine lv_aload_n hx hb d_Tree_add_161 rfl (lv_at hl 1 rfl) ?_
            refine va_get (D := G.1) (ci := 4) (v := .ref a_c) (C := "BranchStore$Tree") (T := F_Tree) (N := 15) hx hb hts i_Tree hown hK hP 0 rfl rfl 0 (by decide) (hts _ k_123) (fun _ h9 => h9) rfl d_Tree_add_162 ?_
            refine lv_iload hx hb d_Tree_add_165 (lv_at hl 9 rfl) ?_
            refine lv_iconst (v := 1) hx hb d_Tree_add_167 (by decide) ?_
            refine lv_iadd hx hb d_Tree_add_168 ?_
            obtain ⟨h59, h⟩ := gi_k h
            refine va_iald hx hb hK hP 1 0 rfl rfl h59 d_Tree_add_169 ?_
            refine lv_aload_n hx hb d_Tree_add_170 rfl (lv_at hl 1 rfl) ?_
            refine lv_iload hx hb d_Tree_add_171 (lv_at hl 9 rfl) ?_
            obtain ⟨r60, hr60, h⟩ := ob h
            refine zpcallr (wr := [(a_ko, .inr (0, [.ref a_kq, .int c_kn, .int c_kt])), (a_kq, .inl (G.2.2.1, 50, .inl c_kb))]) (w2 := fun _ => (wT G a_t a_c a_mv a_fr a_br a_e0 a_e1 a_e2 a_e3 a_lo a_ho z27 c_cl c_mv c_ml c_en c_rt c_fr c_br c_fi c_st c_vz ++ wK G a_ko a_kq c_kb c_kn c_kt)) (zrunV (As := [.int z26]) (rest := [.int (z27 (z26 + 1).toNatClampNeg)]) ⟨hx, hb, hml, hown, hts⟩ hN hK (c_Tree_shapeOf l G H.size a_t a_c a_mv a_fr a_br a_e0 a_e1 a_e2 a_e3 a_lo a_ho z27 c_cl c_mv c_ml c_en c_rt c_fr c_br c_fi c_st c_vz z26 r60 hr60) ⟨rfl, rfl⟩ kv_Tree_116 ⟨Nat.le_of_ble_eq_true rfl, Nat.le_of_ble_eq_true rfl⟩ 0 rfl rfl rfl hl.1 (Nat.le_of_ble_eq_true rfl) d_Tree_add_173 ⟨by show _ ≤ rc; omega, by show _ ≤ 1024 * rc; omega⟩) hP hD hS hA [0, 1, 2, 3, 4, 5, 6, 7, 8] [9, 10] [2, 3, 4, 5, 6, 7, 8, 9, 10, 0, 1] rfl rfl rfl rfl (by decide) rfl (fun _ => rfl) (fun _ ra H hw hP hD hS => ?_)
            subst hw
            refine zget_most (k := r60) hx hb hts hown hK hP (zE_mk rfl rfl rfl rfl) d_Tree_add_176 ?_
            refine lv_icmp_ne (tgt := 209) hx hb d_Tree_add_179 (by decide) (fun q61 => ?_) (fun q61 => ?_)
            · have h := ie h q61
              refine lv_aload_n hx hb d_Tree_add_209 rfl (lv_at hl 1 rfl) ?_
              refine lv_aload_n hx hb d_Tree_add_210 rfl (lv_at hl 2 rfl) ?_
              refine lv_lload_n hx hb d_Tree_add_211 rfl (lv_at hl 3 rfl) ?_
              refine lv_iload hx hb d_Tree_add_212 (lv_at hl 4 rfl) ?_
              obtain ⟨r62, dr62, y63, hr62, h, hRa, hRc⟩ := bd_k h hRa hRc
              refine zcalli (wr := []) (w2 := fun (u64 : Nat × Nat) => (wT G a_t u64.1 u64.2 a_fr a_br a_e0 a_e1 a_e2 a_e3 a_lo a_ho r62.2.1 r62.2.2.1 c_mv c_ml r62.2.2.2.1 c_rt r62.2.2.2.2 c_br c_fi c_st c_vz ++ wK G a_ko a_kq c_kb c_kn c_kt)) (zrunV (As := [.ref a_ko, .long p_2, .int z6]) (rest := []) ⟨hx, hb, hml, hown, hts⟩ hN hK (c_Tree_leaf l G H.size a_t a_c a_mv a_fr a_br a_e0 a_e1 a_e2 a_e3 a_lo a_ho a_ko a_kq z27 c_cl c_mv c_ml c_en c_rt c_fr c_br c_fi c_st c_vz c_kb c_kn c_kt p_2 z6 hzz6 r62 dr62 hr62) ⟨rfl, rfl⟩ kv_Tree_151 ⟨Nat.le_of_ble_eq_true rfl, Nat.le_of_ble_eq_true rfl⟩ 0 rfl rfl rfl hl.1 (Nat.le_of_ble_eq_true rfl) d_Tree_add_214 ⟨by show _ ≤ rc; omega, by show _ ≤ 1024 * rc; omega⟩) hP hD hS hA [0, 1, 2, 3, 4, 5, 6, 7, 8, 9, 10] [] [0, 1, 2, 3, 4, 5, 6, 7, 8, 9, 10] rfl rfl rfl rfl (by decide) rfl (fun _ => rfl) (fun rr u64 H locs hw hP hD hS => ?_)
              refine W.widen (k := 0 + dr62) (n := 1024 * (0 + dr62)) (by omega) (by omega) ?_
              have hw := hw.symm
              subst hw
              refine lv_istore (lv' := [(11, .int r62.1), (10, .int r29), (0, .ref a_t), (1, .ref a_ko), (2, .long p_2), (4, .int z6), (5, .int r8), (6, .int r9), (7, .int z24), (8, .int z25), (9, .int z26)]) hx hb d_Tree_add_217 hl (by decide) rfl (fun ls hl => ?_)
              refine lv_aload_n hx hb d_Tree_add_219 rfl (lv_at hl 2 rfl) ?_
              refine lv_iload hx hb d_Tree_add_220 (lv_at hl 10 rfl) ?_
              obtain ⟨r65, hr65, h⟩ := ob h
              refine zpcallr (wr := [(a_ko, .inr (0, [.ref a_kq, .int c_kn, .int c_kt])), (a_kq, .inl (G.2.2.1, 50, .inl c_kb))]) (w2 := fun _ => (wT G a_t u64.1 u64.2 a_fr a_br a_e0 a_e1 a_e2 a_e3 a_lo a_ho r62.2.1 r62.2.2.1 c_mv c_ml r62.2.2.2.1 c_rt r62.2.2.2.2 c_br c_fi c_st c_vz ++ wK G a_ko a_kq c_kb c_kn c_kt)) (zrunV (As := [.int z26]) (rest := []) ⟨hx, hb, hml, hown, hts⟩ hN hK (c_Tree_shapeOf l G H.size a_t u64.1 u64.2 a_fr a_br a_e0 a_e1 a_e2 a_e3 a_lo a_ho r62.2.1 r62.2.2.1 c_mv c_ml r62.2.2.2.1 c_rt r62.2.2.2.2 c_br c_fi c_st c_vz z26 r65 hr65) ⟨rfl, rfl⟩ kv_Tree_116 ⟨Nat.le_of_ble_eq_true rfl, Nat.le_of_ble_eq_true rfl⟩ 0 rfl rfl rfl hl.1 (Nat.le_of_ble_eq_true rfl) d_Tree_add_222 ⟨by show _ ≤ rc; omega, by show _ ≤ 1024 * rc; omega⟩) hP hD hS hA [0, 1, 2, 3, 4, 5, 6, 7, 8] [9, 10] [2, 3, 4, 5, 6, 7, 8, 9, 10, 0, 1] rfl rfl rfl rfl (by decide) rfl (fun _ => rfl) (fun _ ra H hw hP hD hS => ?_)
              subst hw
              refine lv_aload_n hx hb d_Tree_add_225 rfl (lv_at hl 2 rfl) ?_
              refine va_get (D := G.1) (ci := 4) (v := .ref u64.1) (C := "BranchStore$Tree") (T := F_Tree) (N := 15) hx hb hts i_Tree hown hK hP 0 rfl rfl 0 (by decide) (hts _ k_123) (fun _ h9 => h9) rfl d_Tree_add_226 ?_
              refine lv_iload hx hb d_Tree_add_229 (lv_at hl 10 rfl) ?_
              refine lv_iload hx hb d_Tree_add_231 (lv_at hl 1 rfl) ?_
              refine lv_iload hx hb d_Tree_add_233 (lv_at hl 0 rfl) ?_
              obtain ⟨r66, hr66, h⟩ := ob h
              refine zv_add (k := r65) ⟨hx, hb, hml, hown, hts⟩ hN hK hP hD hS hA (zE_mk rfl rfl rfl rfl) rfl hr66 (Nat.le_of_ble_eq_true rfl) (Nat.le_of_ble_eq_true rfl) hl.1 (Nat.le_of_ble_eq_true rfl) d_Tree_add_235 ⟨by show _ ≤ rc; omega, by show _ ≤ 1024 * rc; omega⟩ (fun H locs hP hD hS => ?_)
              have hP : va_P G.1 classes (wT G a_t u64.1 u64.2 a_fr a_br a_e0 a_e1 a_e2 a_e3 a_lo a_ho r66 r62.2.2.1 c_mv c_ml r62.2.2.2.1 c_rt r62.2.2.2.2 c_br c_fi c_st c_vz ++ wK G a_ko a_kq c_kb c_kn c_kt) H := hP
              have hD : va_D A (wT G a_t u64.1 u64.2 a_fr a_br a_e0 a_e1 a_e2 a_e3 a_lo a_ho r66 r62.2.2.1 c_mv c_ml r62.2.2.2.1 c_rt r62.2.2.2.2 c_br c_fi c_st c_vz ++ wK G a_ko a_kq c_kb c_kn c_kt) := hD
              refine lv_aload_n hx hb d_Tree_add_238 rfl (lv_at hl 2 rfl) ?_
              refine va_get (D := G.1) (ci := 4) (v := .ref u64.1) (C := "BranchStore$Tree") (T := F_Tree) (N := 15) hx hb hts i_Tree hown hK hP 0 rfl rfl 0 (by decide) (hts _ k_123) (fun _ h9 => h9) rfl d_Tree_add_239 ?_
              refine lv_iload hx hb d_Tree_add_242 (lv_at hl 10 rfl) ?_
              refine lv_iconst (v := 2) hx hb d_Tree_add_244 (by decide) ?_
              refine lv_iadd hx hb d_Tree_add_245 ?_
              refine lv_dup2_11 hx hb d_Tree_add_246 rfl rfl ?_
              obtain ⟨h67, h⟩ := gi_k h
              refine va_iald hx hb hK hP 1 0 rfl rfl h67 d_Tree_add_247 ?_
              refine lv_iconst (v := 1) hx hb d_Tree_add_248 (by decide) ?_
              refine lv_iadd hx hb d_Tree_add_249 ?_
              obtain ⟨h68, h⟩ := gi_k h
              refine va_iast hx hb hK hP hD hS 1 0 rfl rfl h68 d_Tree_add_250 (fun H locs hP hD hS => ?_)
              obtain ⟨c69, ec69⟩ : ∃ y, y = upd r66 (z26 + 2).toNatClampNeg ((r66 (z26 + 2).toNatClampNeg) + 1) := ⟨_, rfl⟩
              have h := nm_k h c69 ec69
              have hP : va_P G.1 classes (wT G a_t u64.1 u64.2 a_fr a_br a_e0 a_e1 a_e2 a_e3 a_lo a_ho c69 r62.2.2.1 c_mv c_ml r62.2.2.2.1 c_rt r62.2.2.2.2 c_br c_fi c_st c_vz ++ wK G a_ko a_kq c_kb c_kn c_kt) H := by rw [ec69]; exact hP
              have hD : va_D A (wT G a_t u64.1 u64.2 a_fr a_br a_e0 a_e1 a_e2 a_e3 a_lo a_ho c69 r62.2.2.1 c_mv c_ml r62.2.2.2.1 c_rt r62.2.2.2.2 c_br c_fi c_st c_vz ++ wK G a_ko a_kq c_kb c_kn c_kt) := by rw [ec69]; exact hD
              have ey := Option.some.inj h
              rw [← ey] at hRa hRc
              have hRa : r0 = (c69, r62.2.2.1, r62.2.2.2.1, c_rt, r62.2.2.2.2, c_br) := hRa
              have hRc : rc = 0 + dr62 + 0 := hRc
              subst hRa
              exact zretv (u64.1, u64.2) hQ hS.2.2 hx hb hr hlocks hP hD hS trivial (by omega) (by omega) d_Tree_add_251
            · have h := it h q61
              refine lv_aload_n hx hb d_Tree_add_182 rfl (lv_at hl 1 rfl) ?_
              refine lv_iload hx hb d_Tree_add_183 (lv_at hl 9 rfl) ?_
              refine lv_aload_n hx hb d_Tree_add_185 rfl (lv_at hl 1 rfl) ?_
              refine va_get (D := G.1) (ci := 4) (v := .ref a_c) (C := "BranchStore$Tree") (T := F_Tree) (N := 15) hx hb hts i_Tree hown hK hP 0 rfl rfl 0 (by decide) (hts _ k_123) (fun _ h9 => h9) rfl d_Tree_add_186 ?_
              refine lv_iload hx hb d_Tree_add_189 (lv_at hl 9 rfl) ?_
              obtain ⟨h70, h⟩ := gi_k h
              refine va_iald hx hb hK hP 1 0 rfl rfl h70 d_Tree_add_191 ?_
              refine lv_iconst (v := 1) hx hb d_Tree_add_192 (by decide) ?_
              refine lv_iadd hx hb d_Tree_add_193 ?_
              obtain ⟨r71, dr71, y72, hr71, h, hRa, hRc⟩ := bd_k h hRa hRc
              refine zcalli (wr := [(a_ko, .inr (0, [.ref a_kq, .int c_kn, .int c_kt])), (a_kq, .inl (G.2.2.1, 50, .inl c_kb))]) (w2 := fun (u73 : Nat × Nat) => (wT G a_t u73.1 u73.2 a_fr a_br a_e0 a_e1 a_e2 a_e3 a_lo a_ho r71.2.1 r71.2.2.1 c_mv c_ml r71.2.2.2.1 c_rt r71.2.2.2.2.1 r71.2.2.2.2.2 c_fi c_st c_vz ++ wK G a_ko a_kq c_kb c_kn c_kt)) (zrunV (As := [.int z26, .int ((z27 z26.toNatClampNeg) + 1)]) (rest := []) ⟨hx, hb, hml, hown, hts⟩ hN hK (c_Tree_resized l G H.size a_t a_c a_mv a_fr a_br a_e0 a_e1 a_e2 a_e3 a_lo a_ho z27 c_cl c_mv c_ml c_en c_rt c_fr c_br c_fi c_st c_vz z26 ((z27 z26.toNatClampNeg) + 1) r71 dr71 hr71) ⟨rfl, rfl⟩ kv_Tree_158 ⟨Nat.le_of_ble_eq_true rfl, Nat.le_of_ble_eq_true rfl⟩ 0 rfl rfl rfl hl.1 (Nat.le_of_ble_eq_true rfl) d_Tree_add_194 ⟨by show _ ≤ rc; omega, by show _ ≤ 1024 * rc; omega⟩) hP hD hS hA [0, 1, 2, 3, 4, 5, 6, 7, 8] [9, 10] [2, 3, 4, 5, 6, 7, 8, 9, 10, 0, 1] rfl rfl rfl rfl (by decide) rfl (fun _ => rfl) (fun rr u73 H locs hw hP hD hS => ?_)
              refine W.widen (k := 0 + dr71) (n := 1024 * (0 + dr71)) (by omega) (by omega) ?_
              have hw := hw.symm
              subst hw
              refine lv_istore (lv' := [(9, .int r71.1), (10, .int r29), (0, .ref a_t), (1, .ref a_ko), (2, .long p_2), (4, .int z6), (5, .int r8), (6, .int r9), (7, .int z24), (8, .int z25)]) hx hb d_Tree_add_197 hl (by decide) rfl (fun ls hl => ?_)
              refine lv_aload_n hx hb d_Tree_add_199 rfl (lv_at hl 2 rfl) ?_
              refine lv_iload hx hb d_Tree_add_200 (lv_at hl 8 rfl) ?_
              refine lv_iload hx hb d_Tree_add_202 (lv_at hl 9 rfl) ?_
              refine lv_iload hx hb d_Tree_add_204 (lv_at hl 0 rfl) ?_
              obtain ⟨r74, hr74, h⟩ := ob h
              refine zcallv (wr := [(a_ko, .inr (0, [.ref a_kq, .int c_kn, .int c_kt])), (a_kq, .inl (G.2.2.1, 50, .inl c_kb))]) (w2 := fun _ => (wT G a_t u73.1 u73.2 a_fr a_br a_e0 a_e1 a_e2 a_e3 a_lo a_ho r74.1 r71.2.2.1 c_mv c_ml r71.2.2.2.1 r74.2 r71.2.2.2.2.1 r71.2.2.2.2.2 c_fi c_st c_vz ++ wK G a_ko a_kq c_kb c_kn c_kt)) (zrunV (As := [.int z24, .int z25, .int r71.1]) (rest := []) ⟨hx, hb, hml, hown, hts⟩ hN hK (c_Tree_relink l G H.size a_t u73.1 u73.2 a_fr a_br a_e0 a_e1 a_e2 a_e3 a_lo a_ho r71.2.1 r71.2.2.1 c_mv c_ml r71.2.2.2.1 c_rt r71.2.2.2.2.1 r71.2.2.2.2.2 c_fi c_st c_vz z24 z25 r71.1 r74 hr74) ⟨rfl, rfl⟩ kv_Tree_161 ⟨Nat.le_of_ble_eq_true rfl, Nat.le_of_ble_eq_true rfl⟩ 0 rfl rfl rfl hl.1 (Nat.le_of_ble_eq_true rfl) d_Tree_add_206 ⟨by show _ ≤ rc; omega, by show _ ≤ 1024 * rc; omega⟩) hP hD hS hA [0, 1, 2, 3, 4, 5, 6, 7, 8] [9, 10] [2, 3, 4, 5, 6, 7, 8, 9, 10, 0, 1] rfl rfl rfl rfl (by decide) rfl (fun _ => rfl) (fun _ H locs _ hP hD hS => ?_)
              refine lv_aload_n hx hb d_Tree_add_209 rfl (lv_at hl 2 rfl) ?_
              refine lv_aload_n hx hb d_Tree_add_210 rfl (lv_at hl 3 rfl) ?_
              refine lv_lload_n hx hb d_Tree_add_211 rfl (lv_at hl 4 rfl) ?_
              refine lv_iload hx hb d_Tree_add_212 (lv_at hl 5 rfl) ?_
              obtain ⟨r75, dr75, y76, hr75, h, hRa, hRc⟩ := bd_k h hRa hRc
              refine zcalli (wr := []) (w2 := fun (u77 : Nat × Nat) => (wT G a_t u77.1 u77.2 a_fr a_br a_e0 a_e1 a_e2 a_e3 a_lo a_ho r75.2.1 r75.2.2.1 c_mv c_ml r75.2.2.2.1 r74.2 r75.2.2.2.2 r71.2.2.2.2.2 c_fi c_st c_vz ++ wK G a_ko a_kq c_kb c_kn c_kt)) (zrunV (As := [.ref a_ko, .long p_2, .int z6]) (rest := []) ⟨hx, hb, hml, hown, hts⟩ hN hK (c_Tree_leaf l G H.size a_t u73.1 u73.2 a_fr a_br a_e0 a_e1 a_e2 a_e3 a_lo a_ho a_ko a_kq r74.1 r71.2.2.1 c_mv c_ml r71.2.2.2.1 r74.2 r71.2.2.2.2.1 r71.2.2.2.2.2 c_fi c_st c_vz c_kb c_kn c_kt p_2 z6 hzz6 r75 dr75 hr75) ⟨rfl, rfl⟩ kv_Tree_151 ⟨Nat.le_of_ble_eq_true rfl, Nat.le_of_ble_eq_true rfl⟩ 0 rfl rfl rfl hl.1 (Nat.le_of_ble_eq_true rfl) d_Tree_add_214 ⟨by show _ ≤ rc; omega, by show _ ≤ 1024 * rc; omega⟩) hP hD hS hA [0, 1, 2, 3, 4, 5, 6, 7, 8, 9, 10] [] [0, 1, 2, 3, 4, 5, 6, 7, 8, 9, 10] rfl rfl rfl rfl (by decide) rfl (fun _ => rfl) (fun rr u77 H locs hw hP hD hS => ?_)
              refine W.widen (k := 0 + dr71 + dr75) (n := 1024 * (0 + dr71 + dr75)) (by omega) (by omega) ?_
              have hw := hw.symm
              subst hw
              refine lv_istore (lv' := [(11, .int r75.1), (9, .int r71.1), (10, .int r29), (0, .ref a_t), (1, .ref a_ko), (2, .long p_2), (4, .int z6), (5, .int r8), (6, .int r9), (7, .int z24), (8, .int z25)]) hx hb d_Tree_add_217 hl (by decide) rfl (fun ls hl => ?_)
              refine lv_aload_n hx hb d_Tree_add_219 rfl (lv_at hl 3 rfl) ?_
              refine lv_iload hx hb d_Tree_add_220 (lv_at hl 1 rfl) ?_
              obtain ⟨r78, hr78, h⟩ := ob h
              refine zpcallr (wr := [(a_ko, .inr (0, [.ref a_kq, .int c_kn, .int c_kt])), (a_kq, .inl (G.2.2.1, 50, .inl c_kb))]) (w2 := fun _ => (wT G a_t u77.1 u77.2 a_fr a_br a_e0 a_e1 a_e2 a_e3 a_lo a_ho r75.2.1 r75.2.2.1 c_mv c_ml r75.2.2.2.1 r74.2 r75.2.2.2.2 r71.2.2.2.2.2 c_fi c_st c_vz ++ wK G a_ko a_kq c_kb c_kn c_kt)) (zrunV (As := [.int r71.1]) (rest := []) ⟨hx, hb, hml, hown, hts⟩ hN hK (c_Tree_shapeOf l G H.size a_t u77.1 u77.2 a_fr a_br a_e0 a_e1 a_e2 a_e3 a_lo a_ho r75.2.1 r75.2.2.1 c_mv c_ml r75.2.2.2.1 r74.2 r75.2.2.2.2 r71.2.2.2.2.2 c_fi c_st c_vz r71.1 r78 hr78) ⟨rfl, rfl⟩ kv_Tree_116 ⟨Nat.le_of_ble_eq_true rfl, Nat.le_of_ble_eq_true rfl⟩ 0 rfl rfl rfl hl.1 (Nat.le_of_ble_eq_true rfl) d_Tree_add_222 ⟨by show _ ≤ rc; omega, by show _ ≤ 1024 * rc; omega⟩) hP hD hS hA [0, 1, 2, 3, 4, 5, 6, 7, 8] [9, 10] [2, 3, 4, 5, 6, 7, 8, 9, 10, 0, 1] rfl rfl rfl rfl (by decide) rfl (fun _ => rfl) (fun _ ra H hw hP hD hS => ?_)
              subst hw
              refine lv_aload_n hx hb d_Tree_add_225 rfl (lv_at hl 3 rfl) ?_
              refine va_get (D := G.1) (ci := 4) (v := .ref u77.1) (C := "BranchStore$Tree") (T := F_Tree) (N := 15) hx hb hts i_Tree hown hK hP 0 rfl rfl 0 (by decide) (hts _ k_123) (fun _ h9 => h9) rfl d_Tree_add_226 ?_
              refine lv_iload hx hb d_Tree_add_229 (lv_at hl 1 rfl) ?_
              refine lv_iload hx hb d_Tree_add_231 (lv_at hl 2 rfl) ?_
              refine lv_iload hx hb d_Tree_add_233 (lv_at hl 0 rfl) ?_
              obtain ⟨r79, hr79, h⟩ := ob h
              refine zv_add (k := r78) ⟨hx, hb, hml, hown, hts⟩ hN hK hP hD hS hA (zE_mk rfl rfl rfl rfl) rfl hr79 (Nat.le_of_ble_eq_true rfl) (Nat.le_of_ble_eq_true rfl) hl.1 (Nat.le_of_ble_eq_true rfl) d_Tree_add_235 ⟨by show _ ≤ rc; omega, by show _ ≤ 1024 * rc; omega⟩ (fun H locs hP hD hS => ?_)
              have hP : va_P G.1 classes (wT G a_t u77.1 u77.2 a_fr a_br a_e0 a_e1 a_e2 a_e3 a_lo a_ho r79 r75.2.2.1 c_mv c_ml r75.2.2.2.1 r74.2 r75.2.2.2.2 r71.2.2.2.2.2 c_fi c_st c_vz ++ wK G a_ko a_kq c_kb c_kn c_kt) H := hP
              have hD : va_D A (wT G a_t u77.1 u77.2 a_fr a_br a_e0 a_e1 a_e2 a_e3 a_lo a_ho r79 r75.2.2.1 c_mv c_ml r75.2.2.2.1 r74.2 r75.2.2.2.2 r71.2.2.2.2.2 c_fi c_st c_vz ++ wK G a_ko a_kq c_kb c_kn c_kt) := hD
              refine lv_aload_n hx hb d_Tree_add_238 rfl (lv_at hl 3 rfl) ?_
              refine va_get (D := G.1) (ci := 4) (v := .ref u77.1) (C := "BranchStore$Tree") (T := F_Tree) (N := 15) hx hb hts i_Tree hown hK hP 0 rfl rfl 0 (by decide) (hts _ k_123) (fun _ h9 => h9) rfl d_Tree_add_239 ?_
              refine lv_iload hx hb d_Tree_add_242 (lv_at hl 1 rfl) ?_
              refine lv_iconst (v := 2) hx hb d_Tree_add_244 (by decide) ?_
              refine lv_iadd hx hb d_Tree_add_245 ?_
              refine lv_dup2_11 hx hb d_Tree_add_246 rfl rfl ?_
              obtain ⟨h80, h⟩ := gi_k h
              refine va_iald hx hb hK hP 1 0 rfl rfl h80 d_Tree_add_247 ?_
              refine lv_iconst (v := 1) hx hb d_Tree_add_248 (by decide) ?_
              refine lv_iadd hx hb d_Tree_add_249 ?_
              obtain ⟨h81, h⟩ := gi_k h
              refine va_iast hx hb hK hP hD hS 1 0 rfl rfl h81 d_Tree_add_250 (fun H locs hP hD hS => ?_)
              obtain ⟨c82, ec82⟩ : ∃ y, y = upd r79 (r71.1 + 2).toNatClampNeg ((r79 (r71.1 + 2).toNatClampNeg) + 1) := ⟨_, rfl⟩
              have h := nm_k h c82 ec82
              have hP : va_P G.1 classes (wT G a_t u77.1 u77.2 a_fr a_br a_e0 a_e1 a_e2 a_e3 a_lo a_ho c82 r75.2.2.1 c_mv c_ml r75.2.2.2.1 r74.2 r75.2.2.2.2 r71.2.2.2.2.2 c_fi c_st c_vz ++ wK G a_ko a_kq c_kb c_kn c_kt) H := by rw [ec82]; exact hP
              have hD : va_D A (wT G a_t u77.1 u77.2 a_fr a_br a_e0 a_e1 a_e2 a_e3 a_lo a_ho c82 r75.2.2.1 c_mv c_ml r75.2.2.2.1 r74.2 r75.2.2.2.2 r71.2.2.2.2.2 c_fi c_st c_vz ++ wK G a_ko a_kq c_kb c_kn c_kt) := by rw [ec82]; exact hD
              have ey := Option.some.inj h
              rw [← ey] at hRa hRc
              have hRa : r0 = (c82, r75.2.2.1, r75.2.2.2.1, r74.2, r75.2.2.2.2, r71.2.2.2.2.2) := hRa
              have hRc : rc = 0 + dr71 + dr75 + 0 := hRc
              subst hRa
              exact zretv (u77.1, u77.2) hQ hS.2.2 hx hb hr hlocks hP hD hS trivial (by omega) (by omega) d_Tree_add_251
      have L70 : ∀ v : (Int32 × Int32 × Int32 × (Nat → Int32)), lp (fun v => s_Tree_add_70 c_cl c_kb r9 v.1 v.2.1 v.2.2.1 v.2.2.2) v = some y14 → ∀ (H : Heap) (locs : List Loc) (ls : Array Slot), va_P G.1 classes (wT G a_t a_c a_mv a_fr a_br a_e0 a_e1 a_e2 a_e3 a_lo a_ho v.2.2.2 c_cl c_mv c_ml c_en c_rt c_fr c_br c_fi c_st c_vz ++ wK G a_ko a_kq c_kb c_kn c_kt) H → va_D A (wT G a_t a_c a_mv a_fr a_br a_e0 a_e1 a_e2 a_e3 a_lo a_ho v.2.2.2 c_cl c_mv c_ml c_en c_rt c_fr c_br c_fi c_st c_vz ++ wK G a_ko a_kq c_kb c_kn c_kt) → va_S A xs.heap H locs → lv_has ls 15 [(0, .ref a_t), (1, .ref a_ko), (2, .long p_2), (4, .int z6), (5, .int r8), (6, .int r9), (7, .int v.1), (8, .int v.2.1), (9, .int v.2.2.1)] → W xp l xe { frames := 6, cells := rc, slots := 1024 * rc, locals := 154 } xs xm ([.ref a_t, .ref a_ko, .long p_2] : List Value).toArray xb xme xc H locs (0) (1024 * (0)) Q (F0 xm 70 ls []) := by
        refine lp_walk _ (fun v x h hc he => ?_)
        obtain ⟨x7_10, x8_11, x9_12, c13⟩ := v
        intro H locs ls hP hD hS hl
        have h : s_Tree_add_70 c_cl c_kb r9 x7_10 x8_11 x9_12 c13 = some x := h
        unfold s_Tree_add_70 at h
        refine lv_iload hx hb d_Tree_add_70 (lv_at hl 8 rfl) ?_
        refine lv_if_le (tgt := 134) hx hb d_Tree_add_72 (by decide) (fun q15 => ?_) (fun q15 => ?_)
        · have h := it h q15
          exact E70 x7_10 x8_11 x9_12 c13 (he _ (Option.some.inj h).symm) H locs ls hP hD hS (lv_sub hl [0, 1, 2, 3, 4, 5, 6, 7, 8] rfl)
        · have h := ie h q15
          refine lv_aload_n hx hb d_Tree_add_75 rfl (lv_at hl 0 rfl) ?_
          refine va_get (D := G.1) (ci := 4) (v := .ref a_c) (C := "BranchStore$Tree") (T := F_Tree) (N := 15) hx hb hts i_Tree hown hK hP 0 rfl rfl 0 (by decide) (hts _ k_123) (fun _ h9 => h9) rfl d_Tree_add_76 ?_
          refine lv_iload hx hb d_Tree_add_79 (lv_at hl 8 rfl) ?_
          refine lv_iconst (v := 3) hx hb d_Tree_add_81 (by decide) ?_
          refine lv_iadd hx hb d_Tree_add_82 ?_
          obtain ⟨h16, h⟩ := gi_k h
          refine va_iald hx hb hK hP 1 0 rfl rfl h16 d_Tree_add_83 ?_
          refine lv_iload hx hb d_Tree_add_84 (lv_at hl 5 rfl) ?_
          refine lv_icmp_ge (tgt := 134) hx hb d_Tree_add_86 (by decide) (fun q17 => ?_) (fun q17 => ?_)
          · have h := it h q17
            exact E70 x7_10 x8_11 x9_12 c13 (he _ (Option.some.inj h).symm) H locs ls hP hD hS (lv_sub hl [0, 1, 2, 3, 4, 5, 6, 7, 8] rfl)
          · have h := ie h q17
            refine lv_aload_n hx hb d_Tree_add_89 rfl (lv_at hl 0 rfl) ?_
            refine va_get (D := G.1) (ci := 4) (v := .ref a_c) (C := "BranchStore$Tree") (T := F_Tree) (N := 15) hx hb hts i_Tree hown hK hP 0 rfl rfl 0 (by decide) (hts _ k_123) (fun _ h9 => h9) rfl d_Tree_add_90 ?_
            refine lv_iload hx hb d_Tree_add_93 (lv_at hl 8 rfl) ?_
            refine lv_iconst (v := 2) hx hb d_Tree_add_95 (by decide) ?_
            refine lv_iadd hx hb d_Tree_add_96 ?_
            refine lv_dup2_11 hx hb d_Tree_add_97 rfl rfl ?_
            obtain ⟨h18, h⟩ := gi_k h
            refine va_iald hx hb hK hP 1 0 rfl rfl h18 d_Tree_add_98 ?_
            refine lv_iconst (v := 1) hx hb d_Tree_add_99 (by decide) ?_
            refine lv_iadd hx hb d_Tree_add_100 ?_
            obtain ⟨h19, h⟩ := gi_k h
            refine va_iast hx hb hK hP hD hS 1 0 rfl rfl h19 d_Tree_add_101 (fun H locs hP hD hS => ?_)
            obtain ⟨c20, ec20⟩ : ∃ y, y = upd c13 (x9_12 + 2).toNatClampNeg ((c13 (x9_12 + 2).toNatClampNeg) + 1) := ⟨_, rfl⟩
            have h := nm_k h c20 ec20
            have hP : va_P G.1 classes (wT G a_t a_c a_mv a_fr a_br a_e0 a_e1 a_e2 a_e3 a_lo a_ho c20 c_cl c_mv c_ml c_en c_rt c_fr c_br c_fi c_st c_vz ++ wK G a_ko a_kq c_kb c_kn c_kt) H := by rw [ec20]; exact hP
            have hD : va_D A (wT G a_t a_c a_mv a_fr a_br a_e0 a_e1 a_e2 a_e3 a_lo a_ho c20 c_cl c_mv c_ml c_en c_rt c_fr c_br c_fi c_st c_vz ++ wK G a_ko a_kq c_kb c_kn c_kt) := by rw [ec20]; exact hD
            refine lv_iload hx hb d_Tree_add_102 (lv_at hl 8 rfl) ?_
            refine lv_istore (lv' := [(7, .int x9_12), (0, .ref a_t), (1, .ref a_ko), (2, .long p_2), (4, .int z6), (5, .int r8), (6, .int r9), (8, .int x8_11), (9, .int x9_12)]) hx hb d_Tree_add_104 hl (by decide) rfl (fun ls hl => ?_)
            refine lv_aload_n hx hb d_Tree_add_106 rfl (lv_at hl 2 rfl) ?_
            refine lv_aload_n hx hb d_Tree_add_107 rfl (lv_at hl 1 rfl) ?_
            refine va_get (D := G.1) (ci := 4) (v := .ref a_c) (C := "BranchStore$Tree") (T := F_Tree) (N := 15) hx hb hts i_Tree hown hK hP 0 rfl rfl 0 (by decide) (hts _ k_123) (fun _ h9 => h9) rfl d_Tree_add_108 ?_
            refine lv_iload hx hb d_Tree_add_111 (lv_at hl 8 rfl) ?_
            refine lv_iconst (v := 3) hx hb d_Tree_add_113 (by decide) ?_
            refine lv_iadd hx hb d_Tree_add_114 ?_
            obtain ⟨h21, h⟩ := gi_k h
            refine va_iald hx hb hK hP 1 0 rfl rfl h21 d_Tree_add_115 ?_
            obtain ⟨r22, hr22, h⟩ := ob h
            refine zpcalli (wr := [(a_t, .inr (4, [.ref a_c, .ref a_mv, .int c_en, .int c_rt, .ref a_fr, .ref a_e0, .ref a_e1, .ref a_e2, .ref a_e3, .ref a_br, .ref a_lo, .ref a_ho, .long c_fi, .long c_st, .long c_vz])), (a_c, .inl (G.2.1, c_cl, .inl c20)), (a_mv, .inl (G.2.1, c_ml, .inl c_mv)), (a_fr, .inl (G.2.1, 261, .inl c_fr)), (a_br, .inl (G.2.1, 4, .inl c_br)), (a_e0, .inr (1, [.int 0, .int 9, .int 4, .int 5])), (a_e1, .inr (1, [.int 1, .int 24, .int 16, .int 8])), (a_e2, .inr (2, [.int 2, .int 116, .int 48])), (a_e3, .inr (3, [.int 3, .int 260, .int 256]))]) (w2 := fun _ => (wT G a_t a_c a_mv a_fr a_br a_e0 a_e1 a_e2 a_e3 a_lo a_ho c20 c_cl c_mv c_ml c_en c_rt c_fr c_br c_fi c_st c_vz ++ wK G a_ko a_kq c_kb c_kn c_kt)) (zrunV (As := [.int (c20 (x9_12 + 3).toNatClampNeg)]) (rest := []) ⟨hx, hb, hml, hown, hts⟩ hN hK (c_Key_at l G H.size a_ko a_kq c_kb c_kn c_kt (c20 (x9_12 + 3).toNatClampNeg) r22 hr22) ⟨rfl, rfl⟩ kv_Tree_92 ⟨Nat.le_of_ble_eq_true rfl, Nat.le_of_ble_eq_true rfl⟩ 0 rfl rfl rfl hl.1 (Nat.le_of_ble_eq_true rfl) d_Tree_add_116 ⟨by show _ ≤ rc; omega, by show _ ≤ 1024 * rc; omega⟩) hP hD hS hA [9, 10] [0, 1, 2, 3, 4, 5, 6, 7, 8] [0, 1, 2, 3, 4, 5, 6, 7, 8, 9, 10] rfl rfl rfl rfl (by decide) rfl (fun _ => rfl) (fun rr _ H hw hP hD hS => ?_)
            have hw := hw.symm
            subst hw
            refine lv_istore (lv' := [(8, .int r22), (7, .int x9_12), (0, .ref a_t), (1, .ref a_ko), (2, .long p_2), (4, .int z6), (5, .int r8), (6, .int r9), (9, .int x9_12)]) hx hb d_Tree_add_119 hl (by decide) rfl (fun ls hl => ?_)
            refine lv_aload_n hx hb d_Tree_add_121 rfl (lv_at hl 2 rfl) ?_
            refine lv_iload hx hb d_Tree_add_122 (lv_at hl 8 rfl) ?_
            refine lv_iload hx hb d_Tree_add_124 (lv_at hl 0 rfl) ?_
            obtain ⟨r23, hr23, h⟩ := ob h
            refine zpcalli (wr := [(a_ko, .inr (0, [.ref a_kq, .int c_kn, .int c_kt])), (a_kq, .inl (G.2.2.1, 50, .inl c_kb))]) (w2 := fun _ => (wT G a_t a_c a_mv a_fr a_br a_e0 a_e1 a_e2 a_e3 a_lo a_ho c20 c_cl c_mv c_ml c_en c_rt c_fr c_br c_fi c_st c_vz ++ wK G a_ko a_kq c_kb c_kn c_kt)) (zrunV (As := [.int x9_12, .int r22]) (rest := []) ⟨hx, hb, hml, hown, hts⟩ hN hK (c_Tree_child l G H.size a_t a_c a_mv a_fr a_br a_e0 a_e1 a_e2 a_e3 a_lo a_ho c20 c_cl c_mv c_ml c_en c_rt c_fr c_br c_fi c_st c_vz x9_12 r22 r23 hr23) ⟨rfl, rfl⟩ kv_Tree_126 ⟨Nat.le_of_ble_eq_true rfl, Nat.le_of_ble_eq_true rfl⟩ 0 rfl rfl rfl hl.1 (Nat.le_of_ble_eq_true rfl) d_Tree_add_126 ⟨by show _ ≤ rc; omega, by show _ ≤ 1024 * rc; omega⟩) hP hD hS hA [0, 1, 2, 3, 4, 5, 6, 7, 8] [9, 10] [2, 3, 4, 5, 6, 7, 8, 9, 10, 0, 1] rfl rfl rfl rfl (by decide) rfl (fun _ => rfl) (fun rr _ H hw hP hD hS => ?_)
            have hw := hw.symm
            subst hw
            refine lv_istore (lv' := [(9, .int r23), (8, .int r22), (7, .int x9_12), (0, .ref a_t), (1, .ref a_ko), (2, .long p_2), (4, .int z6), (5, .int r8), (6, .int r9)]) hx hb d_Tree_add_129 hl (by decide) rfl (fun ls hl => ?_)
            refine lv_goto (tgt := 70) hx hb d_Tree_add_131 (by decide) ?_
            exact hc _ (Option.some.inj h).symm H locs ls hP hD hS (lv_sub hl [3, 4, 5, 6, 7, 8, 2, 1, 0] rfl)
      exact L70 _ hy14 _ _ ls hP hD hS (lv_sub hl [6, 7, 8, 5, 4, 3, 2, 1, 0] rfl)
    · have h := it h q7
      refine lv_aload_n hx hb d_Tree_add_29 rfl (lv_at hl 1 rfl) ?_
      refine lv_aload_n hx hb d_Tree_add_30 rfl (lv_at hl 1 rfl) ?_
      refine lv_aload_n hx hb d_Tree_add_31 rfl (lv_at hl 2 rfl) ?_
      refine lv_lload_n hx hb d_Tree_add_32 rfl (lv_at hl 3 rfl) ?_
      refine lv_iload hx hb d_Tree_add_33 (lv_at hl 0 rfl) ?_
      obtain ⟨r83, dr83, y84, hr83, h, hRa, hRc⟩ := bd_k h hRa hRc
      refine zcalli (wr := []) (w2 := fun (u85 : Nat × Nat) => (wT G a_t u85.1 u85.2 a_fr a_br a_e0 a_e1 a_e2 a_e3 a_lo a_ho r83.2.1 r83.2.2.1 c_mv c_ml r83.2.2.2.1 c_rt r83.2.2.2.2 c_br c_fi c_st c_vz ++ wK G a_ko a_kq c_kb c_kn c_kt)) (zrunV (As := [.ref a_ko, .long p_2, .int z6]) (rest := [.ref a_t]) ⟨hx, hb, hml, hown, hts⟩ hN hK (c_Tree_leaf l G H.size a_t a_c a_mv a_fr a_br a_e0 a_e1 a_e2 a_e3 a_lo a_ho a_ko a_kq c_c c_cl c_mv c_ml c_en c_rt c_fr c_br c_fi c_st c_vz c_kb c_kn c_kt p_2 z6 hzz6 r83 dr83 hr83) ⟨rfl, rfl⟩ kv_Tree_151 ⟨Nat.le_of_ble_eq_true rfl, Nat.le_of_ble_eq_true rfl⟩ 0 rfl rfl rfl hl.1 (Nat.le_of_ble_eq_true rfl) d_Tree_add_35 ⟨by show _ ≤ rc; omega, by show _ ≤ 1024 * rc; omega⟩) hP hD hS hA [0, 1, 2, 3, 4, 5, 6, 7, 8, 9, 10] [] [0, 1, 2, 3, 4, 5, 6, 7, 8, 9, 10] rfl rfl rfl rfl (by decide) rfl (fun _ => rfl) (fun rr u85 H locs hw hP hD hS => ?_)
      refine W.widen (k := 0 + dr83) (n := 1024 * (0 + dr83)) (by omega) (by omega) ?_
      have hw := hw.symm
      subst hw
      refine va_put (D := G.1) (ci := 4) (v := .int r83.1) (ty := .int) (C := "BranchStore$Tree") (T := F_Tree) (N := 15) hx hb hts i_Tree t_Tree t_Tree_ok n_Tree hown hK hP hD hS 0 rfl rfl 3 (by decide) (hts _ k_126) (fun _ h9 => h9) rfl (by decide +kernel) rfl rfl (Nat.le_of_ble_eq_true rfl) d_Tree_add_38 (fun H locs hP hD hS => ?_)
      have hP : va_P G.1 classes (wT G a_t u85.1 u85.2 a_fr a_br a_e0 a_e1 a_e2 a_e3 a_lo a_ho r83.2.1 r83.2.2.1 c_mv c_ml r83.2.2.2.1 r83.1 r83.2.2.2.2 c_br c_fi c_st c_vz ++ wK G a_ko a_kq c_kb c_kn c_kt) H := hP
      have hD : va_D A (wT G a_t u85.1 u85.2 a_fr a_br a_e0 a_e1 a_e2 a_e3 a_lo a_ho r83.2.1 r83.2.2.1 c_mv c_ml r83.2.2.2.1 r83.1 r83.2.2.2.2 c_br c_fi c_st c_vz ++ wK G a_ko a_kq c_kb c_kn c_kt) := hD
      have ey := Option.some.inj h
      rw [← ey] at hRa hRc
      have hRa : r0 = (r83.2.1, r83.2.2.1, r83.2.2.2.1, r83.1, r83.2.2.2.2, c_br) := hRa
      have hRc : rc = 0 + dr83 + 0 := hRc
      subst hRa
      exact zretv (u85.1, u85.2) hQ hS.2.2 hx hb hr hlocks hP hD hS trivial (by omega) (by omega) d_Tree_add_41
  have h := hy4
  refine lv_if_gt (tgt := 15) hx hb d_Tree_add_4 (by decide) (fun q2 => ?_) (fun q2 => ?_)
  · have h := it h q2
    refine lv_iconst (v := 1) hx hb d_Tree_add_15 (by decide) ?_
    refine lv_goto (tgt := 20) hx hb d_Tree_add_16 (by decide) ?_
    exact J20 1 rfl (Option.some.inj h) H locs ls hP hD hS (lv_sub hl [0, 1, 2] rfl)
  · have h := ie h q2
    refine lv_aload_n hx hb d_Tree_add_7 rfl (lv_at hl 1 rfl) ?_
    refine va_get (D := G.1) (ci := 0) (v := .int c_kn) (C := "BranchStore$Key") (T := F_Key) (N := 3) hx hb hts i_Key hown hK hP 9 rfl rfl 1 (by decide) (hts _ k_110) (fun _ h9 => h9) rfl d_Tree_add_8 ?_
    refine lv_iconst (v := 2) hx hb d_Tree_add_11 (by decide) ?_
    refine lv_icmp_ne (tgt := 19) hx hb d_Tree_add_12 (by decide) (fun q3 => ?_) (fun q3 => ?_)
    · have h := ie h q3
      refine lv_iconst (v := 0) hx hb d_Tree_add_19 (by decide) ?_
      exact J20 0 rfl (Option.some.inj h) H locs ls hP hD hS (lv_sub hl [0, 1, 2] rfl)
    · have h := it h q3
      refine lv_iconst (v := 1) hx hb d_Tree_add_15 (by decide) ?_
      refine lv_goto (tgt := 20) hx hb d_Tree_add_16 (by decide) ?_
      exact J20 1 rfl (Option.some.inj h) H locs ls hP hD hS (lv_sub hl [0, 1, 2] rfl)

noncomputable def s_Tree_remove_16 (c_cl : Nat) (c_kb : (Nat → Int32)) (x2 : Int32) (x3 : Int32) (x4 : Int32) (x5 : Int32) (x6 : Int32) (c_c : (Nat → Int32)) : Option ((Int32 × Int32 × Int32 × Int32 × Int32 × (Nat → Int32)) ⊕ (Int32 × Int32 × Int32 × Int32 × Int32 × (Nat → Int32))) :=
if x6 ≤ 0 then
(some (.inr (x2, x3, x4, x5, x6, c_c)))
else
(gi (x6 + 2) c_cl <|
gi (x6 + 2) c_cl <|
nm (upd c_c (x6 + 2).toNatClampNeg ((c_c (x6 + 2).toNatClampNeg) - 1)) fun c11 =>
gi (x6 + 3) c_cl <|
(f_Key_at c_kb (c11 (x6 + 3).toNatClampNeg)).bind fun r13 =>
(f_Tree_child c11 c_cl x6 r13).bind fun r14 =>
some (.inl (x4, x5, x6, r13, r14, c11)))
noncomputable def f_Tree_remove (c_c : (Nat → Int32)) (c_cl : Nat) (c_en : Int32) (c_rt : Int32) (c_fr : (Nat → Int32)) (c_br : (Nat → Int32)) (c_kb : (Nat → Int32))  : Option (((Nat → Int32) × Nat × Int32 × Int32 × (Nat → Int32) × (Nat → Int32)) × Nat) :=
(lp (fun v => s_Tree_remove_16 c_cl c_kb v.1 v.2.1 v.2.2.1 v.2.2.2.1 v.2.2.2.2.1 v.2.2.2.2.2) (0, 0, 0, 0, c_rt, c_c)).bind fun y21 =>
gi (-y21.2.2.2.2.1) c_cl <|
(f_Tree_leafCells (y21.2.2.2.2.2 (-y21.2.2.2.2.1).toNatClampNeg)).bind fun r23 =>
(f_Tree_release y21.2.2.2.2.2 c_cl c_fr (-y21.2.2.2.2.1) r23).bind fun r24 =>
if y21.2.2.1 = 0 then
(some ((r24.1, c_cl, c_en, 0, r24.2, c_br), 0))
else
((f_Tree_shapeOf r24.1 c_cl y21.2.2.1).bind fun r26 =>
(f_drop r26 c_cl r24.1 y21.2.2.1 y21.2.2.2.1).bind fun r27 =>
gi (y21.2.2.1 + 1) c_cl <|
if (r27 (y21.2.2.1 + 1).toNatClampNeg) = 1 then
((f_from r26 c_cl r27 y21.2.2.1 0).bind fun r41 =>
(f_Tree_child r27 c_cl y21.2.2.1 r41).bind fun r42 =>
(f_Tree_relink r27 c_cl c_rt y21.1 y21.2.1 r42).bind fun r43 =>
gi y21.2.2.1 c_cl <|
gi (r43.1 y21.2.2.1.toNatClampNeg) 4 <|
gi (r43.1 y21.2.2.1.toNatClampNeg) 4 <|
nm (upd c_br (r43.1 y21.2.2.1.toNatClampNeg).toNatClampNeg ((c_br (r43.1 y21.2.2.1.toNatClampNeg).toNatClampNeg) - 1)) fun c47 =>
(f_Tree_release r43.1 c_cl r24.2 y21.2.2.1 (zcells r26)).bind fun r48 =>
some ((r48.1, c_cl, c_en, r43.2, r48.2, c47), 0))
else
(gi y21.2.2.1 c_cl <|
if (r27 y21.2.2.1.toNatClampNeg) ≤ 0 then
(some ((r27, c_cl, c_en, c_rt, r24.2, c_br), 0))
else
(gi (y21.2.2.1 + 1) c_cl <|
gi y21.2.2.1 c_cl <|
(f_Tree_shape ((r27 y21.2.2.1.toNatClampNeg) - 1)).bind fun r34 =>
if (zmost r34) < (r27 (y21.2.2.1 + 1).toNatClampNeg) then
(some ((r27, c_cl, c_en, c_rt, r24.2, c_br), 0))
else
(gi y21.2.2.1 c_cl <|
bd (f_Tree_resized r27 c_cl c_en r24.2 c_br y21.2.2.1 ((r27 y21.2.2.1.toNatClampNeg) - 1)) fun r37 =>
(f_Tree_relink r37.2.1 r37.2.2.1 c_rt y21.1 y21.2.1 r37.1).bind fun r40 =>
some ((r40.1, r37.2.2.1, r37.2.2.2.1, r40.2, r37.2.2.2.2.1, r37.2.2.2.2.2), 0)))))
set_option maxHeartbeats 8000000 in
set_option maxRecDepth 100000 in
theorem c_Tree_remove (l : Launch) (G : zG) (sz : Nat) (a_t a_c a_mv a_fr a_br a_e0 a_e1 a_e2 a_e3 a_lo a_ho a_ko a_kq : Nat) (c_c : (Nat → Int32)) (c_cl : Nat) (c_mv : (Nat → Int32)) (c_ml : Nat) (c_en : Int32) (c_rt : Int32) (c_fr : (Nat → Int32)) (c_br : (Nat → Int32)) (c_fi : Int64) (c_st : Int64) (c_vz : Int64) (c_kb : (Nat → Int32)) (c_kn : Int32) (c_kt : Int32) (r0 : ((Nat → Int32) × Nat × Int32 × Int32 × (Nat → Int32) × (Nat → Int32))) (rc : Nat) (hf : f_Tree_remove c_c c_cl c_en c_rt c_fr c_br c_kb = some (r0, rc)) :
    Met l y_Tree_remove (Cond.code y_Tree_remove prog_7_method_28_code 9 none :: lw_ok) { frames := 5, cells := rc, slots := 1024 * rc, locals := 154 } (zPc G sz [.ref a_t, .ref a_ko] (wT G a_t a_c a_mv a_fr a_br a_e0 a_e1 a_e2 a_e3 a_lo a_ho c_c c_cl c_mv c_ml c_en c_rt c_fr c_br c_fi c_st c_vz ++ wK G a_ko a_kq c_kb c_kn c_kt))
      ((fun (A : Nat → Prop) => va_Qv (fun (u : Nat × Nat) => True) (fun u t => zB G A (wT G a_t u.1 u.2 a_fr a_br a_e0 a_e1 a_e2 a_e3 a_lo a_ho r0.1 r0.2.1 c_mv c_ml r0.2.2.1 r0.2.2.2.1 r0.2.2.2.2.1 r0.2.2.2.2.2 c_fi c_st c_vz ++ wK G a_ko a_kq c_kb c_kn c_kt) t) A) (va_A (wT G a_t a_c a_mv a_fr a_br a_e0 a_e1 a_e2 a_e3 a_lo a_ho c_c c_cl c_mv c_ml c_en c_rt c_fr c_br c_fi c_st c_vz ++ wK G a_ko a_kq c_kb c_kn c_kt) sz)) rc (1024 * rc) (va_A (wT G a_t a_c a_mv a_fr a_br a_e0 a_e1 a_e2 a_e3 a_lo a_ho c_c c_cl c_mv c_ml c_en c_rt c_fr c_br c_fi c_st c_vz ++ wK G a_ko a_kq c_kb c_kn c_kt) sz) := by
  refine zMet (Qc := fun (A : Nat → Prop) => va_Qv (fun (u : Nat × Nat) => True) (fun u t => zB G A (wT G a_t u.1 u.2 a_fr a_br a_e0 a_e1 a_e2 a_e3 a_lo a_ho r0.1 r0.2.1 c_mv c_ml r0.2.2.1 r0.2.2.2.1 r0.2.2.2.2.1 r0.2.2.2.2.2 c_fi c_st c_vz ++ wK G a_ko a_kq c_kb c_kn c_kt) t) A) (by decide) (Nat.le_of_ble_eq_true rfl) (fun xp xe xs xm xb xme xc A ls Q H locs C hN hK hP hD hS hA hl hQ => ?_)
  obtain ⟨hx, hb, hr, hts, hown, hlocks, hml, hin⟩ := C
  have hl : lv_has ls 9 [(0, .ref a_t), (1, .ref a_ko)] := hl
  have h := hf
  unfold f_Tree_remove at h
  have hRa : r0 = (r0, rc).1 := rfl
  have hRc : rc = 0 + (r0, rc).2 := (Nat.zero_add _).symm
  refine W.widen (k := 0) (n := 1024 * 0) (Nat.le_refl _) (Nat.le_refl _) ?_
  refine lv_iconst (v := 0) hx hb d_Tree_remove_0 (by decide) ?_
  refine lv_istore_n (lv' := [(2, .int 0), (0, .ref a_t), (1, .ref a_ko)]) hx hb d_Tree_remove_1 rfl hl (by decide) rfl (fun ls hl => ?_)
  refine lv_iconst (v := 0) hx hb d_Tree_remove_2 (by decide) ?_
  refine lv_istore_n (lv' := [(3, .int 0), (2, .int 0), (0, .ref a_t), (1, .ref a_ko)]) hx hb d_Tree_remove_3 rfl hl (by decide) rfl (fun ls hl => ?_)
  refine lv_iconst (v := 0) hx hb d_Tree_remove_4 (by decide) ?_
  refine lv_istore (lv' := [(4, .int 0), (3, .int 0), (2, .int 0), (0, .ref a_t), (1, .ref a_ko)]) hx hb d_Tree_remove_5 hl (by decide) rfl (fun ls hl => ?_)
  refine lv_iconst (v := 0) hx hb d_Tree_remove_7 (by decide) ?_
  refine lv_istore (lv' := [(5, .int 0), (4, .int 0), (3, .int 0), (2, .int 0), (0, .ref a_t), (1, .ref a_ko)]) hx hb d_Tree_remove_8 hl (by decide) rfl (fun ls hl => ?_)
  refine lv_aload_n hx hb d_Tree_remove_10 rfl (lv_at hl 4 rfl) ?_
  refine va_get (D := G.1) (ci := 4) (v := .int c_rt) (C := "BranchStore$Tree") (T := F_Tree) (N := 15) hx hb hts i_Tree hown hK hP 0 rfl rfl 3 (by decide) (hts _ k_126) (fun _ h9 => h9) rfl d_Tree_remove_11 ?_
  refine lv_istore (lv' := [(6, .int c_rt), (5, .int 0), (4, .int 0), (3, .int 0), (2, .int 0), (0, .ref a_t), (1, .ref a_ko)]) hx hb d_Tree_remove_14 hl (by decide) rfl (fun ls hl => ?_)
  obtain ⟨y7, hy7, h⟩ := ob h
  have E16 : ∀ (z15 : Int32) (z16 : Int32) (z17 : Int32) (z18 : Int32) (z19 : Int32) (z20 : (Nat → Int32)), (z15, z16, z17, z18, z19, z20) = y7 → ∀ (H : Heap) (locs : List Loc) (ls : Array Slot), va_P G.1 classes (wT G a_t a_c a_mv a_fr a_br a_e0 a_e1 a_e2 a_e3 a_lo a_ho z20 c_cl c_mv c_ml c_en c_rt c_fr c_br c_fi c_st c_vz ++ wK G a_ko a_kq c_kb c_kn c_kt) H → va_D A (wT G a_t a_c a_mv a_fr a_br a_e0 a_e1 a_e2 a_e3 a_lo a_ho z20 c_cl c_mv c_ml c_en c_rt c_fr c_br c_fi c_st c_vz ++ wK G a_ko a_kq c_kb c_kn c_kt) → va_S A xs.heap H locs → lv_has ls 9 [(0, .ref a_t), (2, .int z15), (3, .int z16), (4, .int z17), (5, .int z18), (6, .int z19)] → W xp l xe { frames := 5, cells := rc, slots := 1024 * rc, locals := 154 } xs xm ([.ref a_t, .ref a_ko] : List Value).toArray xb xme xc H locs (0) (1024 * (0)) Q (F0 xm 72 ls []) := by
    intro z15 z16 z17 z18 z19 z20 ey H locs ls hP hD hS hl
    subst ey
    try dsimp only at h
    refine lv_aload_n hx hb d_Tree_remove_72 rfl (lv_at hl 0 rfl) ?_
    refine lv_iload hx hb d_Tree_remove_73 (lv_at hl 5 rfl) ?_
    refine lv_ineg hx hb d_Tree_remove_75 ?_
    refine lv_aload_n hx hb d_Tree_remove_76 rfl (lv_at hl 0 rfl) ?_
    refine va_get (D := G.1) (ci := 4) (v := .ref a_c) (C := "BranchStore$Tree") (T := F_Tree) (N := 15) hx hb hts i_Tree hown hK hP 0 rfl rfl 0 (by decide) (hts _ k_123) (fun _ h9 => h9) rfl d_Tree_remove_77 ?_
    refine lv_iload hx hb d_Tree_remove_80 (lv_at hl 5 rfl) ?_
    refine lv_ineg hx hb d_Tree_remove_82 ?_
    obtain ⟨h22, h⟩ := gi_k h
    refine va_iald hx hb hK hP 1 0 rfl rfl h22 d_Tree_remove_83 ?_
    obtain ⟨r23, hr23, h⟩ := ob h
    refine zpcalli (wr := (wT G a_t a_c a_mv a_fr a_br a_e0 a_e1 a_e2 a_e3 a_lo a_ho z20 c_cl c_mv c_ml c_en c_rt c_fr c_br c_fi c_st c_vz ++ wK G a_ko a_kq c_kb c_kn c_kt)) (w2 := fun _ => (wT G a_t a_c a_mv a_fr a_br a_e0 a_e1 a_e2 a_e3 a_lo a_ho z20 c_cl c_mv c_ml c_en c_rt c_fr c_br c_fi c_st c_vz ++ wK G a_ko a_kq c_kb c_kn c_kt)) (zrunS (As := [.int (z20 (-z19).toNatClampNeg)]) (rest := [.int (-z19), .ref a_t]) ⟨hx, hb, hml, hown, hts⟩ hN hK (c_Tree_leafCells l G H.size (z20 (-z19).toNatClampNeg) r23 hr23) ⟨rfl, rfl⟩ kv_Tree_89 ⟨Nat.le_of_ble_eq_true rfl, Nat.le_of_ble_eq_true rfl⟩ rfl hl.1 (Nat.le_of_ble_eq_true rfl) d_Tree_remove_84 ⟨by show _ ≤ rc; omega, by show _ ≤ 1024 * rc; omega⟩) hP hD hS hA [] [0, 1, 2, 3, 4, 5, 6, 7, 8, 9, 10] [0, 1, 2, 3, 4, 5, 6, 7, 8, 9, 10] rfl rfl rfl rfl (by decide) rfl (fun _ => rfl) (fun rr _ H hw hP hD hS => ?_)
    have hw := hw.symm
    subst hw
    obtain ⟨r24, hr24, h⟩ := ob h
    refine zcallv (wr := [(a_ko, .inr (0, [.ref a_kq, .int c_kn, .int c_kt])), (a_kq, .inl (G.2.2.1, 50, .inl c_kb))]) (w2 := fun _ => (wT G a_t a_c a_mv a_fr a_br a_e0 a_e1 a_e2 a_e3 a_lo a_ho r24.1 c_cl c_mv c_ml c_en c_rt r24.2 c_br c_fi c_st c_vz ++ wK G a_ko a_kq c_kb c_kn c_kt)) (zrunV (As := [.int (-z19), .int r23]) (rest := []) ⟨hx, hb, hml, hown, hts⟩ hN hK (c_Tree_release l G H.size a_t a_c a_mv a_fr a_br a_e0 a_e1 a_e2 a_e3 a_lo a_ho z20 c_cl c_mv c_ml c_en c_rt c_fr c_br c_fi c_st c_vz (-z19) r23 r24 hr24) ⟨rfl, rfl⟩ kv_Tree_172 ⟨Nat.le_of_ble_eq_true rfl, Nat.le_of_ble_eq_true rfl⟩ 0 rfl rfl rfl hl.1 (Nat.le_of_ble_eq_true rfl) d_Tree_remove_87 ⟨by show _ ≤ rc; omega, by show _ ≤ 1024 * rc; omega⟩) hP hD hS hA [0, 1, 2, 3, 4, 5, 6, 7, 8] [9, 10] [2, 3, 4, 5, 6, 7, 8, 9, 10, 0, 1] rfl rfl rfl rfl (by decide) rfl (fun _ => rfl) (fun _ H locs _ hP hD hS => ?_)
    refine lv_iload hx hb d_Tree_remove_90 (lv_at hl 3 rfl) ?_
    refine lv_if_ne (tgt := 101) hx hb d_Tree_remove_92 (by decide) (fun q25 => ?_) (fun q25 => ?_)
    · have h := ie h q25
      refine lv_aload_n hx hb d_Tree_remove_101 rfl (lv_at hl 0 rfl) ?_
      refine lv_iload hx hb d_Tree_remove_102 (lv_at hl 3 rfl) ?_
      obtain ⟨r26, hr26, h⟩ := ob h
      refine zpcallr (wr := [(a_ko, .inr (0, [.ref a_kq, .int c_kn, .int c_kt])), (a_kq, .inl (G.2.2.1, 50, .inl c_kb))]) (w2 := fun _ => (wT G a_t a_c a_mv a_fr a_br a_e0 a_e1 a_e2 a_e3 a_lo a_ho r24.1 c_cl c_mv c_ml c_en c_rt r24.2 c_br c_fi c_st c_vz ++ wK G a_ko a_kq c_kb c_kn c_kt)) (zrunV (As := [.int z17]) (rest := []) ⟨hx, hb, hml, hown, hts⟩ hN hK (c_Tree_shapeOf l G H.size a_t a_c a_mv a_fr a_br a_e0 a_e1 a_e2 a_e3 a_lo a_ho r24.1 c_cl c_mv c_ml c_en c_rt r24.2 c_br c_fi c_st c_vz z17 r26 hr26) ⟨rfl, rfl⟩ kv_Tree_116 ⟨Nat.le_of_ble_eq_true rfl, Nat.le_of_ble_eq_true rfl⟩ 0 rfl rfl rfl hl.1 (Nat.le_of_ble_eq_true rfl) d_Tree_remove_104 ⟨by show _ ≤ rc; omega, by show _ ≤ 1024 * rc; omega⟩) hP hD hS hA [0, 1, 2, 3, 4, 5, 6, 7, 8] [9, 10] [2, 3, 4, 5, 6, 7, 8, 9, 10, 0, 1] rfl rfl rfl rfl (by decide) rfl (fun _ => rfl) (fun _ ra H hw hP hD hS => ?_)
      subst hw
      refine lv_astore (lv' := [(7, .ref (zsh a_e0 a_e1 a_e2 a_e3 r26)), (0, .ref a_t), (2, .int z15), (3, .int z16), (4, .int z17), (5, .int z18), (6, .int z19)]) hx hb d_Tree_remove_107 hl (by decide) rfl (fun ls hl => ?_)
      refine lv_aload hx hb d_Tree_remove_109 (lv_at hl 0 rfl) ?_
      refine lv_aload_n hx hb d_Tree_remove_111 rfl (lv_at hl 1 rfl) ?_
      refine va_get (D := G.1) (ci := 4) (v := .ref a_c) (C := "BranchStore$Tree") (T := F_Tree) (N := 15) hx hb hts i_Tree hown hK hP 0 rfl rfl 0 (by decide) (hts _ k_123) (fun _ h9 => h9) rfl d_Tree_remove_112 ?_
      refine lv_iload hx hb d_Tree_remove_115 (lv_at hl 4 rfl) ?_
      refine lv_iload hx hb d_Tree_remove_117 (lv_at hl 5 rfl) ?_
      obtain ⟨r27, hr27, h⟩ := ob h
      refine zv_drop (k := r26) ⟨hx, hb, hml, hown, hts⟩ hN hK hP hD hS hA (zE_mk rfl rfl rfl rfl) rfl hr27 (Nat.le_of_ble_eq_true rfl) (Nat.le_of_ble_eq_true rfl) hl.1 (Nat.le_of_ble_eq_true rfl) d_Tree_remove_119 ⟨by show _ ≤ rc; omega, by show _ ≤ 1024 * rc; omega⟩ (fun H locs hP hD hS => ?_)
      have hP : va_P G.1 classes (wT G a_t a_c a_mv a_fr a_br a_e0 a_e1 a_e2 a_e3 a_lo a_ho r27 c_cl c_mv c_ml c_en c_rt r24.2 c_br c_fi c_st c_vz ++ wK G a_ko a_kq c_kb c_kn c_kt) H := hP
      have hD : va_D A (wT G a_t a_c a_mv a_fr a_br a_e0 a_e1 a_e2 a_e3 a_lo a_ho r27 c_cl c_mv c_ml c_en c_rt r24.2 c_br c_fi c_st c_vz ++ wK G a_ko a_kq c_kb c_kn c_kt) := hD
      refine lv_aload_n hx hb d_Tree_remove_122 rfl (lv_at hl 1 rfl) ?_
      refine va_get (D := G.1) (ci := 4) (v := .ref a_c) (C := "BranchStore$Tree") (T := F_Tree) (N := 15) hx hb hts i_Tree hown hK hP 0 rfl rfl 0 (by decide) (hts _ k_123) (fun _ h9 => h9) rfl d_Tree_remove_123 ?_
      refine lv_iload hx hb d_Tree_remove_126 (lv_at hl 4 rfl) ?_
      refine lv_iconst (v := 1) hx hb d_Tree_remove_128 (by decide) ?_
      refine lv_iadd hx hb d_Tree_remove_129 ?_
      obtain ⟨h28, h⟩ := gi_k h
      refine va_iald hx hb hK hP 1 0 rfl rfl h28 d_Tree_remove_130 ?_
      refine lv_iconst (v := 1) hx hb d_Tree_remove_131 (by decide) ?_
      refine lv_icmp_ne (tgt := 193) hx hb d_Tree_remove_132 (by decide) (fun q29 => ?_) (fun q29 => ?_)
      · have h := ie h q29
        refine lv_aload_n hx hb d_Tree_remove_193 rfl (lv_at hl 1 rfl) ?_
        refine va_get (D := G.1) (ci := 4) (v := .ref a_c) (C := "BranchStore$Tree") (T := F_Tree) (N := 15) hx hb hts i_Tree hown hK hP 0 rfl rfl 0 (by decide) (hts _ k_123) (fun _ h9 => h9) rfl d_Tree_remove_194 ?_
        refine lv_iload hx hb d_Tree_remove_197 (lv_at hl 4 rfl) ?_
        obtain ⟨h30, h⟩ := gi_k h
        refine va_iald hx hb hK hP 1 0 rfl rfl h30 d_Tree_remove_199 ?_
        refine lv_if_le (tgt := 256) hx hb d_Tree_remove_200 (by decide) (fun q31 => ?_) (fun q31 => ?_)
        · have h := it h q31
          have ey := Option.some.inj h
          rw [← ey] at hRa hRc
          have hRa : r0 = (r27, c_cl, c_en, c_rt, r24.2, c_br) := hRa
          have hRc : rc = 0 + 0 := hRc
          subst hRa
          exact zretv (a_c, a_mv) hQ hS.2.2 hx hb hr hlocks hP hD hS trivial (by omega) (by omega) d_Tree_remove_256
        · have h := ie h q31
          refine lv_aload_n hx hb d_Tree_remove_203 rfl (lv_at hl 1 rfl) ?_
          refine va_get (D := G.1) (ci := 4) (v := .ref a_c) (C := "BranchStore$Tree") (T := F_Tree) (N := 15) hx hb hts i_Tree hown hK hP 0 rfl rfl 0 (by decide) (hts _ k_123) (fun _ h9 => h9) rfl d_Tree_remove_204 ?_
          refine lv_iload hx hb d_Tree_remove_207 (lv_at hl 4 rfl) ?_
          refine lv_iconst (v := 1) hx hb d_Tree_remove_209 (by decide) ?_
          refine lv_iadd hx hb d_Tree_remove_210 ?_
          obtain ⟨h32, h⟩ := gi_k h
          refine va_iald hx hb hK hP 1 0 rfl rfl h32 d_Tree_remove_211 ?_
          refine lv_aload_n hx hb d_Tree_remove_212 rfl (lv_at hl 1 rfl) ?_
          refine lv_aload_n hx hb d_Tree_remove_213 rfl (lv_at hl 1 rfl) ?_
          refine va_get (D := G.1) (ci := 4) (v := .ref a_c) (C := "BranchStore$Tree") (T := F_Tree) (N := 15) hx hb hts i_Tree hown hK hP 0 rfl rfl 0 (by decide) (hts _ k_123) (fun _ h9 => h9) rfl d_Tree_remove_214 ?_
          refine lv_iload hx hb d_Tree_remove_217 (lv_at hl 4 rfl) ?_
          obtain ⟨h33, h⟩ := gi_k h
          refine va_iald hx hb hK hP 1 0 rfl rfl h33 d_Tree_remove_219 ?_
          refine lv_iconst (v := 1) hx hb d_Tree_remove_220 (by decide) ?_
          refine lv_isub hx hb d_Tree_remove_221 ?_
          obtain ⟨r34, hr34, h⟩ := ob h
          refine zpcallr (wr := [(a_ko, .inr (0, [.ref a_kq, .int c_kn, .int c_kt])), (a_kq, .inl (G.2.2.1, 50, .inl c_kb))]) (w2 := fun _ => (wT G a_t a_c a_mv a_fr a_br a_e0 a_e1 a_e2 a_e3 a_lo a_ho r27 c_cl c_mv c_ml c_en c_rt r24.2 c_br c_fi c_st c_vz ++ wK G a_ko a_kq c_kb c_kn c_kt)) (zrunV (As := [.int ((r27 z17.toNatClampNeg) - 1)]) (rest := [.int (r27 (z17 + 1).toNatClampNeg)]) ⟨hx, hb, hml, hown, hts⟩ hN hK (c_Tree_shape l G H.size a_t a_c a_mv a_fr a_br a_e0 a_e1 a_e2 a_e3 a_lo a_ho r27 c_cl c_mv c_ml c_en c_rt r24.2 c_br c_fi c_st c_vz ((r27 z17.toNatClampNeg) - 1) r34 hr34) ⟨rfl, rfl⟩ kv_Tree_73 ⟨Nat.le_of_ble_eq_true rfl, Nat.le_of_ble_eq_true rfl⟩ 0 rfl rfl rfl hl.1 (Nat.le_of_ble_eq_true rfl) d_Tree_remove_222 ⟨by show _ ≤ rc; omega, by show _ ≤ 1024 * rc; omega⟩) hP hD hS hA [0, 1, 2, 3, 4, 5, 6, 7, 8] [9, 10] [2, 3, 4, 5, 6, 7, 8, 9, 10, 0, 1] rfl rfl rfl rfl (by decide) rfl (fun _ => rfl) (fun _ ra H hw hP hD hS => ?_)
          subst hw
          refine zget_most (k := r34) hx hb hts hown hK hP (zE_mk rfl rfl rfl rfl) d_Tree_remove_225 ?_
          refine lv_icmp_gt (tgt := 256) hx hb d_Tree_remove_228 (by decide) (fun q35 => ?_) (fun q35 => ?_)
          · have h := it h q35
            have ey := Option.some.inj h
            rw [← ey] at hRa hRc
            have hRa : r0 = (r27, c_cl, c_en, c_rt, r24.2, c_br) := hRa
            have hRc : rc = 0 + 0 := hRc
            subst hRa
            exact zretv (a_c, a_mv) hQ hS.2.2 hx hb hr hlocks hP hD hS trivial (by omega) (by omega) d_Tree_remove_256
          · have h := ie h q35
            refine lv_aload_n hx hb d_Tree_remove_231 rfl (lv_at hl 1 rfl) ?_
            refine lv_iload hx hb d_Tree_remove_232 (lv_at hl 4 rfl) ?_
            refine lv_aload_n hx hb d_Tree_remove_234 rfl (lv_at hl 1 rfl) ?_
            refine va_get (D := G.1) (ci := 4) (v := .ref a_c) (C := "BranchStore$Tree") (T := F_Tree) (N := 15) hx hb hts i_Tree hown hK hP 0 rfl rfl 0 (by decide) (hts _ k_123) (fun _ h9 => h9) rfl d_Tree_remove_235 ?_
            refine lv_iload hx hb d_Tree_remove_238 (lv_at hl 4 rfl) ?_
            obtain ⟨h36, h⟩ := gi_k h
            refine va_iald hx hb hK hP 1 0 rfl rfl h36 d_Tree_remove_240 ?_
            refine lv_iconst (v := 1) hx hb d_Tree_remove_241 (by decide) ?_
            refine lv_isub hx hb d_Tree_remove_242 ?_
            obtain ⟨r37, dr37, y38, hr37, h, hRa, hRc⟩ := bd_k h hRa hRc
            refine zcalli (wr := [(a_ko, .inr (0, [.ref a_kq, .int c_kn, .int c_kt])), (a_kq, .inl (G.2.2.1, 50, .inl c_kb))]) (w2 := fun (u39 : Nat × Nat) => (wT G a_t u39.1 u39.2 a_fr a_br a_e0 a_e1 a_e2 a_e3 a_lo a_ho r37.2.1 r37.2.2.1 c_mv c_ml r37.2.2.2.1 c_rt r37.2.2.2.2.1 r37.2.2.2.2.2 c_fi c_st c_vz ++ wK G a_ko a_kq c_kb c_kn c_kt)) (zrunV (As := [.int z17, .int ((r27 z17.toNatClampNeg) - 1)]) (rest := []) ⟨hx, hb, hml, hown, hts⟩ hN hK (c_Tree_resized l G H.size a_t a_c a_mv a_fr a_br a_e0 a_e1 a_e2 a_e3 a_lo a_ho r27 c_cl c_mv c_ml c_en c_rt r24.2 c_br c_fi c_st c_vz z17 ((r27 z17.toNatClampNeg) - 1) r37 dr37 hr37) ⟨rfl, rfl⟩ kv_Tree_158 ⟨Nat.le_of_ble_eq_true rfl, Nat.le_of_ble_eq_true rfl⟩ 0 rfl rfl rfl hl.1 (Nat.le_of_ble_eq_true rfl) d_Tree_remove_243 ⟨by show _ ≤ rc; omega, by show _ ≤ 1024 * rc; omega⟩) hP hD hS hA [0, 1, 2, 3, 4, 5, 6, 7, 8] [9, 10] [2, 3, 4, 5, 6, 7, 8, 9, 10, 0, 1] rfl rfl rfl rfl (by decide) rfl (fun _ => rfl) (fun rr u39 H locs hw hP hD hS => ?_)
            refine W.widen (k := 0 + dr37) (n := 1024 * (0 + dr37)) (by omega) (by omega) ?_
            have hw := hw.symm
            subst hw
            refine lv_istore (lv' := [(8, .int r37.1), (7, .ref (zsh a_e0 a_e1 a_e2 a_e3 r26)), (0, .ref a_t), (2, .int z15), (3, .int z16), (4, .int z17), (5, .int z18), (6, .int z19)]) hx hb d_Tree_remove_246 hl (by decide) rfl (fun ls hl => ?_)
            refine lv_aload_n hx hb d_Tree_remove_248 rfl (lv_at hl 2 rfl) ?_
            refine lv_iload_n hx hb d_Tree_remove_249 rfl (lv_at hl 3 rfl) ?_
            refine lv_iload_n hx hb d_Tree_remove_250 rfl (lv_at hl 4 rfl) ?_
            refine lv_iload hx hb d_Tree_remove_251 (lv_at hl 0 rfl) ?_
            obtain ⟨r40, hr40, h⟩ := ob h
            refine zcallv (wr := [(a_ko, .inr (0, [.ref a_kq, .int c_kn, .int c_kt])), (a_kq, .inl (G.2.2.1, 50, .inl c_kb))]) (w2 := fun _ => (wT G a_t u39.1 u39.2 a_fr a_br a_e0 a_e1 a_e2 a_e3 a_lo a_ho r40.1 r37.2.2.1 c_mv c_ml r37.2.2.2.1 r40.2 r37.2.2.2.2.1 r37.2.2.2.2.2 c_fi c_st c_vz ++ wK G a_ko a_kq c_kb c_kn c_kt)) (zrunV (As := [.int z15, .int z16, .int r37.1]) (rest := []) ⟨hx, hb, hml, hown, hts⟩ hN hK (c_Tree_relink l G H.size a_t u39.1 u39.2 a_fr a_br a_e0 a_e1 a_e2 a_e3 a_lo a_ho r37.2.1 r37.2.2.1 c_mv c_ml r37.2.2.2.1 c_rt r37.2.2.2.2.1 r37.2.2.2.2.2 c_fi c_st c_vz z15 z16 r37.1 r40 hr40) ⟨rfl, rfl⟩ kv_Tree_161 ⟨Nat.le_of_ble_eq_true rfl, Nat.le_of_ble_eq_true rfl⟩ 0 rfl rfl rfl hl.1 (Nat.le_of_ble_eq_true rfl) d_Tree_remove_253 ⟨by show _ ≤ rc; omega, by show _ ≤ 1024 * rc; omega⟩) hP hD hS hA [0, 1, 2, 3, 4, 5, 6, 7, 8] [9, 10] [2, 3, 4, 5, 6, 7, 8, 9, 10, 0, 1] rfl rfl rfl rfl (by decide) rfl (fun _ => rfl) (fun _ H locs _ hP hD hS => ?_)
            have ey := Option.some.inj h
            rw [← ey] at hRa hRc
            have hRa : r0 = (r40.1, r37.2.2.1, r37.2.2.2.1, r40.2, r37.2.2.2.2.1, r37.2.2.2.2.2) := hRa
            have hRc : rc = 0 + dr37 + 0 := hRc
            subst hRa
            exact zretv (u39.1, u39.2) hQ hS.2.2 hx hb hr hlocks hP hD hS trivial (by omega) (by omega) d_Tree_remove_256
      · have h := it h q29
        refine lv_aload_n hx hb d_Tree_remove_135 rfl (lv_at hl 1 rfl) ?_
        refine lv_iload hx hb d_Tree_remove_136 (lv_at hl 4 rfl) ?_
        refine lv_aload hx hb d_Tree_remove_138 (lv_at hl 0 rfl) ?_
        refine lv_aload_n hx hb d_Tree_remove_140 rfl (lv_at hl 1 rfl) ?_
        refine va_get (D := G.1) (ci := 4) (v := .ref a_c) (C := "BranchStore$Tree") (T := F_Tree) (N := 15) hx hb hts i_Tree hown hK hP 0 rfl rfl 0 (by decide) (hts _ k_123) (fun _ h9 => h9) rfl d_Tree_remove_141 ?_
        refine lv_iload hx hb d_Tree_remove_144 (lv_at hl 4 rfl) ?_
        refine lv_iconst (v := 0) hx hb d_Tree_remove_146 (by decide) ?_
        obtain ⟨r41, hr41, h⟩ := ob h
        refine zv_from (k := r26) ⟨hx, hb, hml, hown, hts⟩ hN hK hP hD hS hA (zE_mk rfl rfl rfl rfl) rfl hr41 (Nat.le_of_ble_eq_true rfl) (Nat.le_of_ble_eq_true rfl) hl.1 (Nat.le_of_ble_eq_true rfl) d_Tree_remove_147 ⟨by show _ ≤ rc; omega, by show _ ≤ 1024 * rc; omega⟩ (fun H hP hS => ?_)
        obtain ⟨r42, hr42, h⟩ := ob h
        refine zpcalli (wr := [(a_ko, .inr (0, [.ref a_kq, .int c_kn, .int c_kt])), (a_kq, .inl (G.2.2.1, 50, .inl c_kb))]) (w2 := fun _ => (wT G a_t a_c a_mv a_fr a_br a_e0 a_e1 a_e2 a_e3 a_lo a_ho r27 c_cl c_mv c_ml c_en c_rt r24.2 c_br c_fi c_st c_vz ++ wK G a_ko a_kq c_kb c_kn c_kt)) (zrunV (As := [.int z17, .int r41]) (rest := []) ⟨hx, hb, hml, hown, hts⟩ hN hK (c_Tree_child l G H.size a_t a_c a_mv a_fr a_br a_e0 a_e1 a_e2 a_e3 a_lo a_ho r27 c_cl c_mv c_ml c_en c_rt r24.2 c_br c_fi c_st c_vz z17 r41 r42 hr42) ⟨rfl, rfl⟩ kv_Tree_126 ⟨Nat.le_of_ble_eq_true rfl, Nat.le_of_ble_eq_true rfl⟩ 0 rfl rfl rfl hl.1 (Nat.le_of_ble_eq_true rfl) d_Tree_remove_150 ⟨by show _ ≤ rc; omega, by show _ ≤ 1024 * rc; omega⟩) hP hD hS hA [0, 1, 2, 3, 4, 5, 6, 7, 8] [9, 10] [2, 3, 4, 5, 6, 7, 8, 9, 10, 0, 1] rfl rfl rfl rfl (by decide) rfl (fun _ => rfl) (fun rr _ H hw hP hD hS => ?_)
        have hw := hw.symm
        subst hw
        refine lv_istore (lv' := [(8, .int r42), (7, .ref (zsh a_e0 a_e1 a_e2 a_e3 r26)), (0, .ref a_t), (2, .int z15), (3, .int z16), (4, .int z17), (5, .int z18), (6, .int z19)]) hx hb d_Tree_remove_153 hl (by decide) rfl (fun ls hl => ?_)
        refine lv_aload_n hx hb d_Tree_remove_155 rfl (lv_at hl 2 rfl) ?_
        refine lv_iload_n hx hb d_Tree_remove_156 rfl (lv_at hl 3 rfl) ?_
        refine lv_iload_n hx hb d_Tree_remove_157 rfl (lv_at hl 4 rfl) ?_
        refine lv_iload hx hb d_Tree_remove_158 (lv_at hl 0 rfl) ?_
        obtain ⟨r43, hr43, h⟩ := ob h
        refine zcallv (wr := [(a_ko, .inr (0, [.ref a_kq, .int c_kn, .int c_kt])), (a_kq, .inl (G.2.2.1, 50, .inl c_kb))]) (w2 := fun _ => (wT G a_t a_c a_mv a_fr a_br a_e0 a_e1 a_e2 a_e3 a_lo a_ho r43.1 c_cl c_mv c_ml c_en r43.2 r24.2 c_br c_fi c_st c_vz ++ wK G a_ko a_kq c_kb c_kn c_kt)) (zrunV (As := [.int z15, .int z16, .int r42]) (rest := []) ⟨hx, hb, hml, hown, hts⟩ hN hK (c_Tree_relink l G H.size a_t a_c a_mv a_fr a_br a_e0 a_e1 a_e2 a_e3 a_lo a_ho r27 c_cl c_mv c_ml c_en c_rt r24.2 c_br c_fi c_st c_vz z15 z16 r42 r43 hr43) ⟨rfl, rfl⟩ kv_Tree_161 ⟨Nat.le_of_ble_eq_true rfl, Nat.le_of_ble_eq_true rfl⟩ 0 rfl rfl rfl hl.1 (Nat.le_of_ble_eq_true rfl) d_Tree_remove_160 ⟨by show _ ≤ rc; omega, by show _ ≤ 1024 * rc; omega⟩) hP hD hS hA [0, 1, 2, 3, 4, 5, 6, 7, 8] [9, 10] [2, 3, 4, 5, 6, 7, 8, 9, 10, 0, 1] rfl rfl rfl rfl (by decide) rfl (fun _ => rfl) (fun _ H locs _ hP hD hS => ?_)
        refine lv_aload_n hx hb d_Tree_remove_163 rfl (lv_at hl 2 rfl) ?_
        refine va_get (D := G.1) (ci := 4) (v := .ref a_br) (C := "BranchStore$Tree") (T := F_Tree) (N := 15) hx hb hts i_Tree hown hK hP 0 rfl rfl 9 (by decide) (hts _ k_132) (fun _ h9 => h9) rfl d_Tree_remove_164 ?_
        refine lv_aload_n hx hb d_Tree_remove_167 rfl (lv_at hl 2 rfl) ?_
        refine va_get (D := G.1) (ci := 4) (v := .ref a_c) (C := "BranchStore$Tree") (T := F_Tree) (N := 15) hx hb hts i_Tree hown hK hP 0 rfl rfl 0 (by decide) (hts _ k_123) (fun _ h9 => h9) rfl d_Tree_remove_168 ?_
        refine lv_iload hx hb d_Tree_remove_171 (lv_at hl 5 rfl) ?_
        obtain ⟨h44, h⟩ := gi_k h
        refine va_iald hx hb hK hP 1 0 rfl rfl h44 d_Tree_remove_173 ?_
        refine lv_dup2_11 hx hb d_Tree_remove_174 rfl rfl ?_
        obtain ⟨h45, h⟩ := gi_k h
        refine va_iald hx hb hK hP 4 0 rfl rfl h45 d_Tree_remove_175 ?_
        refine lv_iconst (v := 1) hx hb d_Tree_remove_176 (by decide) ?_
        refine lv_isub hx hb d_Tree_remove_177 ?_
        obtain ⟨h46, h⟩ := gi_k h
        refine va_iast hx hb hK hP hD hS 4 0 rfl rfl h46 d_Tree_remove_178 (fun H locs hP hD hS => ?_)
        obtain ⟨c47, ec47⟩ : ∃ y, y = upd c_br (r43.1 z17.toNatClampNeg).toNatClampNeg ((c_br (r43.1 z17.toNatClampNeg).toNatClampNeg) - 1) := ⟨_, rfl⟩
        have h := nm_k h c47 ec47
        have hP : va_P G.1 classes (wT G a_t a_c a_mv a_fr a_br a_e0 a_e1 a_e2 a_e3 a_lo a_ho r43.1 c_cl c_mv c_ml c_en r43.2 r24.2 c47 c_fi c_st c_vz ++ wK G a_ko a_kq c_kb c_kn c_kt) H := by rw [ec47]; exact hP
        have hD : va_D A (wT G a_t a_c a_mv a_fr a_br a_e0 a_e1 a_e2 a_e3 a_lo a_ho r43.1 c_cl c_mv c_ml c_en r43.2 r24.2 c47 c_fi c_st c_vz ++ wK G a_ko a_kq c_kb c_kn c_kt) := by rw [ec47]; exact hD
        refine lv_aload_n hx hb d_Tree_remove_179 rfl (lv_at hl 2 rfl) ?_
        refine lv_iload hx hb d_Tree_remove_180 (lv_at hl 5 rfl) ?_
        refine lv_aload hx hb d_Tree_remove_182 (lv_at hl 1 rfl) ?_
        refine zget_cells (k := r26) hx hb hts hown hK hP (zE_mk rfl rfl rfl rfl) d_Tree_remove_184 ?_
        obtain ⟨r48, hr48, h⟩ := ob h
        refine zcallv (wr := [(a_ko, .inr (0, [.ref a_kq, .int c_kn, .int c_kt])), (a_kq, .inl (G.2.2.1, 50, .inl c_kb))]) (w2 := fun _ => (wT G a_t a_c a_mv a_fr a_br a_e0 a_e1 a_e2 a_e3 a_lo a_ho r48.1 c_cl c_mv c_ml c_en r43.2 r48.2 c47 c_fi c_st c_vz ++ wK G a_ko a_kq c_kb c_kn c_kt)) (zrunV (As := [.int z17, .int (zcells r26)]) (rest := []) ⟨hx, hb, hml, hown, hts⟩ hN hK (c_Tree_release l G H.size a_t a_c a_mv a_fr a_br a_e0 a_e1 a_e2 a_e3 a_lo a_ho r43.1 c_cl c_mv c_ml c_en r43.2 r24.2 c47 c_fi c_st c_vz z17 (zcells r26) r48 hr48) ⟨rfl, rfl⟩ kv_Tree_172 ⟨Nat.le_of_ble_eq_true rfl, Nat.le_of_ble_eq_true rfl⟩ 0 rfl rfl rfl hl.1 (Nat.le_of_ble_eq_true rfl) d_Tree_remove_187 ⟨by show _ ≤ rc; omega, by show _ ≤ 1024 * rc; omega⟩) hP hD hS hA [0, 1, 2, 3, 4, 5, 6, 7, 8] [9, 10] [2, 3, 4, 5, 6, 7, 8, 9, 10, 0, 1] rfl rfl rfl rfl (by decide) rfl (fun _ => rfl) (fun _ H locs _ hP hD hS => ?_)
        refine lv_goto (tgt := 256) hx hb d_Tree_remove_190 (by decide) ?_
        have ey := Option.some.inj h
        rw [← ey] at hRa hRc
        have hRa : r0 = (r48.1, c_cl, c_en, r43.2, r48.2, c47) := hRa
        have hRc : rc = 0 + 0 := hRc
        subst hRa
        exact zretv (a_c, a_mv) hQ hS.2.2 hx hb hr hlocks hP hD hS trivial (by omega) (by omega) d_Tree_remove_256
    · have h := it h q25
      refine lv_aload_n hx hb d_Tree_remove_95 rfl (lv_at hl 0 rfl) ?_
      refine lv_iconst (v := 0) hx hb d_Tree_remove_96 (by decide) ?_
      refine va_put (D := G.1) (ci := 4) (v := .int 0) (ty := .int) (C := "BranchStore$Tree") (T := F_Tree) (N := 15) hx hb hts i_Tree t_Tree t_Tree_ok n_Tree hown hK hP hD hS 0 rfl rfl 3 (by decide) (hts _ k_126) (fun _ h9 => h9) rfl (by decide +kernel) rfl rfl (Nat.le_of_ble_eq_true rfl) d_Tree_remove_97 (fun H locs hP hD hS => ?_)
      have hP : va_P G.1 classes (wT G a_t a_c a_mv a_fr a_br a_e0 a_e1 a_e2 a_e3 a_lo a_ho r24.1 c_cl c_mv c_ml c_en 0 r24.2 c_br c_fi c_st c_vz ++ wK G a_ko a_kq c_kb c_kn c_kt) H := hP
      have hD : va_D A (wT G a_t a_c a_mv a_fr a_br a_e0 a_e1 a_e2 a_e3 a_lo a_ho r24.1 c_cl c_mv c_ml c_en 0 r24.2 c_br c_fi c_st c_vz ++ wK G a_ko a_kq c_kb c_kn c_kt) := hD
      have ey := Option.some.inj h
      rw [← ey] at hRa hRc
      have hRa : r0 = (r24.1, c_cl, c_en, 0, r24.2, c_br) := hRa
      have hRc : rc = 0 + 0 := hRc
      subst hRa
      exact zretv (a_c, a_mv) hQ hS.2.2 hx hb hr hlocks hP hD hS trivial (by omega) (by omega) d_Tree_remove_100
  have L16 : ∀ v : (Int32 × Int32 × Int32 × Int32 × Int32 × (Nat → Int32)), lp (fun v => s_Tree_remove_16 c_cl c_kb v.1 v.2.1 v.2.2.1 v.2.2.2.1 v.2.2.2.2.1 v.2.2.2.2.2) v = some y7 → ∀ (H : Heap) (locs : List Loc) (ls : Array Slot), va_P G.1 classes (wT G a_t a_c a_mv a_fr a_br a_e0 a_e1 a_e2 a_e3 a_lo a_ho v.2.2.2.2.2 c_cl c_mv c_ml c_en c_rt c_fr c_br c_fi c_st c_vz ++ wK G a_ko a_kq c_kb c_kn c_kt) H → va_D A (wT G a_t a_c a_mv a_fr a_br a_e0 a_e1 a_e2 a_e3 a_lo a_ho v.2.2.2.2.2 c_cl c_mv c_ml c_en c_rt c_fr c_br c_fi c_st c_vz ++ wK G a_ko a_kq c_kb c_kn c_kt) → va_S A xs.heap H locs → lv_has ls 9 [(0, .ref a_t), (1, .ref a_ko), (2, .int v.1), (3, .int v.2.1), (4, .int v.2.2.1), (5, .int v.2.2.2.1), (6, .int v.2.2.2.2.1)] → W xp l xe { frames := 5, cells := rc, slots := 1024 * rc, locals := 154 } xs xm ([.ref a_t, .ref a_ko] : List Value).toArray xb xme xc H locs (0) (1024 * (0)) Q (F0 xm 16 ls []) := by
    refine lp_walk _ (fun v x h hc he => ?_)
    obtain ⟨x2_1, x3_2, x4_3, x5_4, x6_5, c6⟩ := v
    intro H locs ls hP hD hS hl
    have h : s_Tree_remove_16 c_cl c_kb x2_1 x3_2 x4_3 x5_4 x6_5 c6 = some x := h
    unfold s_Tree_remove_16 at h
    refine lv_iload hx hb d_Tree_remove_16 (lv_at hl 6 rfl) ?_
    refine lv_if_le (tgt := 72) hx hb d_Tree_remove_18 (by decide) (fun q8 => ?_) (fun q8 => ?_)
    · have h := it h q8
      exact E16 x2_1 x3_2 x4_3 x5_4 x6_5 c6 (he _ (Option.some.inj h).symm) H locs ls hP hD hS (lv_sub hl [0, 2, 3, 4, 5, 6] rfl)
    · have h := ie h q8
      refine lv_aload_n hx hb d_Tree_remove_21 rfl (lv_at hl 0 rfl) ?_
      refine va_get (D := G.1) (ci := 4) (v := .ref a_c) (C := "BranchStore$Tree") (T := F_Tree) (N := 15) hx hb hts i_Tree hown hK hP 0 rfl rfl 0 (by decide) (hts _ k_123) (fun _ h9 => h9) rfl d_Tree_remove_22 ?_
      refine lv_iload hx hb d_Tree_remove_25 (lv_at hl 6 rfl) ?_
      refine lv_iconst (v := 2) hx hb d_Tree_remove_27 (by decide) ?_
      refine lv_iadd hx hb d_Tree_remove_28 ?_
      refine lv_dup2_11 hx hb d_Tree_remove_29 rfl rfl ?_
      obtain ⟨h9, h⟩ := gi_k h
      refine va_iald hx hb hK hP 1 0 rfl rfl h9 d_Tree_remove_30 ?_
      refine lv_iconst (v := 1) hx hb d_Tree_remove_31 (by decide) ?_
      refine lv_isub hx hb d_Tree_remove_32 ?_
      obtain ⟨h10, h⟩ := gi_k h
      refine va_iast hx hb hK hP hD hS 1 0 rfl rfl h10 d_Tree_remove_33 (fun H locs hP hD hS => ?_)
      obtain ⟨c11, ec11⟩ : ∃ y, y = upd c6 (x6_5 + 2).toNatClampNeg ((c6 (x6_5 + 2).toNatClampNeg) - 1) := ⟨_, rfl⟩
      have h := nm_k h c11 ec11
      have hP : va_P G.1 classes (wT G a_t a_c a_mv a_fr a_br a_e0 a_e1 a_e2 a_e3 a_lo a_ho c11 c_cl c_mv c_ml c_en c_rt c_fr c_br c_fi c_st c_vz ++ wK G a_ko a_kq c_kb c_kn c_kt) H := by rw [ec11]; exact hP
      have hD : va_D A (wT G a_t a_c a_mv a_fr a_br a_e0 a_e1 a_e2 a_e3 a_lo a_ho c11 c_cl c_mv c_ml c_en c_rt c_fr c_br c_fi c_st c_vz ++ wK G a_ko a_kq c_kb c_kn c_kt) := by rw [ec11]; exact hD
      refine lv_iload hx hb d_Tree_remove_34 (lv_at hl 4 rfl) ?_
      refine lv_istore_n (lv' := [(2, .int x4_3), (0, .ref a_t), (1, .ref a_ko), (3, .int x3_2), (4, .int x4_3), (5, .int x5_4), (6, .int x6_5)]) hx hb d_Tree_remove_36 rfl hl (by decide) rfl (fun ls hl => ?_)
      refine lv_iload hx hb d_Tree_remove_37 (lv_at hl 5 rfl) ?_
      refine lv_istore_n (lv' := [(3, .int x5_4), (2, .int x4_3), (0, .ref a_t), (1, .ref a_ko), (4, .int x4_3), (5, .int x5_4), (6, .int x6_5)]) hx hb d_Tree_remove_39 rfl hl (by decide) rfl (fun ls hl => ?_)
      refine lv_iload hx hb d_Tree_remove_40 (lv_at hl 6 rfl) ?_
      refine lv_istore (lv' := [(4, .int x6_5), (3, .int x5_4), (2, .int x4_3), (0, .ref a_t), (1, .ref a_ko), (5, .int x5_4), (6, .int x6_5)]) hx hb d_Tree_remove_42 hl (by decide) rfl (fun ls hl => ?_)
      refine lv_aload_n hx hb d_Tree_remove_44 rfl (lv_at hl 4 rfl) ?_
      refine lv_aload_n hx hb d_Tree_remove_45 rfl (lv_at hl 3 rfl) ?_
      refine va_get (D := G.1) (ci := 4) (v := .ref a_c) (C := "BranchStore$Tree") (T := F_Tree) (N := 15) hx hb hts i_Tree hown hK hP 0 rfl rfl 0 (by decide) (hts _ k_123) (fun _ h9 => h9) rfl d_Tree_remove_46 ?_
      refine lv_iload hx hb d_Tree_remove_49 (lv_at hl 6 rfl) ?_
      refine lv_iconst (v := 3) hx hb d_Tree_remove_51 (by decide) ?_
      refine lv_iadd hx hb d_Tree_remove_52 ?_
      obtain ⟨h12, h⟩ := gi_k h
      refine va_iald hx hb hK hP 1 0 rfl rfl h12 d_Tree_remove_53 ?_
      obtain ⟨r13, hr13, h⟩ := ob h
      refine zpcalli (wr := [(a_t, .inr (4, [.ref a_c, .ref a_mv, .int c_en, .int c_rt, .ref a_fr, .ref a_e0, .ref a_e1, .ref a_e2, .ref a_e3, .ref a_br, .ref a_lo, .ref a_ho, .long c_fi, .long c_st, .long c_vz])), (a_c, .inl (G.2.1, c_cl, .inl c11)), (a_mv, .inl (G.2.1, c_ml, .inl c_mv)), (a_fr, .inl (G.2.1, 261, .inl c_fr)), (a_br, .inl (G.2.1, 4, .inl c_br)), (a_e0, .inr (1, [.int 0, .int 9, .int 4, .int 5])), (a_e1, .inr (1, [.int 1, .int 24, .int 16, .int 8])), (a_e2, .inr (2, [.int 2, .int 116, .int 48])), (a_e3, .inr (3, [.int 3, .int 260, .int 256]))]) (w2 := fun _ => (wT G a_t a_c a_mv a_fr a_br a_e0 a_e1 a_e2 a_e3 a_lo a_ho c11 c_cl c_mv c_ml c_en c_rt c_fr c_br c_fi c_st c_vz ++ wK G a_ko a_kq c_kb c_kn c_kt)) (zrunV (As := [.int (c11 (x6_5 + 3).toNatClampNeg)]) (rest := []) ⟨hx, hb, hml, hown, hts⟩ hN hK (c_Key_at l G H.size a_ko a_kq c_kb c_kn c_kt (c11 (x6_5 + 3).toNatClampNeg) r13 hr13) ⟨rfl, rfl⟩ kv_Tree_92 ⟨Nat.le_of_ble_eq_true rfl, Nat.le_of_ble_eq_true rfl⟩ 0 rfl rfl rfl hl.1 (Nat.le_of_ble_eq_true rfl) d_Tree_remove_54 ⟨by show _ ≤ rc; omega, by show _ ≤ 1024 * rc; omega⟩) hP hD hS hA [9, 10] [0, 1, 2, 3, 4, 5, 6, 7, 8] [0, 1, 2, 3, 4, 5, 6, 7, 8, 9, 10] rfl rfl rfl rfl (by decide) rfl (fun _ => rfl) (fun rr _ H hw hP hD hS => ?_)
      have hw := hw.symm
      subst hw
      refine lv_istore (lv' := [(5, .int r13), (4, .int x6_5), (3, .int x5_4), (2, .int x4_3), (0, .ref a_t), (1, .ref a_ko), (6, .int x6_5)]) hx hb d_Tree_remove_57 hl (by decide) rfl (fun ls hl => ?_)
      refine lv_aload_n hx hb d_Tree_remove_59 rfl (lv_at hl 4 rfl) ?_
      refine lv_iload hx hb d_Tree_remove_60 (lv_at hl 6 rfl) ?_
      refine lv_iload hx hb d_Tree_remove_62 (lv_at hl 0 rfl) ?_
      obtain ⟨r14, hr14, h⟩ := ob h
      refine zpcalli (wr := [(a_ko, .inr (0, [.ref a_kq, .int c_kn, .int c_kt])), (a_kq, .inl (G.2.2.1, 50, .inl c_kb))]) (w2 := fun _ => (wT G a_t a_c a_mv a_fr a_br a_e0 a_e1 a_e2 a_e3 a_lo a_ho c11 c_cl c_mv c_ml c_en c_rt c_fr c_br c_fi c_st c_vz ++ wK G a_ko a_kq c_kb c_kn c_kt)) (zrunV (As := [.int x6_5, .int r13]) (rest := []) ⟨hx, hb, hml, hown, hts⟩ hN hK (c_Tree_child l G H.size a_t a_c a_mv a_fr a_br a_e0 a_e1 a_e2 a_e3 a_lo a_ho c11 c_cl c_mv c_ml c_en c_rt c_fr c_br c_fi c_st c_vz x6_5 r13 r14 hr14) ⟨rfl, rfl⟩ kv_Tree_126 ⟨Nat.le_of_ble_eq_true rfl, Nat.le_of_ble_eq_true rfl⟩ 0 rfl rfl rfl hl.1 (Nat.le_of_ble_eq_true rfl) d_Tree_remove_64 ⟨by show _ ≤ rc; omega, by show _ ≤ 1024 * rc; omega⟩) hP hD hS hA [0, 1, 2, 3, 4, 5, 6, 7, 8] [9, 10] [2, 3, 4, 5, 6, 7, 8, 9, 10, 0, 1] rfl rfl rfl rfl (by decide) rfl (fun _ => rfl) (fun rr _ H hw hP hD hS => ?_)
      have hw := hw.symm
      subst hw
      refine lv_istore (lv' := [(6, .int r14), (5, .int r13), (4, .int x6_5), (3, .int x5_4), (2, .int x4_3), (0, .ref a_t), (1, .ref a_ko)]) hx hb d_Tree_remove_67 hl (by decide) rfl (fun ls hl => ?_)
      refine lv_goto (tgt := 16) hx hb d_Tree_remove_69 (by decide) ?_
      exact hc _ (Option.some.inj h).symm H locs ls hP hD hS (lv_sub hl [5, 6, 4, 3, 2, 1, 0] rfl)
  exact L16 _ hy7 _ _ ls hP hD hS (lv_sub hl [5, 6, 4, 3, 2, 1, 0] rfl)

theorem kv_Tree_206 : zKV "BranchStore$Tree" 206 y_Tree_shifted prog_7_method_34_code 9 (some .int) 2 := ⟨k_406, k_408, kp_17, k_2, k_409, by decide +kernel⟩
noncomputable def s_Tree_shifted_74 (c_c : (Nat → Int32)) (c_cl : Nat) (c_ml : Nat) (x3 : Int32) (x5 : Int32) (x6 : Int32) (x7 : Int32) (c_mv : (Nat → Int32)) : Option ((Int32 × (Nat → Int32)) ⊕ (Nat → Int32)) :=
if x5 ≤ x7 then
(some (.inr c_mv))
else
(gi (x3 + x7) c_cl <|
gi (x6 + x7) c_ml <|
nm (upd c_mv (x6 + x7).toNatClampNeg (c_c (x3 + x7).toNatClampNeg)) fun c19 =>
nm (x7 + 1) fun v20 =>
some (.inl (v20, c19)))
noncomputable def s_Tree_shifted_121 (rc_ : ((Nat → Int32) → Nat → (Nat → Int32) → Nat → Int32 → Int32 → Option (Int32 × (Nat → Int32) × Int32))) (c_c : (Nat → Int32)) (c_cl : Nat) (c_ml : Nat) (x3 : Int32) (x4 : Nat) (x6 : Int32) (x7 : Int32) (c_mv : (Nat → Int32)) (c_en : Int32) : Option ((Int32 × (Nat → Int32) × Int32) ⊕ ((Nat → Int32) × Int32)) :=
if x7 = (-1) then
(some (.inr (c_mv, c_en)))
else
((f_place x4 c_cl c_c x3 x7).bind fun r30 =>
gi r30 c_cl <|
(rc_ c_c c_cl c_mv c_ml c_en (c_c r30.toNatClampNeg)).bind fun r32 =>
gi ((x6 + r30) - x3) c_ml <|
nm (upd r32.2.1 ((x6 + r30) - x3).toNatClampNeg r32.1) fun c34 =>
(if x7 = 255 then
(some (-1))
else
((f_from x4 c_cl c_c x3 (x7 + 1)).bind fun r37 =>
some r37)).bind fun y39 =>
some (.inl (y39, c34, r32.2.2)))
noncomputable def f_Tree_shifted : Nat → (Nat → Int32) → Nat → (Nat → Int32) → Nat → Int32 → Int32 → Option (Int32 × (Nat → Int32) × Int32)
| 0 => fun _ _ _ _ _ _ => none
| d + 1 => fun c_c c_cl c_mv c_ml c_en p_1 =>
if p_1 = 0 then
(some (0, c_mv, c_en))
else
((if 0 ≤ p_1 then
(some p_1)
else
(some (-p_1))).bind fun y5 =>
if 0 ≤ p_1 then
(gi y5 c_cl <|
(f_Tree_shape (c_c y5.toNatClampNeg)).bind fun r9 =>
nm (zcells r9) fun v11 =>
nm (c_en + v11) fun v12 =>
(lp (fun v => s_Tree_shifted_74 c_c c_cl c_ml y5 v11 c_en v.1 v.2) (0, c_mv)).bind fun y22 =>
(f_from r9 c_cl c_c y5 0).bind fun r24 =>
(lp (fun v => s_Tree_shifted_121 (f_Tree_shifted d) c_c c_cl c_ml y5 r9 c_en v.1 v.2.1 v.2.2) (r24, y22, v12)).bind fun y43 =>
some (c_en, y43.1, y43.2))
else
(gi y5 c_cl <|
(f_Tree_leafCells (c_c y5.toNatClampNeg)).bind fun r46 =>
nm (c_en + r46) fun v47 =>
(lp (fun v => s_Tree_shifted_74 c_c c_cl c_ml y5 r46 c_en v.1 v.2) (0, c_mv)).bind fun y57 =>
some (-c_en, y57, v47)))
set_option maxHeartbeats 8000000 in
set_option maxRecDepth 100000 in
theorem c_Tree_shifted (l : Launch) (G : zG) : ∀ (d : Nat) (sz : Nat) (a_t a_c a_mv a_fr a_br a_e0 a_e1 a_e2 a_e3 a_lo a_ho : Nat) (c_c : (Nat → Int32)) (c_cl : Nat) (c_mv : (Nat → Int32)) (c_ml : Nat) (c_en : Int32) (c_rt : Int32) (c_fr : (Nat → Int32)) (c_br : (Nat → Int32)) (c_fi : Int64) (c_st : Int64) (c_vz : Int64) (p_1 : Int32) (r0 : (Int32 × (Nat → Int32) × Int32)) (hf : f_Tree_shifted d c_c c_cl c_mv c_ml c_en p_1 = some r0),
    Met l y_Tree_shifted (Cond.code y_Tree_shifted prog_7_method_34_code 9 (some .int) :: lw_ok) { frames := 3 + d, cells := 0, slots := 0, locals := 71 + 28 * d } (zPc G sz [.ref a_t, .int p_1, .ref a_c] (wT G a_t a_c a_mv a_fr a_br a_e0 a_e1 a_e2 a_e3 a_lo a_ho c_c c_cl c_mv c_ml c_en c_rt c_fr c_br c_fi c_st c_vz))
      ((fun (A : Nat → Prop) => va_Qi (fun (r : Int32) (_ : Unit) => r = r0.1) (fun _ t => zB G A (wT G a_t a_c a_mv a_fr a_br a_e0 a_e1 a_e2 a_e3 a_lo a_ho c_c c_cl r0.2.1 c_ml r0.2.2 c_rt c_fr c_br c_fi c_st c_vz) t) A) (va_A (wT G a_t a_c a_mv a_fr a_br a_e0 a_e1 a_e2 a_e3 a_lo a_ho c_c c_cl c_mv c_ml c_en c_rt c_fr c_br c_fi c_st c_vz) sz)) 0 0 (va_A (wT G a_t a_c a_mv a_fr a_br a_e0 a_e1 a_e2 a_e3 a_lo a_ho c_c c_cl c_mv c_ml c_en c_rt c_fr c_br c_fi c_st c_vz) sz) := by
  intro d
  induction d with
  | zero =>
    intro sz a_t a_c a_mv a_fr a_br a_e0 a_e1 a_e2 a_e3 a_lo a_ho c_c c_cl c_mv c_ml c_en c_rt c_fr c_br c_fi c_st c_vz p_1 r0 hf
    cases hf
  | succ d ih =>
    intro sz a_t a_c a_mv a_fr a_br a_e0 a_e1 a_e2 a_e3 a_lo a_ho c_c c_cl c_mv c_ml c_en c_rt c_fr c_br c_fi c_st c_vz p_1 r0 hf
    refine zMet (Qc := fun (A : Nat → Prop) => va_Qi (fun (r : Int32) (_ : Unit) => r = r0.1) (fun _ t => zB G A (wT G a_t a_c a_mv a_fr a_br a_e0 a_e1 a_e2 a_e3 a_lo a_ho c_c c_cl r0.2.1 c_ml r0.2.2 c_rt c_fr c_br c_fi c_st c_vz) t) A) (by decide) (Nat.le_of_ble_eq_true rfl) (fun xp xe xs xm xb xme xc A ls Q H locs C hN hK hP hD hS hA hl hQ => ?_)
    obtain ⟨hx, hb, hr, hts, hown, hlocks, hml, hin⟩ := C
    have hl : lv_has ls 9 [(0, .ref a_t), (1, .int p_1), (2, .ref a_c)] := hl
    have h := hf
    unfold f_Tree_shifted at h
    try dsimp only at h
    refine lv_iload_n hx hb d_Tree_shifted_0 rfl (lv_at hl 1 rfl) ?_
    refine lv_if_ne (tgt := 6) hx hb d_Tree_shifted_1 (by decide) (fun q1 => ?_) (fun q1 => ?_)
    · have h := ie h q1
      refine lv_iload_n hx hb d_Tree_shifted_6 rfl (lv_at hl 1 rfl) ?_
      obtain ⟨y4, hy4, h⟩ := ob h
      have J16 : ∀ (z6 : Int32), z6 = y4 → ∀ (H : Heap) (locs : List Loc) (ls : Array Slot), va_P G.1 classes (wT G a_t a_c a_mv a_fr a_br a_e0 a_e1 a_e2 a_e3 a_lo a_ho c_c c_cl c_mv c_ml c_en c_rt c_fr c_br c_fi c_st c_vz) H → va_D A (wT G a_t a_c a_mv a_fr a_br a_e0 a_e1 a_e2 a_e3 a_lo a_ho c_c c_cl c_mv c_ml c_en c_rt c_fr c_br c_fi c_st c_vz) → va_S A xs.heap H locs → lv_has ls 9 [(0, .ref a_t), (1, .int p_1), (2, .ref a_c)] → W xp l xe { frames := 3 + (d + 1), cells := 0, slots := 0, locals := 71 + 28 * (d + 1) } xs xm ([.ref a_t, .int p_1, .ref a_c] : List Value).toArray xb xme xc H locs 0 0 Q (F0 xm 16 ls [.int z6]) := by
        intro z6 ey H locs ls hP hD hS hl
        subst ey
        try dsimp only at h
        refine lv_istore_n (lv' := [(3, .int z6), (0, .ref a_t), (1, .int p_1), (2, .ref a_c)]) hx hb d_Tree_shifted_16 rfl hl (by decide) rfl (fun ls hl => ?_)
        refine lv_iload_n hx hb d_Tree_shifted_17 rfl (lv_at hl 2 rfl) ?_
        refine lv_if_ge (tgt := 25) hx hb d_Tree_shifted_18 (by decide) (fun q7 => ?_) (fun q7 => ?_)
        · have h := it h q7
          refine lv_aload_n hx hb d_Tree_shifted_25 rfl (lv_at hl 1 rfl) ?_
          refine lv_aload_n hx hb d_Tree_shifted_26 rfl (lv_at hl 3 rfl) ?_
          refine lv_iload_n hx hb d_Tree_shifted_27 rfl (lv_at hl 0 rfl) ?_
          obtain ⟨h8, h⟩ := gi_k h
          refine va_iald hx hb hK hP 1 0 rfl rfl h8 d_Tree_shifted_28 ?_
          obtain ⟨r9, hr9, h⟩ := ob h
          refine zpcallr (wr := []) (w2 := fun _ => (wT G a_t a_c a_mv a_fr a_br a_e0 a_e1 a_e2 a_e3 a_lo a_ho c_c c_cl c_mv c_ml c_en c_rt c_fr c_br c_fi c_st c_vz)) (zrunV (As := [.int (c_c z6.toNatClampNeg)]) (rest := []) ⟨hx, hb, hml, hown, hts⟩ hN hK (c_Tree_shape l G H.size a_t a_c a_mv a_fr a_br a_e0 a_e1 a_e2 a_e3 a_lo a_ho c_c c_cl c_mv c_ml c_en c_rt c_fr c_br c_fi c_st c_vz (c_c z6.toNatClampNeg) r9 hr9) ⟨rfl, rfl⟩ kv_Tree_73 ⟨by show 1 ≤ 3 + (d + 1); omega, by show 21 ≤ 71 + 28 * (d + 1); omega⟩ 0 rfl rfl rfl hl.1 (Nat.le_of_ble_eq_true rfl) d_Tree_shifted_29 ⟨Nat.le_of_ble_eq_true rfl, Nat.le_of_ble_eq_true rfl⟩) hP hD hS hA [0, 1, 2, 3, 4, 5, 6, 7, 8] [] [0, 1, 2, 3, 4, 5, 6, 7, 8] rfl rfl rfl rfl (by decide) rfl (fun _ => rfl) (fun _ ra H hw hP hD hS => ?_)
          subst hw
          refine lv_astore (lv' := [(4, .ref (zsh a_e0 a_e1 a_e2 a_e3 r9)), (3, .int z6), (0, .ref a_t), (1, .int p_1), (2, .ref a_c)]) hx hb d_Tree_shifted_32 hl (by decide) rfl (fun ls hl => ?_)
          refine lv_iload_n hx hb d_Tree_shifted_34 rfl (lv_at hl 3 rfl) ?_
          refine lv_if_ge (tgt := 47) hx hb d_Tree_shifted_35 (by decide) (fun _ => ?_) (fun q10 => absurd q7 q10)
          refine lv_aload hx hb d_Tree_shifted_47 (lv_at hl 0 rfl) ?_
          refine zget_cells (k := r9) hx hb hts hown hK hP (zE_mk rfl rfl rfl rfl) d_Tree_shifted_49 ?_
          refine lv_topi (fun v11 ev11 => ?_)
          have h := nm_k h v11 ev11
          refine lv_istore (lv' := [(5, .int v11), (4, .ref (zsh a_e0 a_e1 a_e2 a_e3 r9)), (3, .int z6), (0, .ref a_t), (1, .int p_1), (2, .ref a_c)]) hx hb d_Tree_shifted_52 hl (by decide) rfl (fun ls hl => ?_)
          refine lv_aload_n hx hb d_Tree_shifted_54 rfl (lv_at hl 3 rfl) ?_
          refine va_get (D := G.1) (ci := 4) (v := .int c_en) (C := "BranchStore$Tree") (T := F_Tree) (N := 15) hx hb hts i_Tree hown hK hP 0 rfl rfl 2 (by decide) (hts _ k_125) (fun _ h9 => h9) rfl d_Tree_shifted_55 ?_
          refine lv_istore (lv' := [(6, .int c_en), (5, .int v11), (4, .ref (zsh a_e0 a_e1 a_e2 a_e3 r9)), (3, .int z6), (0, .ref a_t), (1, .int p_1), (2, .ref a_c)]) hx hb d_Tree_shifted_58 hl (by decide) rfl (fun ls hl => ?_)
          refine lv_aload_n hx hb d_Tree_shifted_60 rfl (lv_at hl 4 rfl) ?_
          refine lv_dup hx hb d_Tree_shifted_61 rfl ?_
          refine va_get (D := G.1) (ci := 4) (v := .int c_en) (C := "BranchStore$Tree") (T := F_Tree) (N := 15) hx hb hts i_Tree hown hK hP 0 rfl rfl 2 (by decide) (hts _ k_125) (fun _ h9 => h9) rfl d_Tree_shifted_62 ?_
          refine lv_iload hx hb d_Tree_shifted_65 (lv_at hl 1 rfl) ?_
          refine lv_iadd hx hb d_Tree_shifted_67 ?_
          refine lv_topi (fun v12 ev12 => ?_)
          have h := nm_k h v12 ev12
          refine va_put (D := G.1) (ci := 4) (v := .int v12) (ty := .int) (C := "BranchStore$Tree") (T := F_Tree) (N := 15) hx hb hts i_Tree t_Tree t_Tree_ok n_Tree hown hK hP hD hS 0 rfl rfl 2 (by decide) (hts _ k_125) (fun _ h9 => h9) rfl (by decide +kernel) rfl rfl (Nat.le_of_ble_eq_true rfl) d_Tree_shifted_68 (fun H locs hP hD hS => ?_)
          have hP : va_P G.1 classes (wT G a_t a_c a_mv a_fr a_br a_e0 a_e1 a_e2 a_e3 a_lo a_ho c_c c_cl c_mv c_ml v12 c_rt c_fr c_br c_fi c_st c_vz) H := hP
          have hD : va_D A (wT G a_t a_c a_mv a_fr a_br a_e0 a_e1 a_e2 a_e3 a_lo a_ho c_c c_cl c_mv c_ml v12 c_rt c_fr c_br c_fi c_st c_vz) := hD
          refine lv_iconst (v := 0) hx hb d_Tree_shifted_71 (by decide) ?_
          refine lv_istore (lv' := [(7, .int 0), (6, .int c_en), (5, .int v11), (4, .ref (zsh a_e0 a_e1 a_e2 a_e3 r9)), (3, .int z6), (0, .ref a_t), (1, .int p_1), (2, .ref a_c)]) hx hb d_Tree_shifted_72 hl (by decide) rfl (fun ls hl => ?_)
          obtain ⟨y15, hy15, h⟩ := ob h
          have E74 : ∀ (z21 : (Nat → Int32)), z21 = y15 → ∀ (H : Heap) (locs : List Loc) (ls : Array Slot), va_P G.1 classes (wT G a_t a_c a_mv a_fr a_br a_e0 a_e1 a_e2 a_e3 a_lo a_ho c_c c_cl z21 c_ml v12 c_rt c_fr c_br c_fi c_st c_vz) H → va_D A (wT G a_t a_c a_mv a_fr a_br a_e0 a_e1 a_e2 a_e3 a_lo a_ho c_c c_cl z21 c_ml v12 c_rt c_fr c_br c_fi c_st c_vz) → va_S A xs.heap H locs → lv_has ls 9 [(0, .ref a_t), (1, .int p_1), (2, .ref a_c), (3, .int z6), (4, .ref (zsh a_e0 a_e1 a_e2 a_e3 r9)), (6, .int c_en)] → W xp l xe { frames := 3 + (d + 1), cells := 0, slots := 0, locals := 71 + 28 * (d + 1) } xs xm ([.ref a_t, .int p_1, .ref a_c] : List Value).toArray xb xme xc H locs 0 0 Q (F0 xm 103 ls []) := by
            intro z21 ey H locs ls hP hD hS hl
            subst ey
            try dsimp only at h
            refine lv_iload_n hx hb d_Tree_shifted_103 rfl (lv_at hl 1 rfl) ?_
            refine lv_if_ge (tgt := 111) hx hb d_Tree_shifted_104 (by decide) (fun _ => ?_) (fun q23 => absurd q7 q23)
            refine lv_aload hx hb d_Tree_shifted_111 (lv_at hl 4 rfl) ?_
            refine lv_aload_n hx hb d_Tree_shifted_113 rfl (lv_at hl 2 rfl) ?_
            refine lv_iload_n hx hb d_Tree_shifted_114 rfl (lv_at hl 3 rfl) ?_
            refine lv_iconst (v := 0) hx hb d_Tree_shifted_115 (by decide) ?_
            obtain ⟨r24, hr24, h⟩ := ob h
            refine zv_from (k := r9) ⟨hx, hb, hml, hown, hts⟩ hN hK hP hD hS hA (zE_mk rfl rfl rfl rfl) rfl hr24 (by show 3 ≤ 3 + (d + 1); omega) (by show 71 ≤ 71 + 28 * (d + 1); omega) hl.1 (Nat.le_of_ble_eq_true rfl) d_Tree_shifted_116 ⟨Nat.zero_le _, Nat.zero_le _⟩ (fun H hP hS => ?_)
            refine lv_istore (lv' := [(7, .int r24), (0, .ref a_t), (1, .int p_1), (2, .ref a_c), (3, .int z6), (4, .ref (zsh a_e0 a_e1 a_e2 a_e3 r9)), (6, .int c_en)]) hx hb d_Tree_shifted_119 hl (by decide) rfl (fun ls hl => ?_)
            obtain ⟨y28, hy28, h⟩ := ob h
            have E121 : ∀ (z41 : (Nat → Int32)) (z42 : Int32), (z41, z42) = y28 → ∀ (H : Heap) (locs : List Loc) (ls : Array Slot), va_P G.1 classes (wT G a_t a_c a_mv a_fr a_br a_e0 a_e1 a_e2 a_e3 a_lo a_ho c_c c_cl z41 c_ml z42 c_rt c_fr c_br c_fi c_st c_vz) H → va_D A (wT G a_t a_c a_mv a_fr a_br a_e0 a_e1 a_e2 a_e3 a_lo a_ho c_c c_cl z41 c_ml z42 c_rt c_fr c_br c_fi c_st c_vz) → va_S A xs.heap H locs → lv_has ls 9 [(6, .int c_en)] → W xp l xe { frames := 3 + (d + 1), cells := 0, slots := 0, locals := 71 + 28 * (d + 1) } xs xm ([.ref a_t, .int p_1, .ref a_c] : List Value).toArray xb xme xc H locs 0 0 Q (F0 xm 187 ls []) := by
              intro z41 z42 ey H locs ls hP hD hS hl
              subst ey
              try dsimp only at h
              refine lv_iload hx hb d_Tree_shifted_187 (lv_at hl 0 rfl) ?_
              obtain rfl := Option.some.inj h
              exact zreti () hQ hS.2.2 hx hb hr hlocks hP hD hS rfl (Nat.le_refl _) (Nat.le_refl _) d_Tree_shifted_189
            have L121 : ∀ v : (Int32 × (Nat → Int32) × Int32), lp (fun v => s_Tree_shifted_121 (f_Tree_shifted d) c_c c_cl c_ml z6 r9 c_en v.1 v.2.1 v.2.2) v = some y28 → ∀ (H : Heap) (locs : List Loc) (ls : Array Slot), va_P G.1 classes (wT G a_t a_c a_mv a_fr a_br a_e0 a_e1 a_e2 a_e3 a_lo a_ho c_c c_cl v.2.1 c_ml v.2.2 c_rt c_fr c_br c_fi c_st c_vz) H → va_D A (wT G a_t a_c a_mv a_fr a_br a_e0 a_e1 a_e2 a_e3 a_lo a_ho c_c c_cl v.2.1 c_ml v.2.2 c_rt c_fr c_br c_fi c_st c_vz) → va_S A xs.heap H locs → lv_has ls 9 [(0, .ref a_t), (2, .ref a_c), (3, .int z6), (4, .ref (zsh a_e0 a_e1 a_e2 a_e3 r9)), (6, .int c_en), (7, .int v.1)] → W xp l xe { frames := 3 + (d + 1), cells := 0, slots := 0, locals := 71 + 28 * (d + 1) } xs xm ([.ref a_t, .int p_1, .ref a_c] : List Value).toArray xb xme xc H locs 0 0 Q (F0 xm 121 ls []) := by
              refine lp_walk _ (fun v x h hc he => ?_)
              obtain ⟨x7_25, c26, c27⟩ := v
              intro H locs ls hP hD hS hl
              have h : s_Tree_shifted_121 (f_Tree_shifted d) c_c c_cl c_ml z6 r9 c_en x7_25 c26 c27 = some x := h
              unfold s_Tree_shifted_121 at h
              refine lv_iload hx hb d_Tree_shifted_121 (lv_at hl 5 rfl) ?_
              refine lv_iconst (v := (-1)) hx hb d_Tree_shifted_123 (by decide) ?_
              refine lv_icmp_eq (tgt := 187) hx hb d_Tree_shifted_124 (by decide) (fun q29 => ?_) (fun q29 => ?_)
              · have h := it h q29
                exact E121 c26 c27 (he _ (Option.some.inj h).symm) H locs ls hP hD hS (lv_sub hl [4] rfl)
              · have h := ie h q29
                refine lv_aload hx hb d_Tree_shifted_127 (lv_at hl 3 rfl) ?_
                refine lv_aload_n hx hb d_Tree_shifted_129 rfl (lv_at hl 1 rfl) ?_
                refine lv_iload_n hx hb d_Tree_shifted_130 rfl (lv_at hl 2 rfl) ?_
                refine lv_iload hx hb d_Tree_shifted_131 (lv_at hl 5 rfl) ?_
                obtain ⟨r30, hr30, h⟩ := ob h
                refine zv_place (k := r9) ⟨hx, hb, hml, hown, hts⟩ hN hK hP hD hS hA (zE_mk rfl rfl rfl rfl) rfl hr30 (by show 3 ≤ 3 + (d + 1); omega) (by show 71 ≤ 71 + 28 * (d + 1); omega) hl.1 (Nat.le_of_ble_eq_true rfl) d_Tree_shifted_133 ⟨Nat.zero_le _, Nat.zero_le _⟩ (fun H hP hS => ?_)
                refine lv_istore (lv' := [(8, .int r30), (0, .ref a_t), (2, .ref a_c), (3, .int z6), (4, .ref (zsh a_e0 a_e1 a_e2 a_e3 r9)), (6, .int c_en), (7, .int x7_25)]) hx hb d_Tree_shifted_136 hl (by decide) rfl (fun ls hl => ?_)
                refine lv_aload_n hx hb d_Tree_shifted_138 rfl (lv_at hl 1 rfl) ?_
                refine va_get (D := G.1) (ci := 4) (v := .ref a_mv) (C := "BranchStore$Tree") (T := F_Tree) (N := 15) hx hb hts i_Tree hown hK hP 0 rfl rfl 1 (by decide) (hts _ k_124) (fun _ h9 => h9) rfl d_Tree_shifted_139 ?_
                refine lv_iload hx hb d_Tree_shifted_142 (lv_at hl 5 rfl) ?_
                refine lv_iload hx hb d_Tree_shifted_144 (lv_at hl 0 rfl) ?_
                refine lv_iadd hx hb d_Tree_shifted_146 ?_
                refine lv_iload_n hx hb d_Tree_shifted_147 rfl (lv_at hl 3 rfl) ?_
                refine lv_isub hx hb d_Tree_shifted_148 ?_
                refine lv_aload_n hx hb d_Tree_shifted_149 rfl (lv_at hl 1 rfl) ?_
                refine lv_aload_n hx hb d_Tree_shifted_150 rfl (lv_at hl 2 rfl) ?_
                refine lv_iload hx hb d_Tree_shifted_151 (lv_at hl 0 rfl) ?_
                obtain ⟨h31, h⟩ := gi_k h
                refine va_iald hx hb hK hP 1 0 rfl rfl h31 d_Tree_shifted_153 ?_
                refine lv_aload_n hx hb d_Tree_shifted_154 rfl (lv_at hl 2 rfl) ?_
                obtain ⟨r32, hr32, h⟩ := ob h
                refine zcalli (wr := []) (w2 := fun _ => (wT G a_t a_c a_mv a_fr a_br a_e0 a_e1 a_e2 a_e3 a_lo a_ho c_c c_cl r32.2.1 c_ml r32.2.2 c_rt c_fr c_br c_fi c_st c_vz)) (zrunV (As := [.int (c_c r30.toNatClampNeg), .ref a_c]) (rest := [.int ((c_en + r30) - z6), .ref a_mv]) ⟨hx, hb, hml, hown, hts⟩ hN hK (ih H.size a_t a_c a_mv a_fr a_br a_e0 a_e1 a_e2 a_e3 a_lo a_ho c_c c_cl c26 c_ml c27 c_rt c_fr c_br c_fi c_st c_vz (c_c r30.toNatClampNeg) r32 hr32) ⟨rfl, rfl⟩ kv_Tree_206 ⟨by show 3 + d + 1 ≤ 3 + (d + 1); omega, by show 8 + (9 + 11) + (71 + 28 * d) ≤ 71 + 28 * (d + 1); omega⟩ 0 rfl rfl rfl hl.1 (Nat.le_of_ble_eq_true rfl) d_Tree_shifted_155 ⟨Nat.le_of_ble_eq_true rfl, Nat.le_of_ble_eq_true rfl⟩) hP hD hS hA [0, 1, 2, 3, 4, 5, 6, 7, 8] [] [0, 1, 2, 3, 4, 5, 6, 7, 8] rfl rfl rfl rfl (by decide) rfl (fun _ => rfl) (fun rr _ H locs hw hP hD hS => ?_)
                have hw := hw.symm
                subst hw
                obtain ⟨h33, h⟩ := gi_k h
                refine va_iast hx hb hK hP hD hS 2 0 rfl rfl h33 d_Tree_shifted_158 (fun H locs hP hD hS => ?_)
                obtain ⟨c34, ec34⟩ : ∃ y, y = upd r32.2.1 ((c_en + r30) - z6).toNatClampNeg r32.1 := ⟨_, rfl⟩
                have h := nm_k h c34 ec34
                have hP : va_P G.1 classes (wT G a_t a_c a_mv a_fr a_br a_e0 a_e1 a_e2 a_e3 a_lo a_ho c_c c_cl c34 c_ml r32.2.2 c_rt c_fr c_br c_fi c_st c_vz) H := by rw [ec34]; exact hP
                have hD : va_D A (wT G a_t a_c a_mv a_fr a_br a_e0 a_e1 a_e2 a_e3 a_lo a_ho c_c c_cl c34 c_ml r32.2.2 c_rt c_fr c_br c_fi c_st c_vz) := by rw [ec34]; exact hD
                refine lv_iload hx hb d_Tree_shifted_159 (lv_at hl 6 rfl) ?_
                refine lv_sipush (v := 255) hx hb d_Tree_shifted_161 (by decide) ?_
                obtain ⟨y38, hy38, h⟩ := ob h
                have J182 : ∀ (z40 : Int32), z40 = y38 → ∀ (H : Heap) (locs : List Loc) (ls : Array Slot), va_P G.1 classes (wT G a_t a_c a_mv a_fr a_br a_e0 a_e1 a_e2 a_e3 a_lo a_ho c_c c_cl c34 c_ml r32.2.2 c_rt c_fr c_br c_fi c_st c_vz) H → va_D A (wT G a_t a_c a_mv a_fr a_br a_e0 a_e1 a_e2 a_e3 a_lo a_ho c_c c_cl c34 c_ml r32.2.2 c_rt c_fr c_br c_fi c_st c_vz) → va_S A xs.heap H locs → lv_has ls 9 [(0, .ref a_t), (2, .ref a_c), (3, .int z6), (4, .ref (zsh a_e0 a_e1 a_e2 a_e3 r9)), (6, .int c_en)] → W xp l xe { frames := 3 + (d + 1), cells := 0, slots := 0, locals := 71 + 28 * (d + 1) } xs xm ([.ref a_t, .int p_1, .ref a_c] : List Value).toArray xb xme xc H locs 0 0 Q (F0 xm 182 ls [.int z40]) := by
                  intro z40 ey H locs ls hP hD hS hl
                  subst ey
                  try dsimp only at h
                  refine lv_istore (lv' := [(7, .int z40), (0, .ref a_t), (2, .ref a_c), (3, .int z6), (4, .ref (zsh a_e0 a_e1 a_e2 a_e3 r9)), (6, .int c_en)]) hx hb d_Tree_shifted_182 hl (by decide) rfl (fun ls hl => ?_)
                  refine lv_goto (tgt := 121) hx hb d_Tree_shifted_184 (by decide) ?_
                  exact hc _ (Option.some.inj h).symm H locs ls hP hD hS (lv_sub hl [1, 2, 3, 4, 5, 0] rfl)
                have h := hy38
                refine lv_icmp_ne (tgt := 171) hx hb d_Tree_shifted_164 (by decide) (fun q36 => ?_) (fun q36 => ?_)
                · have h := ie h q36
                  refine lv_aload hx hb d_Tree_shifted_171 (lv_at hl 4 rfl) ?_
                  refine lv_aload_n hx hb d_Tree_shifted_173 rfl (lv_at hl 2 rfl) ?_
                  refine lv_iload_n hx hb d_Tree_shifted_174 rfl (lv_at hl 3 rfl) ?_
                  refine lv_iload hx hb d_Tree_shifted_175 (lv_at hl 6 rfl) ?_
                  refine lv_iconst (v := 1) hx hb d_Tree_shifted_177 (by decide) ?_
                  refine lv_iadd hx hb d_Tree_shifted_178 ?_
                  obtain ⟨r37, hr37, h⟩ := ob h
                  refine zv_from (k := r9) ⟨hx, hb, hml, hown, hts⟩ hN hK hP hD hS hA (zE_mk rfl rfl rfl rfl) rfl hr37 (by show 3 ≤ 3 + (d + 1); omega) (by show 71 ≤ 71 + 28 * (d + 1); omega) hl.1 (Nat.le_of_ble_eq_true rfl) d_Tree_shifted_179 ⟨Nat.zero_le _, Nat.zero_le _⟩ (fun H hP hS => ?_)
                  exact J182 r37 (Option.some.inj h) H locs ls hP hD hS (lv_sub hl [1, 2, 3, 4, 5] rfl)
                · have h := it h q36
                  refine lv_iconst (v := (-1)) hx hb d_Tree_shifted_167 (by decide) ?_
                  refine lv_goto (tgt := 182) hx hb d_Tree_shifted_168 (by decide) ?_
                  exact J182 (-1) (Option.some.inj h) H locs ls hP hD hS (lv_sub hl [1, 2, 3, 4, 5] rfl)
            exact L121 _ hy28 _ _ ls hP hD hS (lv_sub hl [1, 3, 4, 5, 6, 0] rfl)
          have L74 : ∀ v : (Int32 × (Nat → Int32)), lp (fun v => s_Tree_shifted_74 c_c c_cl c_ml z6 v11 c_en v.1 v.2) v = some y15 → ∀ (H : Heap) (locs : List Loc) (ls : Array Slot), va_P G.1 classes (wT G a_t a_c a_mv a_fr a_br a_e0 a_e1 a_e2 a_e3 a_lo a_ho c_c c_cl v.2 c_ml v12 c_rt c_fr c_br c_fi c_st c_vz) H → va_D A (wT G a_t a_c a_mv a_fr a_br a_e0 a_e1 a_e2 a_e3 a_lo a_ho c_c c_cl v.2 c_ml v12 c_rt c_fr c_br c_fi c_st c_vz) → va_S A xs.heap H locs → lv_has ls 9 [(0, .ref a_t), (1, .int p_1), (2, .ref a_c), (3, .int z6), (4, .ref (zsh a_e0 a_e1 a_e2 a_e3 r9)), (5, .int v11), (6, .int c_en), (7, .int v.1)] → W xp l xe { frames := 3 + (d + 1), cells := 0, slots := 0, locals := 71 + 28 * (d + 1) } xs xm ([.ref a_t, .int p_1, .ref a_c] : List Value).toArray xb xme xc H locs 0 0 Q (F0 xm 74 ls []) := by
            refine lp_walk _ (fun v x h hc he => ?_)
            obtain ⟨x7_13, c14⟩ := v
            intro H locs ls hP hD hS hl
            have h : s_Tree_shifted_74 c_c c_cl c_ml z6 v11 c_en x7_13 c14 = some x := h
            unfold s_Tree_shifted_74 at h
            refine lv_iload hx hb d_Tree_shifted_74 (lv_at hl 7 rfl) ?_
            refine lv_iload hx hb d_Tree_shifted_76 (lv_at hl 5 rfl) ?_
            refine lv_icmp_ge (tgt := 103) hx hb d_Tree_shifted_78 (by decide) (fun q16 => ?_) (fun q16 => ?_)
            · have h := it h q16
              exact E74 c14 (he _ (Option.some.inj h).symm) H locs ls hP hD hS (lv_sub hl [0, 1, 2, 3, 4, 6] rfl)
            · have h := ie h q16
              refine lv_aload_n hx hb d_Tree_shifted_81 rfl (lv_at hl 0 rfl) ?_
              refine va_get (D := G.1) (ci := 4) (v := .ref a_mv) (C := "BranchStore$Tree") (T := F_Tree) (N := 15) hx hb hts i_Tree hown hK hP 0 rfl rfl 1 (by decide) (hts _ k_124) (fun _ h9 => h9) rfl d_Tree_shifted_82 ?_
              refine lv_iload hx hb d_Tree_shifted_85 (lv_at hl 6 rfl) ?_
              refine lv_iload hx hb d_Tree_shifted_87 (lv_at hl 7 rfl) ?_
              refine lv_iadd hx hb d_Tree_shifted_89 ?_
              refine lv_aload_n hx hb d_Tree_shifted_90 rfl (lv_at hl 2 rfl) ?_
              refine lv_iload_n hx hb d_Tree_shifted_91 rfl (lv_at hl 3 rfl) ?_
              refine lv_iload hx hb d_Tree_shifted_92 (lv_at hl 7 rfl) ?_
              refine lv_iadd hx hb d_Tree_shifted_94 ?_
              obtain ⟨h17, h⟩ := gi_k h
              refine va_iald hx hb hK hP 1 0 rfl rfl h17 d_Tree_shifted_95 ?_
              obtain ⟨h18, h⟩ := gi_k h
              refine va_iast hx hb hK hP hD hS 2 0 rfl rfl h18 d_Tree_shifted_96 (fun H locs hP hD hS => ?_)
              obtain ⟨c19, ec19⟩ : ∃ y, y = upd c14 (c_en + x7_13).toNatClampNeg (c_c (z6 + x7_13).toNatClampNeg) := ⟨_, rfl⟩
              have h := nm_k h c19 ec19
              have hP : va_P G.1 classes (wT G a_t a_c a_mv a_fr a_br a_e0 a_e1 a_e2 a_e3 a_lo a_ho c_c c_cl c19 c_ml v12 c_rt c_fr c_br c_fi c_st c_vz) H := by rw [ec19]; exact hP
              have hD : va_D A (wT G a_t a_c a_mv a_fr a_br a_e0 a_e1 a_e2 a_e3 a_lo a_ho c_c c_cl c19 c_ml v12 c_rt c_fr c_br c_fi c_st c_vz) := by rw [ec19]; exact hD
              obtain ⟨v20, ev20⟩ : ∃ y : Int32, y = x7_13 + 1 := ⟨_, rfl⟩
              have h := nm_k h v20 ev20
              refine lv_iinc (v := v20) (lv' := [(7, .int v20), (0, .ref a_t), (1, .int p_1), (2, .ref a_c), (3, .int z6), (4, .ref (zsh a_e0 a_e1 a_e2 a_e3 r9)), (5, .int v11), (6, .int c_en)]) hx hb d_Tree_shifted_97 hl (k := 7) rfl (by rw [ev20]; rfl) (by decide) rfl (fun ls hl => ?_)
              refine lv_goto (tgt := 74) hx hb d_Tree_shifted_100 (by decide) ?_
              exact hc _ (Option.some.inj h).symm H locs ls hP hD hS (lv_sub hl [1, 2, 3, 4, 5, 6, 7, 0] rfl)
          exact L74 _ hy15 _ _ ls hP hD hS (lv_sub hl [5, 6, 7, 4, 3, 2, 1, 0] rfl)
        · have h := ie h q7
          refine lv_null hx hb d_Tree_shifted_21 ?_
          refine lv_goto (tgt := 32) hx hb d_Tree_shifted_22 (by decide) ?_
          refine lv_astoreN (lv' := [(4, .null), (3, .int z6), (0, .ref a_t), (1, .int p_1), (2, .ref a_c)]) hx hb d_Tree_shifted_32 hl (by decide) rfl (fun ls hl => ?_)
          refine lv_iload_n hx hb d_Tree_shifted_34 rfl (lv_at hl 3 rfl) ?_
          refine lv_if_ge (tgt := 47) hx hb d_Tree_shifted_35 (by decide) (fun q44 => absurd q44 q7) (fun _ => ?_)
          refine lv_aload_n hx hb d_Tree_shifted_38 rfl (lv_at hl 4 rfl) ?_
          refine lv_iload_n hx hb d_Tree_shifted_39 rfl (lv_at hl 1 rfl) ?_
          obtain ⟨h45, h⟩ := gi_k h
          refine va_iald hx hb hK hP 1 0 rfl rfl h45 d_Tree_shifted_40 ?_
          obtain ⟨r46, hr46, h⟩ := ob h
          refine zpcalli (wr := (wT G a_t a_c a_mv a_fr a_br a_e0 a_e1 a_e2 a_e3 a_lo a_ho c_c c_cl c_mv c_ml c_en c_rt c_fr c_br c_fi c_st c_vz)) (w2 := fun _ => (wT G a_t a_c a_mv a_fr a_br a_e0 a_e1 a_e2 a_e3 a_lo a_ho c_c c_cl c_mv c_ml c_en c_rt c_fr c_br c_fi c_st c_vz)) (zrunS (As := [.int (c_c z6.toNatClampNeg)]) (rest := []) ⟨hx, hb, hml, hown, hts⟩ hN hK (c_Tree_leafCells l G H.size (c_c z6.toNatClampNeg) r46 hr46) ⟨rfl, rfl⟩ kv_Tree_89 ⟨by show 1 ≤ 3 + (d + 1); omega, by show 20 ≤ 71 + 28 * (d + 1); omega⟩ rfl hl.1 (Nat.le_of_ble_eq_true rfl) d_Tree_shifted_41 ⟨Nat.le_of_ble_eq_true rfl, Nat.le_of_ble_eq_true rfl⟩) hP hD hS hA [] [0, 1, 2, 3, 4, 5, 6, 7, 8] [0, 1, 2, 3, 4, 5, 6, 7, 8] rfl rfl rfl rfl (by decide) rfl (fun _ => rfl) (fun rr _ H hw hP hD hS => ?_)
          have hw := hw.symm
          subst hw
          refine lv_goto (tgt := 52) hx hb d_Tree_shifted_44 (by decide) ?_
          refine lv_istore (lv' := [(5, .int r46), (4, .null), (3, .int z6), (0, .ref a_t), (1, .int p_1), (2, .ref a_c)]) hx hb d_Tree_shifted_52 hl (by decide) rfl (fun ls hl => ?_)
          refine lv_aload_n hx hb d_Tree_shifted_54 rfl (lv_at hl 3 rfl) ?_
          refine va_get (D := G.1) (ci := 4) (v := .int c_en) (C := "BranchStore$Tree") (T := F_Tree) (N := 15) hx hb hts i_Tree hown hK hP 0 rfl rfl 2 (by decide) (hts _ k_125) (fun _ h9 => h9) rfl d_Tree_shifted_55 ?_
          refine lv_istore (lv' := [(6, .int c_en), (5, .int r46), (4, .null), (3, .int z6), (0, .ref a_t), (1, .int p_1), (2, .ref a_c)]) hx hb d_Tree_shifted_58 hl (by decide) rfl (fun ls hl => ?_)
          refine lv_aload_n hx hb d_Tree_shifted_60 rfl (lv_at hl 4 rfl) ?_
          refine lv_dup hx hb d_Tree_shifted_61 rfl ?_
          refine va_get (D := G.1) (ci := 4) (v := .int c_en) (C := "BranchStore$Tree") (T := F_Tree) (N := 15) hx hb hts i_Tree hown hK hP 0 rfl rfl 2 (by decide) (hts _ k_125) (fun _ h9 => h9) rfl d_Tree_shifted_62 ?_
          refine lv_iload hx hb d_Tree_shifted_65 (lv_at hl 1 rfl) ?_
          refine lv_iadd hx hb d_Tree_shifted_67 ?_
          refine lv_topi (fun v47 ev47 => ?_)
          have h := nm_k h v47 ev47
          refine va_put (D := G.1) (ci := 4) (v := .int v47) (ty := .int) (C := "BranchStore$Tree") (T := F_Tree) (N := 15) hx hb hts i_Tree t_Tree t_Tree_ok n_Tree hown hK hP hD hS 0 rfl rfl 2 (by decide) (hts _ k_125) (fun _ h9 => h9) rfl (by decide +kernel) rfl rfl (Nat.le_of_ble_eq_true rfl) d_Tree_shifted_68 (fun H locs hP hD hS => ?_)
          have hP : va_P G.1 classes (wT G a_t a_c a_mv a_fr a_br a_e0 a_e1 a_e2 a_e3 a_lo a_ho c_c c_cl c_mv c_ml v47 c_rt c_fr c_br c_fi c_st c_vz) H := hP
          have hD : va_D A (wT G a_t a_c a_mv a_fr a_br a_e0 a_e1 a_e2 a_e3 a_lo a_ho c_c c_cl c_mv c_ml v47 c_rt c_fr c_br c_fi c_st c_vz) := hD
          refine lv_iconst (v := 0) hx hb d_Tree_shifted_71 (by decide) ?_
          refine lv_istore (lv' := [(7, .int 0), (6, .int c_en), (5, .int r46), (4, .null), (3, .int z6), (0, .ref a_t), (1, .int p_1), (2, .ref a_c)]) hx hb d_Tree_shifted_72 hl (by decide) rfl (fun ls hl => ?_)
          obtain ⟨y50, hy50, h⟩ := ob h
          have E74 : ∀ (z56 : (Nat → Int32)), z56 = y50 → ∀ (H : Heap) (locs : List Loc) (ls : Array Slot), va_P G.1 classes (wT G a_t a_c a_mv a_fr a_br a_e0 a_e1 a_e2 a_e3 a_lo a_ho c_c c_cl z56 c_ml v47 c_rt c_fr c_br c_fi c_st c_vz) H → va_D A (wT G a_t a_c a_mv a_fr a_br a_e0 a_e1 a_e2 a_e3 a_lo a_ho c_c c_cl z56 c_ml v47 c_rt c_fr c_br c_fi c_st c_vz) → va_S A xs.heap H locs → lv_has ls 9 [(0, .ref a_t), (1, .int p_1), (2, .ref a_c), (3, .int z6), (4, .null), (6, .int c_en)] → W xp l xe { frames := 3 + (d + 1), cells := 0, slots := 0, locals := 71 + 28 * (d + 1) } xs xm ([.ref a_t, .int p_1, .ref a_c] : List Value).toArray xb xme xc H locs 0 0 Q (F0 xm 103 ls []) := by
            intro z56 ey H locs ls hP hD hS hl
            subst ey
            try dsimp only at h
            refine lv_iload_n hx hb d_Tree_shifted_103 rfl (lv_at hl 1 rfl) ?_
            refine lv_if_ge (tgt := 111) hx hb d_Tree_shifted_104 (by decide) (fun q58 => absurd q58 q7) (fun _ => ?_)
            refine lv_iload hx hb d_Tree_shifted_107 (lv_at hl 5 rfl) ?_
            refine lv_ineg hx hb d_Tree_shifted_109 ?_
            obtain rfl := Option.some.inj h
            exact zreti () hQ hS.2.2 hx hb hr hlocks hP hD hS rfl (Nat.le_refl _) (Nat.le_refl _) d_Tree_shifted_110
          have L74 : ∀ v : (Int32 × (Nat → Int32)), lp (fun v => s_Tree_shifted_74 c_c c_cl c_ml z6 r46 c_en v.1 v.2) v = some y50 → ∀ (H : Heap) (locs : List Loc) (ls : Array Slot), va_P G.1 classes (wT G a_t a_c a_mv a_fr a_br a_e0 a_e1 a_e2 a_e3 a_lo a_ho c_c c_cl v.2 c_ml v47 c_rt c_fr c_br c_fi c_st c_vz) H → va_D A (wT G a_t a_c a_mv a_fr a_br a_e0 a_e1 a_e2 a_e3 a_lo a_ho c_c c_cl v.2 c_ml v47 c_rt c_fr c_br c_fi c_st c_vz) → va_S A xs.heap H locs → lv_has ls 9 [(0, .ref a_t), (1, .int p_1), (2, .ref a_c), (3, .int z6), (4, .null), (5, .int r46), (6, .int c_en), (7, .int v.1)] → W xp l xe { frames := 3 + (d + 1), cells := 0, slots := 0, locals := 71 + 28 * (d + 1) } xs xm ([.ref a_t, .int p_1, .ref a_c] : List Value).toArray xb xme xc H locs 0 0 Q (F0 xm 74 ls []) := by
            refine lp_walk _ (fun v x h hc he => ?_)
            obtain ⟨x7_48, c49⟩ := v
            intro H locs ls hP hD hS hl
            have h : s_Tree_shifted_74 c_c c_cl c_ml z6 r46 c_en x7_48 c49 = some x := h
            unfold s_Tree_shifted_74 at h
            refine lv_iload hx hb d_Tree_shifted_74 (lv_at hl 7 rfl) ?_
            refine lv_iload hx hb d_Tree_shifted_76 (lv_at hl 5 rfl) ?_
            refine lv_icmp_ge (tgt := 103) hx hb d_Tree_shifted_78 (by decide) (fun q51 => ?_) (fun q51 => ?_)
            · have h := it h q51
              exact E74 c49 (he _ (Option.some.inj h).symm) H locs ls hP hD hS (lv_sub hl [0, 1, 2, 3, 4, 6] rfl)
            · have h := ie h q51
              refine lv_aload_n hx hb d_Tree_shifted_81 rfl (lv_at hl 0 rfl) ?_
              refine va_get (D := G.1) (ci := 4) (v := .ref a_mv) (C := "BranchStore$Tree") (T := F_Tree) (N := 15) hx hb hts i_Tree hown hK hP 0 rfl rfl 1 (by decide) (hts _ k_124) (fun _ h9 => h9) rfl d_Tree_shifted_82 ?_
              refine lv_iload hx hb d_Tree_shifted_85 (lv_at hl 6 rfl) ?_
              refine lv_iload hx hb d_Tree_shifted_87 (lv_at hl 7 rfl) ?_
              refine lv_iadd hx hb d_Tree_shifted_89 ?_
              refine lv_aload_n hx hb d_Tree_shifted_90 rfl (lv_at hl 2 rfl) ?_
              refine lv_iload_n hx hb d_Tree_shifted_91 rfl (lv_at hl 3 rfl) ?_
              refine lv_iload hx hb d_Tree_shifted_92 (lv_at hl 7 rfl) ?_
              refine lv_iadd hx hb d_Tree_shifted_94 ?_
              obtain ⟨h52, h⟩ := gi_k h
              refine va_iald hx hb hK hP 1 0 rfl rfl h52 d_Tree_shifted_95 ?_
              obtain ⟨h53, h⟩ := gi_k h
              refine va_iast hx hb hK hP hD hS 2 0 rfl rfl h53 d_Tree_shifted_96 (fun H locs hP hD hS => ?_)
              obtain ⟨c54, ec54⟩ : ∃ y, y = upd c49 (c_en + x7_48).toNatClampNeg (c_c (z6 + x7_48).toNatClampNeg) := ⟨_, rfl⟩
              have h := nm_k h c54 ec54
              have hP : va_P G.1 classes (wT G a_t a_c a_mv a_fr a_br a_e0 a_e1 a_e2 a_e3 a_lo a_ho c_c c_cl c54 c_ml v47 c_rt c_fr c_br c_fi c_st c_vz) H := by rw [ec54]; exact hP
              have hD : va_D A (wT G a_t a_c a_mv a_fr a_br a_e0 a_e1 a_e2 a_e3 a_lo a_ho c_c c_cl c54 c_ml v47 c_rt c_fr c_br c_fi c_st c_vz) := by rw [ec54]; exact hD
              obtain ⟨v55, ev55⟩ : ∃ y : Int32, y = x7_48 + 1 := ⟨_, rfl⟩
              have h := nm_k h v55 ev55
              refine lv_iinc (v := v55) (lv' := [(7, .int v55), (0, .ref a_t), (1, .int p_1), (2, .ref a_c), (3, .int z6), (4, .null), (5, .int r46), (6, .int c_en)]) hx hb d_Tree_shifted_97 hl (k := 7) rfl (by rw [ev55]; rfl) (by decide) rfl (fun ls hl => ?_)
              refine lv_goto (tgt := 74) hx hb d_Tree_shifted_100 (by decide) ?_
              exact hc _ (Option.some.inj h).symm H locs ls hP hD hS (lv_sub hl [1, 2, 3, 4, 5, 6, 7, 0] rfl)
          exact L74 _ hy50 _ _ ls hP hD hS (lv_sub hl [5, 6, 7, 4, 3, 2, 1, 0] rfl)
      have h := hy4
      refine lv_if_ge (tgt := 15) hx hb d_Tree_shifted_7 (by decide) (fun q3 => ?_) (fun q3 => ?_)
      · have h := it h q3
        refine lv_iload_n hx hb d_Tree_shifted_15 rfl (lv_at hl 1 rfl) ?_
        exact J16 p_1 (Option.some.inj h) H locs ls hP hD hS (lv_sub hl [0, 1, 2] rfl)
      · have h := ie h q3
        refine lv_iload_n hx hb d_Tree_shifted_10 rfl (lv_at hl 1 rfl) ?_
        refine lv_ineg hx hb d_Tree_shifted_11 ?_
        refine lv_goto (tgt := 16) hx hb d_Tree_shifted_12 (by decide) ?_
        exact J16 (-p_1) (Option.some.inj h) H locs ls hP hD hS (lv_sub hl [0, 1, 2] rfl)
    · have h := it h q1
      refine lv_iconst (v := 0) hx hb d_Tree_shifted_4 (by decide) ?_
      obtain rfl := Option.some.inj h
      exact zreti () hQ hS.2.2 hx hb hr hlocks hP hD hS rfl (Nat.le_refl _) (Nat.le_refl _) d_Tree_shifted_5

noncomputable def s_Tree_compact_64 (x3 : Int32) (c_fr : (Nat → Int32)) : Option ((Int32 × (Nat → Int32)) ⊕ (Nat → Int32)) :=
if 260 < x3 then
(some (.inr c_fr))
else
(gi x3 261 <|
nm (upd c_fr x3.toNatClampNeg 0) fun c8 =>
nm (x3 + 1) fun v9 =>
some (.inl (v9, c8)))
noncomputable def f_Tree_compact (c_c : (Nat → Int32)) (c_cl : Nat) (c_mv : (Nat → Int32)) (c_ml : Nat) (c_en : Int32) (c_rt : Int32) (c_fr : (Nat → Int32))  : Option ((Int32 × (Nat → Int32) × Nat × (Nat → Int32) × Nat × Int32 × Int32 × (Nat → Int32)) × Nat) :=
if (Int32.ofNat c_cl) ≤ (Int32.ofNat c_ml) then
((f_Tree_shifted 60 c_c c_cl c_mv c_ml 1 c_rt).bind fun r2 =>
(lp (fun v => s_Tree_compact_64 v.1 v.2) (0, c_fr)).bind fun y11 =>
some ((r2.2.2 - 1, r2.2.1, c_ml, c_c, c_cl, r2.2.2, r2.1, y11), 0))
else
(gna (Int32.ofNat c_cl) <|
ad ((Int32.ofNat c_cl).toNatClampNeg / 1024 + 1) <|
(f_Tree_shifted 60 c_c c_cl (fun _ => 0) ((Int32.ofNat c_cl).toNatClampNeg) 1 c_rt).bind fun r15 =>
(lp (fun v => s_Tree_compact_64 v.1 v.2) (0, c_fr)).bind fun y24 =>
some ((r15.2.2 - 1, r15.2.1, (Int32.ofNat c_cl).toNatClampNeg, c_c, c_cl, r15.2.2, r15.1, y24), 0))
set_option maxHeartbeats 8000000 in
set_option maxRecDepth 100000 in
theorem c_Tree_compact (l : Launch) (G : zG) (sz : Nat) (a_t a_c a_mv a_fr a_br a_e0 a_e1 a_e2 a_e3 a_lo a_ho : Nat) (c_c : (Nat → Int32)) (c_cl : Nat) (c_mv : (Nat → Int32)) (c_ml : Nat) (c_en : Int32) (c_rt : Int32) (c_fr : (Nat → Int32)) (c_br : (Nat → Int32)) (c_fi : Int64) (c_st : Int64) (c_vz : Int64) (r0 : (Int32 × (Nat → Int32) × Nat × (Nat → Int32) × Nat × Int32 × Int32 × (Nat → Int32))) (rc : Nat) (hf : f_Tree_compact c_c c_cl c_mv c_ml c_en c_rt c_fr = some (r0, rc)) :
    Met l y_Tree_compact (Cond.code y_Tree_compact prog_7_method_33_code 4 (some .int) :: lw_ok) { frames := 64, cells := rc, slots := 1024 * rc, locals := 1779 } (zPc G sz [.ref a_t] (wT G a_t a_c a_mv a_fr a_br a_e0 a_e1 a_e2 a_e3 a_lo a_ho c_c c_cl c_mv c_ml c_en c_rt c_fr c_br c_fi c_st c_vz))
      ((fun (A : Nat → Prop) => va_Qi (fun (r : Int32) (u : Nat × Nat) => r = r0.1) (fun u t => zB G A (wT G a_t u.1 u.2 a_fr a_br a_e0 a_e1 a_e2 a_e3 a_lo a_ho r0.2.1 r0.2.2.1 r0.2.2.2.1 r0.2.2.2.2.1 r0.2.2.2.2.2.1 r0.2.2.2.2.2.2.1 r0.2.2.2.2.2.2.2 c_br c_fi c_st c_vz) t) A) (va_A (wT G a_t a_c a_mv a_fr a_br a_e0 a_e1 a_e2 a_e3 a_lo a_ho c_c c_cl c_mv c_ml c_en c_rt c_fr c_br c_fi c_st c_vz) sz)) rc (1024 * rc) (va_A (wT G a_t a_c a_mv a_fr a_br a_e0 a_e1 a_e2 a_e3 a_lo a_ho c_c c_cl c_mv c_ml c_en c_rt c_fr c_br c_fi c_st c_vz) sz) := by
  refine zMet (Qc := fun (A : Nat → Prop) => va_Qi (fun (r : Int32) (u : Nat × Nat) => r = r0.1) (fun u t => zB G A (wT G a_t u.1 u.2 a_fr a_br a_e0 a_e1 a_e2 a_e3 a_lo a_ho r0.2.1 r0.2.2.1 r0.2.2.2.1 r0.2.2.2.2.1 r0.2.2.2.2.2.1 r0.2.2.2.2.2.2.1 r0.2.2.2.2.2.2.2 c_br c_fi c_st c_vz) t) A) (by decide) (Nat.le_of_ble_eq_true rfl) (fun xp xe xs xm xb xme xc A ls Q H locs C hN hK hP hD hS hA hl hQ => ?_)
  obtain ⟨hx, hb, hr, hts, hown, hlocks, hml, hin⟩ := C
  have hl : lv_has ls 4 [(0, .ref a_t)] := hl
  have h := hf
  unfold f_Tree_compact at h
  have hRa : r0 = (r0, rc).1 := rfl
  have hRc : rc = 0 + (r0, rc).2 := (Nat.zero_add _).symm
  refine W.widen (k := 0) (n := 1024 * 0) (Nat.le_refl _) (Nat.le_refl _) ?_
  refine lv_aload_n hx hb d_Tree_compact_0 rfl (lv_at hl 0 rfl) ?_
  refine va_get (D := G.1) (ci := 4) (v := .ref a_mv) (C := "BranchStore$Tree") (T := F_Tree) (N := 15) hx hb hts i_Tree hown hK hP 0 rfl rfl 1 (by decide) (hts _ k_124) (fun _ h9 => h9) rfl d_Tree_compact_1 ?_
  refine va_alen hx hb hK hP 2 0 rfl rfl rfl d_Tree_compact_4 ?_
  refine lv_aload_n hx hb d_Tree_compact_5 rfl (lv_at hl 0 rfl) ?_
  refine va_get (D := G.1) (ci := 4) (v := .ref a_c) (C := "BranchStore$Tree") (T := F_Tree) (N := 15) hx hb hts i_Tree hown hK hP 0 rfl rfl 0 (by decide) (hts _ k_123) (fun _ h9 => h9) rfl d_Tree_compact_6 ?_
  refine va_alen hx hb hK hP 1 0 rfl rfl rfl d_Tree_compact_9 ?_
  refine lv_icmp_ge (tgt := 24) hx hb d_Tree_compact_10 (by decide) (fun q1 => ?_) (fun q1 => ?_)
  · have h := it h q1
    refine lv_aload_n hx hb d_Tree_compact_24 rfl (lv_at hl 0 rfl) ?_
    refine va_get (D := G.1) (ci := 4) (v := .ref a_c) (C := "BranchStore$Tree") (T := F_Tree) (N := 15) hx hb hts i_Tree hown hK hP 0 rfl rfl 0 (by decide) (hts _ k_123) (fun _ h9 => h9) rfl d_Tree_compact_25 ?_
    refine lv_astore_n (lv' := [(1, .ref a_c), (0, .ref a_t)]) hx hb d_Tree_compact_28 rfl hl (by decide) rfl (fun ls hl => ?_)
    refine lv_iconst (v := 1) hx hb d_Tree_compact_29 (by decide) ?_
    refine lv_istore_n (lv' := [(2, .int 1), (1, .ref a_c), (0, .ref a_t)]) hx hb d_Tree_compact_30 rfl hl (by decide) rfl (fun ls hl => ?_)
    refine lv_aload_n hx hb d_Tree_compact_31 rfl (lv_at hl 2 rfl) ?_
    refine lv_iconst (v := 1) hx hb d_Tree_compact_32 (by decide) ?_
    refine va_put (D := G.1) (ci := 4) (v := .int 1) (ty := .int) (C := "BranchStore$Tree") (T := F_Tree) (N := 15) hx hb hts i_Tree t_Tree t_Tree_ok n_Tree hown hK hP hD hS 0 rfl rfl 2 (by decide) (hts _ k_125) (fun _ h9 => h9) rfl (by decide +kernel) rfl rfl (Nat.le_of_ble_eq_true rfl) d_Tree_compact_33 (fun H locs hP hD hS => ?_)
    have hP : va_P G.1 classes (wT G a_t a_c a_mv a_fr a_br a_e0 a_e1 a_e2 a_e3 a_lo a_ho c_c c_cl c_mv c_ml 1 c_rt c_fr c_br c_fi c_st c_vz) H := hP
    have hD : va_D A (wT G a_t a_c a_mv a_fr a_br a_e0 a_e1 a_e2 a_e3 a_lo a_ho c_c c_cl c_mv c_ml 1 c_rt c_fr c_br c_fi c_st c_vz) := hD
    refine lv_aload_n hx hb d_Tree_compact_36 rfl (lv_at hl 2 rfl) ?_
    refine lv_aload_n hx hb d_Tree_compact_37 rfl (lv_at hl 2 rfl) ?_
    refine lv_aload_n hx hb d_Tree_compact_38 rfl (lv_at hl 2 rfl) ?_
    refine va_get (D := G.1) (ci := 4) (v := .int c_rt) (C := "BranchStore$Tree") (T := F_Tree) (N := 15) hx hb hts i_Tree hown hK hP 0 rfl rfl 3 (by decide) (hts _ k_126) (fun _ h9 => h9) rfl d_Tree_compact_39 ?_
    refine lv_aload_n hx hb d_Tree_compact_42 rfl (lv_at hl 1 rfl) ?_
    obtain ⟨r2, hr2, h⟩ := ob h
    refine zcalli (wr := []) (w2 := fun _ => (wT G a_t a_c a_mv a_fr a_br a_e0 a_e1 a_e2 a_e3 a_lo a_ho c_c c_cl r2.2.1 c_ml r2.2.2 c_rt c_fr c_br c_fi c_st c_vz)) (zrunV (As := [.int c_rt, .ref a_c]) (rest := [.ref a_t]) ⟨hx, hb, hml, hown, hts⟩ hN hK (c_Tree_shifted l G 60 H.size a_t a_c a_mv a_fr a_br a_e0 a_e1 a_e2 a_e3 a_lo a_ho c_c c_cl c_mv c_ml 1 c_rt c_fr c_br c_fi c_st c_vz c_rt r2 hr2) ⟨rfl, rfl⟩ kv_Tree_206 ⟨Nat.le_of_ble_eq_true rfl, Nat.le_of_ble_eq_true rfl⟩ 0 rfl rfl rfl hl.1 (Nat.le_of_ble_eq_true rfl) d_Tree_compact_43 ⟨by show _ ≤ rc; omega, by show _ ≤ 1024 * rc; omega⟩) hP hD hS hA [0, 1, 2, 3, 4, 5, 6, 7, 8] [] [0, 1, 2, 3, 4, 5, 6, 7, 8] rfl rfl rfl rfl (by decide) rfl (fun _ => rfl) (fun rr _ H locs hw hP hD hS => ?_)
    have hw := hw.symm
    subst hw
    refine va_put (D := G.1) (ci := 4) (v := .int r2.1) (ty := .int) (C := "BranchStore$Tree") (T := F_Tree) (N := 15) hx hb hts i_Tree t_Tree t_Tree_ok n_Tree hown hK hP hD hS 0 rfl rfl 3 (by decide) (hts _ k_126) (fun _ h9 => h9) rfl (by decide +kernel) rfl rfl (Nat.le_of_ble_eq_true rfl) d_Tree_compact_46 (fun H locs hP hD hS => ?_)
    have hP : va_P G.1 classes (wT G a_t a_c a_mv a_fr a_br a_e0 a_e1 a_e2 a_e3 a_lo a_ho c_c c_cl r2.2.1 c_ml r2.2.2 r2.1 c_fr c_br c_fi c_st c_vz) H := hP
    have hD : va_D A (wT G a_t a_c a_mv a_fr a_br a_e0 a_e1 a_e2 a_e3 a_lo a_ho c_c c_cl r2.2.1 c_ml r2.2.2 r2.1 c_fr c_br c_fi c_st c_vz) := hD
    refine lv_aload_n hx hb d_Tree_compact_49 rfl (lv_at hl 2 rfl) ?_
    refine lv_aload_n hx hb d_Tree_compact_50 rfl (lv_at hl 2 rfl) ?_
    refine va_get (D := G.1) (ci := 4) (v := .ref a_mv) (C := "BranchStore$Tree") (T := F_Tree) (N := 15) hx hb hts i_Tree hown hK hP 0 rfl rfl 1 (by decide) (hts _ k_124) (fun _ h9 => h9) rfl d_Tree_compact_51 ?_
    refine va_put (D := G.1) (ci := 4) (v := .ref a_mv) (ty := .array .int) (C := "BranchStore$Tree") (T := F_Tree) (N := 15) hx hb hts i_Tree t_Tree t_Tree_ok n_Tree hown hK hP hD hS 0 rfl rfl 0 (by decide) (hts _ k_123) (fun _ h9 => h9) rfl (by decide +kernel) rfl rfl (Nat.le_of_ble_eq_true rfl) d_Tree_compact_54 (fun H locs hP hD hS => ?_)
    refine lv_aload_n hx hb d_Tree_compact_57 rfl (lv_at hl 2 rfl) ?_
    refine lv_aload_n hx hb d_Tree_compact_58 rfl (lv_at hl 1 rfl) ?_
    refine va_put (D := G.1) (ci := 4) (v := .ref a_c) (ty := .array .int) (C := "BranchStore$Tree") (T := F_Tree) (N := 15) hx hb hts i_Tree t_Tree t_Tree_ok n_Tree hown hK hP hD hS 0 rfl rfl 1 (by decide) (hts _ k_124) (fun _ h9 => h9) rfl (by decide +kernel) rfl rfl (Nat.le_of_ble_eq_true rfl) d_Tree_compact_59 (fun H locs hP hD hS => ?_)
    have hP : va_P G.1 classes (wT G a_t a_mv a_c a_fr a_br a_e0 a_e1 a_e2 a_e3 a_lo a_ho r2.2.1 c_ml c_c c_cl r2.2.2 r2.1 c_fr c_br c_fi c_st c_vz) H := hP.sub [0, 2, 1, 3, 4, 5, 6, 7, 8] rfl
    have hD : va_D A (wT G a_t a_mv a_c a_fr a_br a_e0 a_e1 a_e2 a_e3 a_lo a_ho r2.2.1 c_ml c_c c_cl r2.2.2 r2.1 c_fr c_br c_fi c_st c_vz) := hD.sub [0, 2, 1, 3, 4, 5, 6, 7, 8] (by decide) rfl
    refine lv_iconst (v := 0) hx hb d_Tree_compact_62 (by decide) ?_
    refine lv_istore_n (lv' := [(3, .int 0), (2, .int 1), (1, .ref a_c), (0, .ref a_t)]) hx hb d_Tree_compact_63 rfl hl (by decide) rfl (fun ls hl => ?_)
    obtain ⟨y5, hy5, h⟩ := ob h
    have E64 : ∀ (z10 : (Nat → Int32)), z10 = y5 → ∀ (H : Heap) (locs : List Loc) (ls : Array Slot), va_P G.1 classes (wT G a_t a_mv a_c a_fr a_br a_e0 a_e1 a_e2 a_e3 a_lo a_ho r2.2.1 c_ml c_c c_cl r2.2.2 r2.1 z10 c_br c_fi c_st c_vz) H → va_D A (wT G a_t a_mv a_c a_fr a_br a_e0 a_e1 a_e2 a_e3 a_lo a_ho r2.2.1 c_ml c_c c_cl r2.2.2 r2.1 z10 c_br c_fi c_st c_vz) → va_S A xs.heap H locs → lv_has ls 4 [(0, .ref a_t), (2, .int 1)] → W xp l xe { frames := 64, cells := rc, slots := 1024 * rc, locals := 1779 } xs xm ([.ref a_t] : List Value).toArray xb xme xc H locs (0) (1024 * (0)) Q (F0 xm 84 ls []) := by
      intro z10 ey H locs ls hP hD hS hl
      subst ey
      try dsimp only at h
      refine lv_aload_n hx hb d_Tree_compact_84 rfl (lv_at hl 0 rfl) ?_
      refine va_get (D := G.1) (ci := 4) (v := .int r2.2.2) (C := "BranchStore$Tree") (T := F_Tree) (N := 15) hx hb hts i_Tree hown hK hP 0 rfl rfl 2 (by decide) (hts _ k_125) (fun _ h9 => h9) rfl d_Tree_compact_85 ?_
      refine lv_iload_n hx hb d_Tree_compact_88 rfl (lv_at hl 1 rfl) ?_
      refine lv_isub hx hb d_Tree_compact_89 ?_
      have ey := Option.some.inj h
      rw [← ey] at hRa hRc
      have hRa : r0 = (r2.2.2 - 1, r2.2.1, c_ml, c_c, c_cl, r2.2.2, r2.1, z10) := hRa
      have hRc : rc = 0 + 0 := hRc
      subst hRa
      exact zreti (a_mv, a_c) hQ hS.2.2 hx hb hr hlocks hP hD hS rfl (by omega) (by omega) d_Tree_compact_90
    have L64 : ∀ v : (Int32 × (Nat → Int32)), lp (fun v => s_Tree_compact_64 v.1 v.2) v = some y5 → ∀ (H : Heap) (locs : List Loc) (ls : Array Slot), va_P G.1 classes (wT G a_t a_mv a_c a_fr a_br a_e0 a_e1 a_e2 a_e3 a_lo a_ho r2.2.1 c_ml c_c c_cl r2.2.2 r2.1 v.2 c_br c_fi c_st c_vz) H → va_D A (wT G a_t a_mv a_c a_fr a_br a_e0 a_e1 a_e2 a_e3 a_lo a_ho r2.2.1 c_ml c_c c_cl r2.2.2 r2.1 v.2 c_br c_fi c_st c_vz) → va_S A xs.heap H locs → lv_has ls 4 [(0, .ref a_t), (2, .int 1), (3, .int v.1)] → W xp l xe { frames := 64, cells := rc, slots := 1024 * rc, locals := 1779 } xs xm ([.ref a_t] : List Value).toArray xb xme xc H locs (0) (1024 * (0)) Q (F0 xm 64 ls []) := by
      refine lp_walk _ (fun v x h hc he => ?_)
      obtain ⟨x3_3, c4⟩ := v
      intro H locs ls hP hD hS hl
      have h : s_Tree_compact_64 x3_3 c4 = some x := h
      unfold s_Tree_compact_64 at h
      refine lv_iload_n hx hb d_Tree_compact_64 rfl (lv_at hl 2 rfl) ?_
      refine lv_sipush (v := 260) hx hb d_Tree_compact_65 (by decide) ?_
      refine lv_icmp_gt (tgt := 84) hx hb d_Tree_compact_68 (by decide) (fun q6 => ?_) (fun q6 => ?_)
      · have h := it h q6
        exact E64 c4 (he _ (Option.some.inj h).symm) H locs ls hP hD hS (lv_sub hl [0, 1] rfl)
      · have h := ie h q6
        refine lv_aload_n hx hb d_Tree_compact_71 rfl (lv_at hl 0 rfl) ?_
        refine va_get (D := G.1) (ci := 4) (v := .ref a_fr) (C := "BranchStore$Tree") (T := F_Tree) (N := 15) hx hb hts i_Tree hown hK hP 0 rfl rfl 4 (by decide) (hts _ k_127) (fun _ h9 => h9) rfl d_Tree_compact_72 ?_
        refine lv_iload_n hx hb d_Tree_compact_75 rfl (lv_at hl 2 rfl) ?_
        refine lv_iconst (v := 0) hx hb d_Tree_compact_76 (by decide) ?_
        obtain ⟨h7, h⟩ := gi_k h
        refine va_iast hx hb hK hP hD hS 3 0 rfl rfl h7 d_Tree_compact_77 (fun H locs hP hD hS => ?_)
        obtain ⟨c8, ec8⟩ : ∃ y, y = upd c4 x3_3.toNatClampNeg 0 := ⟨_, rfl⟩
        have h := nm_k h c8 ec8
        have hP : va_P G.1 classes (wT G a_t a_mv a_c a_fr a_br a_e0 a_e1 a_e2 a_e3 a_lo a_ho r2.2.1 c_ml c_c c_cl r2.2.2 r2.1 c8 c_br c_fi c_st c_vz) H := by rw [ec8]; exact hP
        have hD : va_D A (wT G a_t a_mv a_c a_fr a_br a_e0 a_e1 a_e2 a_e3 a_lo a_ho r2.2.1 c_ml c_c c_cl r2.2.2 r2.1 c8 c_br c_fi c_st c_vz) := by rw [ec8]; exact hD
        obtain ⟨v9, ev9⟩ : ∃ y : Int32, y = x3_3 + 1 := ⟨_, rfl⟩
        have h := nm_k h v9 ev9
        refine lv_iinc (v := v9) (lv' := [(3, .int v9), (0, .ref a_t), (2, .int 1)]) hx hb d_Tree_compact_78 hl (k := 2) rfl (by rw [ev9]; rfl) (by decide) rfl (fun ls hl => ?_)
        refine lv_goto (tgt := 64) hx hb d_Tree_compact_81 (by decide) ?_
        exact hc _ (Option.some.inj h).symm H locs ls hP hD hS (lv_sub hl [1, 2, 0] rfl)
    exact L64 _ hy5 _ _ ls hP hD hS (lv_sub hl [3, 1, 0] rfl)
  · have h := ie h q1
    refine lv_aload_n hx hb d_Tree_compact_13 rfl (lv_at hl 0 rfl) ?_
    refine lv_aload_n hx hb d_Tree_compact_14 rfl (lv_at hl 0 rfl) ?_
    refine va_get (D := G.1) (ci := 4) (v := .ref a_c) (C := "BranchStore$Tree") (T := F_Tree) (N := 15) hx hb hts i_Tree hown hK hP 0 rfl rfl 0 (by decide) (hts _ k_123) (fun _ h9 => h9) rfl d_Tree_compact_15 ?_
    refine va_alen hx hb hK hP 1 0 rfl rfl rfl d_Tree_compact_18 ?_
    obtain ⟨⟨h14a, h14b⟩, h⟩ := gna_k h
    obtain ⟨y13, h, hRa, hRc⟩ := ad_k h hRa hRc
    refine va_newa (a0 := ((Int32.ofNat c_cl).toNatClampNeg, .inl (fun _ => 0))) (N' := (Int32.ofNat c_cl).toNatClampNeg) (ty := .int) (atype := .int) hx hb (hts _ k_59) rfl hK hP hD hS hA (fun _ => rfl) h14a rfl (by show _ * 4 ≤ _; omega) (by show _ ≤ rc; omega) (by show _ ≤ 1024 * rc; omega) d_Tree_compact_19 (fun u12 cA H hK9 hP hD hS => ?_)
    obtain rfl := z_cI 0 rfl rfl hK9
    refine W.widen (k := 0 + ((Int32.ofNat c_cl).toNatClampNeg / 1024 + 1)) (n := 1024 * (0 + ((Int32.ofNat c_cl).toNatClampNeg / 1024 + 1))) (by omega) (by omega) ?_
    refine va_put (D := G.1) (ci := 4) (v := .ref u12) (ty := .array .int) (C := "BranchStore$Tree") (T := F_Tree) (N := 15) hx hb hts i_Tree t_Tree t_Tree_ok n_Tree hown hK hP hD hS 0 rfl rfl 1 (by decide) (hts _ k_124) (fun _ h9 => h9) rfl (by decide +kernel) rfl rfl (Nat.le_of_ble_eq_true rfl) d_Tree_compact_21 (fun H locs hP hD hS => ?_)
    have hP : va_P G.1 classes (wT G a_t a_c u12 a_fr a_br a_e0 a_e1 a_e2 a_e3 a_lo a_ho c_c c_cl (fun _ => 0) ((Int32.ofNat c_cl).toNatClampNeg) c_en c_rt c_fr c_br c_fi c_st c_vz) H := hP.sub [0, 1, 9, 3, 4, 5, 6, 7, 8] rfl
    have hD : va_D A (wT G a_t a_c u12 a_fr a_br a_e0 a_e1 a_e2 a_e3 a_lo a_ho c_c c_cl (fun _ => 0) ((Int32.ofNat c_cl).toNatClampNeg) c_en c_rt c_fr c_br c_fi c_st c_vz) := hD.sub [0, 1, 9, 3, 4, 5, 6, 7, 8] (by decide) rfl
    refine lv_aload_n hx hb d_Tree_compact_24 rfl (lv_at hl 0 rfl) ?_
    refine va_get (D := G.1) (ci := 4) (v := .ref a_c) (C := "BranchStore$Tree") (T := F_Tree) (N := 15) hx hb hts i_Tree hown hK hP 0 rfl rfl 0 (by decide) (hts _ k_123) (fun _ h9 => h9) rfl d_Tree_compact_25 ?_
    refine lv_astore_n (lv' := [(1, .ref a_c), (0, .ref a_t)]) hx hb d_Tree_compact_28 rfl hl (by decide) rfl (fun ls hl => ?_)
    refine lv_iconst (v := 1) hx hb d_Tree_compact_29 (by decide) ?_
    refine lv_istore_n (lv' := [(2, .int 1), (1, .ref a_c), (0, .ref a_t)]) hx hb d_Tree_compact_30 rfl hl (by decide) rfl (fun ls hl => ?_)
    refine lv_aload_n hx hb d_Tree_compact_31 rfl (lv_at hl 2 rfl) ?_
    refine lv_iconst (v := 1) hx hb d_Tree_compact_32 (by decide) ?_
    refine va_put (D := G.1) (ci := 4) (v := .int 1) (ty := .int) (C := "BranchStore$Tree") (T := F_Tree) (N := 15) hx hb hts i_Tree t_Tree t_Tree_ok n_Tree hown hK hP hD hS 0 rfl rfl 2 (by decide) (hts _ k_125) (fun _ h9 => h9) rfl (by decide +kernel) rfl rfl (Nat.le_of_ble_eq_true rfl) d_Tree_compact_33 (fun H locs hP hD hS => ?_)
    have hP : va_P G.1 classes (wT G a_t a_c u12 a_fr a_br a_e0 a_e1 a_e2 a_e3 a_lo a_ho c_c c_cl (fun _ => 0) ((Int32.ofNat c_cl).toNatClampNeg) 1 c_rt c_fr c_br c_fi c_st c_vz) H := hP
    have hD : va_D A (wT G a_t a_c u12 a_fr a_br a_e0 a_e1 a_e2 a_e3 a_lo a_ho c_c c_cl (fun _ => 0) ((Int32.ofNat c_cl).toNatClampNeg) 1 c_rt c_fr c_br c_fi c_st c_vz) := hD
    refine lv_aload_n hx hb d_Tree_compact_36 rfl (lv_at hl 2 rfl) ?_
    refine lv_aload_n hx hb d_Tree_compact_37 rfl (lv_at hl 2 rfl) ?_
    refine lv_aload_n hx hb d_Tree_compact_38 rfl (lv_at hl 2 rfl) ?_
    refine va_get (D := G.1) (ci := 4) (v := .int c_rt) (C := "BranchStore$Tree") (T := F_Tree) (N := 15) hx hb hts i_Tree hown hK hP 0 rfl rfl 3 (by decide) (hts _ k_126) (fun _ h9 => h9) rfl d_Tree_compact_39 ?_
    refine lv_aload_n hx hb d_Tree_compact_42 rfl (lv_at hl 1 rfl) ?_
    obtain ⟨r15, hr15, h⟩ := ob h
    refine zcalli (wr := []) (w2 := fun _ => (wT G a_t a_c u12 a_fr a_br a_e0 a_e1 a_e2 a_e3 a_lo a_ho c_c c_cl r15.2.1 ((Int32.ofNat c_cl).toNatClampNeg) r15.2.2 c_rt c_fr c_br c_fi c_st c_vz)) (zrunV (As := [.int c_rt, .ref a_c]) (rest := [.ref a_t]) ⟨hx, hb, hml, hown, hts⟩ hN hK (c_Tree_shifted l G 60 H.size a_t a_c u12 a_fr a_br a_e0 a_e1 a_e2 a_e3 a_lo a_ho c_c c_cl (fun _ => 0) ((Int32.ofNat c_cl).toNatClampNeg) 1 c_rt c_fr c_br c_fi c_st c_vz c_rt r15 hr15) ⟨rfl, rfl⟩ kv_Tree_206 ⟨Nat.le_of_ble_eq_true rfl, Nat.le_of_ble_eq_true rfl⟩ 0 rfl rfl rfl hl.1 (Nat.le_of_ble_eq_true rfl) d_Tree_compact_43 ⟨by show _ ≤ rc; omega, by show _ ≤ 1024 * rc; omega⟩) hP hD hS hA [0, 1, 2, 3, 4, 5, 6, 7, 8] [] [0, 1, 2, 3, 4, 5, 6, 7, 8] rfl rfl rfl rfl (by decide) rfl (fun _ => rfl) (fun rr _ H locs hw hP hD hS => ?_)
    have hw := hw.symm
    subst hw
    refine va_put (D := G.1) (ci := 4) (v := .int r15.1) (ty := .int) (C := "BranchStore$Tree") (T := F_Tree) (N := 15) hx hb hts i_Tree t_Tree t_Tree_ok n_Tree hown hK hP hD hS 0 rfl rfl 3 (by decide) (hts _ k_126) (fun _ h9 => h9) rfl (by decide +kernel) rfl rfl (Nat.le_of_ble_eq_true rfl) d_Tree_compact_46 (fun H locs hP hD hS => ?_)
    have hP : va_P G.1 classes (wT G a_t a_c u12 a_fr a_br a_e0 a_e1 a_e2 a_e3 a_lo a_ho c_c c_cl r15.2.1 ((Int32.ofNat c_cl).toNatClampNeg) r15.2.2 r15.1 c_fr c_br c_fi c_st c_vz) H := hP
    have hD : va_D A (wT G a_t a_c u12 a_fr a_br a_e0 a_e1 a_e2 a_e3 a_lo a_ho c_c c_cl r15.2.1 ((Int32.ofNat c_cl).toNatClampNeg) r15.2.2 r15.1 c_fr c_br c_fi c_st c_vz) := hD
    refine lv_aload_n hx hb d_Tree_compact_49 rfl (lv_at hl 2 rfl) ?_
    refine lv_aload_n hx hb d_Tree_compact_50 rfl (lv_at hl 2 rfl) ?_
    refine va_get (D := G.1) (ci := 4) (v := .ref u12) (C := "BranchStore$Tree") (T := F_Tree) (N := 15) hx hb hts i_Tree hown hK hP 0 rfl rfl 1 (by decide) (hts _ k_124) (fun _ h9 => h9) rfl d_Tree_compact_51 ?_
    refine va_put (D := G.1) (ci := 4) (v := .ref u12) (ty := .array .int) (C := "BranchStore$Tree") (T := F_Tree) (N := 15) hx hb hts i_Tree t_Tree t_Tree_ok n_Tree hown hK hP hD hS 0 rfl rfl 0 (by decide) (hts _ k_123) (fun _ h9 => h9) rfl (by decide +kernel) rfl rfl (Nat.le_of_ble_eq_true rfl) d_Tree_compact_54 (fun H locs hP hD hS => ?_)
    refine lv_aload_n hx hb d_Tree_compact_57 rfl (lv_at hl 2 rfl) ?_
    refine lv_aload_n hx hb d_Tree_compact_58 rfl (lv_at hl 1 rfl) ?_
    refine va_put (D := G.1) (ci := 4) (v := .ref a_c) (ty := .array .int) (C := "BranchStore$Tree") (T := F_Tree) (N := 15) hx hb hts i_Tree t_Tree t_Tree_ok n_Tree hown hK hP hD hS 0 rfl rfl 1 (by decide) (hts _ k_124) (fun _ h9 => h9) rfl (by decide +kernel) rfl rfl (Nat.le_of_ble_eq_true rfl) d_Tree_compact_59 (fun H locs hP hD hS => ?_)
    have hP : va_P G.1 classes (wT G a_t u12 a_c a_fr a_br a_e0 a_e1 a_e2 a_e3 a_lo a_ho r15.2.1 ((Int32.ofNat c_cl).toNatClampNeg) c_c c_cl r15.2.2 r15.1 c_fr c_br c_fi c_st c_vz) H := hP.sub [0, 2, 1, 3, 4, 5, 6, 7, 8] rfl
    have hD : va_D A (wT G a_t u12 a_c a_fr a_br a_e0 a_e1 a_e2 a_e3 a_lo a_ho r15.2.1 ((Int32.ofNat c_cl).toNatClampNeg) c_c c_cl r15.2.2 r15.1 c_fr c_br c_fi c_st c_vz) := hD.sub [0, 2, 1, 3, 4, 5, 6, 7, 8] (by decide) rfl
    refine lv_iconst (v := 0) hx hb d_Tree_compact_62 (by decide) ?_
    refine lv_istore_n (lv' := [(3, .int 0), (2, .int 1), (1, .ref a_c), (0, .ref a_t)]) hx hb d_Tree_compact_63 rfl hl (by decide) rfl (fun ls hl => ?_)
    obtain ⟨y18, hy18, h⟩ := ob h
    have E64 : ∀ (z23 : (Nat → Int32)), z23 = y18 → ∀ (H : Heap) (locs : List Loc) (ls : Array Slot), va_P G.1 classes (wT G a_t u12 a_c a_fr a_br a_e0 a_e1 a_e2 a_e3 a_lo a_ho r15.2.1 ((Int32.ofNat c_cl).toNatClampNeg) c_c c_cl r15.2.2 r15.1 z23 c_br c_fi c_st c_vz) H → va_D A (wT G a_t u12 a_c a_fr a_br a_e0 a_e1 a_e2 a_e3 a_lo a_ho r15.2.1 ((Int32.ofNat c_cl).toNatClampNeg) c_c c_cl r15.2.2 r15.1 z23 c_br c_fi c_st c_vz) → va_S A xs.heap H locs → lv_has ls 4 [(0, .ref a_t), (2, .int 1)] → W xp l xe { frames := 64, cells := rc, slots := 1024 * rc, locals := 1779 } xs xm ([.ref a_t] : List Value).toArray xb xme xc H locs (0 + ((Int32.ofNat c_cl).toNatClampNeg / 1024 + 1)) (1024 * (0 + ((Int32.ofNat c_cl).toNatClampNeg / 1024 + 1))) Q (F0 xm 84 ls []) := by
      intro z23 ey H locs ls hP hD hS hl
      subst ey
      try dsimp only at h
      refine lv_aload_n hx hb d_Tree_compact_84 rfl (lv_at hl 0 rfl) ?_
      refine va_get (D := G.1) (ci := 4) (v := .int r15.2.2) (C := "BranchStore$Tree") (T := F_Tree) (N := 15) hx hb hts i_Tree hown hK hP 0 rfl rfl 2 (by decide) (hts _ k_125) (fun _ h9 => h9) rfl d_Tree_compact_85 ?_
      refine lv_iload_n hx hb d_Tree_compact_88 rfl (lv_at hl 1 rfl) ?_
      refine lv_isub hx hb d_Tree_compact_89 ?_
      have ey := Option.some.inj h
      rw [← ey] at hRa hRc
      have hRa : r0 = (r15.2.2 - 1, r15.2.1, (Int32.ofNat c_cl).toNatClampNeg, c_c, c_cl, r15.2.2, r15.1, z23) := hRa
      have hRc : rc = 0 + ((Int32.ofNat c_cl).toNatClampNeg / 1024 + 1) + 0 := hRc
      subst hRa
      exact zreti (u12, a_c) hQ hS.2.2 hx hb hr hlocks hP hD hS rfl (by omega) (by omega) d_Tree_compact_90
    have L64 : ∀ v : (Int32 × (Nat → Int32)), lp (fun v => s_Tree_compact_64 v.1 v.2) v = some y18 → ∀ (H : Heap) (locs : List Loc) (ls : Array Slot), va_P G.1 classes (wT G a_t u12 a_c a_fr a_br a_e0 a_e1 a_e2 a_e3 a_lo a_ho r15.2.1 ((Int32.ofNat c_cl).toNatClampNeg) c_c c_cl r15.2.2 r15.1 v.2 c_br c_fi c_st c_vz) H → va_D A (wT G a_t u12 a_c a_fr a_br a_e0 a_e1 a_e2 a_e3 a_lo a_ho r15.2.1 ((Int32.ofNat c_cl).toNatClampNeg) c_c c_cl r15.2.2 r15.1 v.2 c_br c_fi c_st c_vz) → va_S A xs.heap H locs → lv_has ls 4 [(0, .ref a_t), (2, .int 1), (3, .int v.1)] → W xp l xe { frames := 64, cells := rc, slots := 1024 * rc, locals := 1779 } xs xm ([.ref a_t] : List Value).toArray xb xme xc H locs (0 + ((Int32.ofNat c_cl).toNatClampNeg / 1024 + 1)) (1024 * (0 + ((Int32.ofNat c_cl).toNatClampNeg / 1024 + 1))) Q (F0 xm 64 ls []) := by
      refine lp_walk _ (fun v x h hc he => ?_)
      obtain ⟨x3_16, c17⟩ := v
      intro H locs ls hP hD hS hl
      have h : s_Tree_compact_64 x3_16 c17 = some x := h
      unfold s_Tree_compact_64 at h
      refine lv_iload_n hx hb d_Tree_compact_64 rfl (lv_at hl 2 rfl) ?_
      refine lv_sipush (v := 260) hx hb d_Tree_compact_65 (by decide) ?_
      refine lv_icmp_gt (tgt := 84) hx hb d_Tree_compact_68 (by decide) (fun q19 => ?_) (fun q19 => ?_)
      · have h := it h q19
        exact E64 c17 (he _ (Option.some.inj h).symm) H locs ls hP hD hS (lv_sub hl [0, 1] rfl)
      · have h := ie h q19
        refine lv_aload_n hx hb d_Tree_compact_71 rfl (lv_at hl 0 rfl) ?_
        refine va_get (D := G.1) (ci := 4) (v := .ref a_fr) (C := "BranchStore$Tree") (T := F_Tree) (N := 15) hx hb hts i_Tree hown hK hP 0 rfl rfl 4 (by decide) (hts _ k_127) (fun _ h9 => h9) rfl d_Tree_compact_72 ?_
        refine lv_iload_n hx hb d_Tree_compact_75 rfl (lv_at hl 2 rfl) ?_
        refine lv_iconst (v := 0) hx hb d_Tree_compact_76 (by decide) ?_
        obtain ⟨h20, h⟩ := gi_k h
        refine va_iast hx hb hK hP hD hS 3 0 rfl rfl h20 d_Tree_compact_77 (fun H locs hP hD hS => ?_)
        obtain ⟨c21, ec21⟩ : ∃ y, y = upd c17 x3_16.toNatClampNeg 0 := ⟨_, rfl⟩
        have h := nm_k h c21 ec21
        have hP : va_P G.1 classes (wT G a_t u12 a_c a_fr a_br a_e0 a_e1 a_e2 a_e3 a_lo a_ho r15.2.1 ((Int32.ofNat c_cl).toNatClampNeg) c_c c_cl r15.2.2 r15.1 c21 c_br c_fi c_st c_vz) H := by rw [ec21]; exact hP
        have hD : va_D A (wT G a_t u12 a_c a_fr a_br a_e0 a_e1 a_e2 a_e3 a_lo a_ho r15.2.1 ((Int32.ofNat c_cl).toNatClampNeg) c_c c_cl r15.2.2 r15.1 c21 c_br c_fi c_st c_vz) := by rw [ec21]; exact hD
        obtain ⟨v22, ev22⟩ : ∃ y : Int32, y = x3_16 + 1 := ⟨_, rfl⟩
        have h := nm_k h v22 ev22
        refine lv_iinc (v := v22) (lv' := [(3, .int v22), (0, .ref a_t), (2, .int 1)]) hx hb d_Tree_compact_78 hl (k := 2) rfl (by rw [ev22]; rfl) (by decide) rfl (fun ls hl => ?_)
        refine lv_goto (tgt := 64) hx hb d_Tree_compact_81 (by decide) ?_
        exact hc _ (Option.some.inj h).symm H locs ls hP hD hS (lv_sub hl [1, 2, 0] rfl)
    exact L64 _ hy18 _ _ ls hP hD hS (lv_sub hl [3, 1, 0] rfl)
