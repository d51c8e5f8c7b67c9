noncomputable def s_Model_encode_126 (x5 : Int64) (x3 : Int32) (x7 : Int32) (c_code : (Nat → Int32)) : Option ((Int32 × Int32 × (Nat → Int32)) ⊕ (Int32 × (Nat → Int32))) :=
if x7 < 0 then
(some (.inr (x3, c_code)))
else
(nm (x3 + 1) fun v19 =>
(if x7 = 56 then
(some 128)
else
(some 0)).bind fun y23 =>
gi x3 50 <|
nm (upd c_code x3.toNatClampNeg ((((zlshr x5 x7) &&& 255).toInt32) ^^^ y23)) fun c26 =>
nm (x7 + (-8)) fun v27 =>
some (.inl (v19, v27, c26)))
noncomputable def s_Model_encode_91 (c_sort : Int32) (c_fst : (Nat → Int64)) (c_snd : (Nat → Int64)) (x2 : Int32) (x3 : Int32) (x4 : Int32) (c_code : (Nat → Int32)) : Option ((Int32 × Int32 × (Nat → Int32)) ⊕ (Int32 × (Nat → Int32))) :=
if c_sort < x4 then
(some (.inr (x3, c_code)))
else
((if x4 = 0 then
(gi x2 1503 <|
some (c_fst x2.toNatClampNeg))
else
(gi x2 1503 <|
some (c_snd x2.toNatClampNeg))).bind fun y12 =>
(lp (fun v => s_Model_encode_126 y12 v.1 v.2.1 v.2.2) (x3, 56, c_code)).bind fun y30 =>
nm (x4 + 1) fun v31 =>
some (.inl (y30.1, v31, y30.2)))
noncomputable def s_Model_encode_13 (c_let : (Nat → Int32)) (c_many : (Nat → Int32)) (x2 : Int32) (x3 : Int32) (x4 : Int32) (c_code : (Nat → Int32)) : Option ((Int32 × Int32 × (Nat → Int32)) ⊕ (Int32 × (Nat → Int32))) :=
gi x2 1503 <|
if (c_many x2.toNatClampNeg) ≤ x4 then
(some (.inr (x3, c_code)))
else
(nm (x3 + 1) fun v41 =>
gi ((24 * x2) + x4) 36072 <|
gi x3 50 <|
nm (upd c_code x3.toNatClampNeg (c_let ((24 * x2) + x4).toNatClampNeg)) fun c44 =>
gi ((24 * x2) + x4) 36072 <|
if (c_let ((24 * x2) + x4).toNatClampNeg) = 0 then
(nm (v41 + 1) fun v48 =>
gi v41 50 <|
nm (upd c44 v41.toNatClampNeg 255) fun c50 =>
nm (x4 + 1) fun v51 =>
some (.inl (v48, v51, c50)))
else
(nm (x4 + 1) fun v47 =>
some (.inl (v41, v47, c44))))
noncomputable def f_Model_encode (c_sort : Int32) (c_fst : (Nat → Int64)) (c_snd : (Nat → Int64)) (c_let : (Nat → Int32)) (c_many : (Nat → Int32)) (c_code : (Nat → Int32)) (p_2 : Int32) : Option (Int32 × (Nat → Int32)) :=
if c_sort = 2 then
((lp (fun v => s_Model_encode_13 c_let c_many p_2 v.1 v.2.1 v.2.2) (0, 0, c_code)).bind fun y54 =>
nm (y54.1 + 1) fun v55 =>
gi y54.1 50 <|
nm (upd y54.2 y54.1.toNatClampNeg 0) fun c57 =>
nm (v55 + 1) fun v58 =>
gi v55 50 <|
nm (upd c57 v55.toNatClampNeg 0) fun c60 =>
some (v58, c60))
else
((lp (fun v => s_Model_encode_91 c_sort c_fst c_snd p_2 v.1 v.2.1 v.2.2) (0, 0, c_code)).bind fun y34 =>
some (y34.1, y34.2))
set_option maxHeartbeats 8000000 in
set_option maxRecDepth 100000 in
theorem c_Model_encodeC (l : Launch) (G : zG) (sz : Nat) (a_m a_mfst a_msnd a_mlet a_mmany a_mval a_mord a_mfree a_mcode a_mnext a_mcom a_mmet : Nat) (c_sort : Int32) (c_cnt : Int32) (c_frees : Int32) (c_cur : Int32) (c_thr : Int32) (c_fst : (Nat → Int64)) (c_snd : (Nat → Int64)) (c_let : (Nat → Int32)) (c_many : (Nat → Int32)) (c_val : (Nat → Int64)) (c_ord : (Nat → Int32)) (c_free : (Nat → Int32)) (c_code : (Nat → Int32)) (c_next : (Nat → Int32)) (c_com : (Nat → Int32)) (c_met : (Nat → Int32)) (p_2 : Int32) (r0 : (Int32 × (Nat → Int32))) (hf : f_Model_encode c_sort c_fst c_snd c_let c_many c_code p_2 = some r0) :
    Met l y_Model_encode (Cond.code y_Model_encode prog_9_method_37_code 8 (some .int) :: lw_ok) { frames := 0, cells := 0, slots := 0, locals := 0 } (zPc G sz [.ref a_m, .ref a_mcode, .int p_2] (wM G a_m a_mfst a_msnd a_mlet a_mmany a_mval a_mord a_mfree a_mcode a_mnext a_mcom a_mmet c_sort c_cnt c_frees c_cur c_thr c_fst c_snd c_let c_many c_val c_ord c_free c_code c_next c_com c_met))
      ((fun (A : Nat → Prop) => va_Qi (fun (r : Int32) (_ : Unit) => r = r0.1) (fun _ t => zB G A (wM G a_m a_mfst a_msnd a_mlet a_mmany a_mval a_mord a_mfree a_mcode a_mnext a_mcom a_mmet c_sort c_cnt c_frees c_cur c_thr c_fst c_snd c_let c_many c_val c_ord c_free r0.2 c_next c_com c_met) t) A) (va_A (wM G a_m a_mfst a_msnd a_mlet a_mmany a_mval a_mord a_mfree a_mcode a_mnext a_mcom a_mmet c_sort c_cnt c_frees c_cur c_thr c_fst c_snd c_let c_many c_val c_ord c_free c_code c_next c_com c_met) sz)) 0 0 (va_A (wM G a_m a_mfst a_msnd a_mlet a_mmany a_mval a_mord a_mfree a_mcode a_mnext a_mcom a_mmet c_sort c_cnt c_frees c_cur c_thr c_fst c_snd c_let c_many c_val c_ord c_free c_code c_next c_com c_met) sz) := by
  refine zMet (Qc := fun (A : Nat → Prop) => va_Qi (fun (r : Int32) (_ : Unit) => r = r0.1) (fun _ t => zB G A (wM G a_m a_mfst a_msnd a_mlet a_mmany a_mval a_mord a_mfree a_mcode a_mnext a_mcom a_mmet c_sort c_cnt c_frees c_cur c_thr c_fst c_snd c_let c_many c_val c_ord c_free r0.2 c_next c_com c_met) t) A) (by decide) (Nat.le_of_ble_eq_true rfl) (fun xp xe xs xm xb xme xc A ls Q H locs C hN hK hP hD hS hA hl hQ => ?_)
  obtain ⟨hx, hb, hr, hts, hown, hlocks, hml, hin⟩ := C
  have hl : lv_has ls 8 [(0, .ref a_m), (1, .ref a_mcode), (2, .int p_2)] := hl
  have h := hf
  unfold f_Model_encode at h
  refine lv_iconst (v := 0) hx hb d_Model_encode_0 (by decide) ?_
  refine lv_istore_n (lv' := [(3, .int 0), (0, .ref a_m), (1, .ref a_mcode), (2, .int p_2)]) hx hb d_Model_encode_1 rfl hl (by decide) rfl (fun ls hl => ?_)
  refine lv_aload_n hx hb d_Model_encode_2 rfl (lv_at hl 1 rfl) ?_
  refine va_get (D := G.1) (ci := 6) (v := .int c_sort) (C := "BranchStoreModel") (T := F_Model) (N := 16) hx hb hts i_Model hown hK hP 0 rfl rfl 0 (by decide) (hts _ k_770) (fun _ h9 => h9) rfl d_Model_encode_3 ?_
  refine lv_iconst (v := 2) hx hb d_Model_encode_6 (by decide) ?_
  refine lv_icmp_ne (tgt := 88) hx hb d_Model_encode_7 (by decide) (fun q1 => ?_) (fun q1 => ?_)
  · have h := ie h q1
    refine lv_iconst (v := 0) hx hb d_Model_encode_88 (by decide) ?_
    refine lv_istore (lv' := [(4, .int 0), (3, .int 0), (0, .ref a_m), (1, .ref a_mcode), (2, .int p_2)]) hx hb d_Model_encode_89 hl (by decide) rfl (fun ls hl => ?_)
    obtain ⟨y5, hy5, h⟩ := ob h
    have E91 : ∀ (z32 : Int32) (z33 : (Nat → Int32)), (z32, z33) = y5 → ∀ (H : Heap) (locs : List Loc) (ls : Array Slot), va_P G.1 classes (wM G a_m a_mfst a_msnd a_mlet a_mmany a_mval a_mord a_mfree a_mcode a_mnext a_mcom a_mmet c_sort c_cnt c_frees c_cur c_thr c_fst c_snd c_let c_many c_val c_ord c_free z33 c_next c_com c_met) H → va_D A (wM G a_m a_mfst a_msnd a_mlet a_mmany a_mval a_mord a_mfree a_mcode a_mnext a_mcom a_mmet c_sort c_cnt c_frees c_cur c_thr c_fst c_snd c_let c_many c_val c_ord c_free z33 c_next c_com c_met) → va_S A xs.heap H locs → lv_has ls 8 [(3, .int z32)] → W xp l xe { frames := 0, cells := 0, slots := 0, locals := 0 } xs xm ([.ref a_m, .ref a_mcode, .int p_2] : List Value).toArray xb xme xc H locs 0 0 Q (F0 xm 174 ls []) := by
      intro z32 z33 ey H locs ls hP hD hS hl
      subst ey
      try dsimp only at h
      refine lv_iload_n hx hb d_Model_encode_174 rfl (lv_at hl 0 rfl) ?_
      obtain rfl := Option.some.inj h
      exact zreti () hQ hS.2.2 hx hb hr hlocks hP hD hS rfl (Nat.le_refl _) (Nat.le_refl _) d_Model_encode_175
    have L91 : ∀ v : (Int32 × Int32 × (Nat → Int32)), lp (fun v => s_Model_encode_91 c_sort c_fst c_snd p_2 v.1 v.2.1 v.2.2) v = some y5 → ∀ (H : Heap) (locs : List Loc) (ls : Array Slot), va_P G.1 classes (wM G a_m a_mfst a_msnd a_mlet a_mmany a_mval a_mord a_mfree a_mcode a_mnext a_mcom a_mmet c_sort c_cnt c_frees c_cur c_thr c_fst c_snd c_let c_many c_val c_ord c_free v.2.2 c_next c_com c_met) H → va_D A (wM G a_m a_mfst a_msnd a_mlet a_mmany a_mval a_mord a_mfree a_mcode a_mnext a_mcom a_mmet c_sort c_cnt c_frees c_cur c_thr c_fst c_snd c_let c_many c_val c_ord c_free v.2.2 c_next c_com c_met) → va_S A xs.heap H locs → lv_has ls 8 [(0, .ref a_m), (1, .ref a_mcode), (2, .int p_2), (3, .int v.1), (4, .int v.2.1)] → W xp l xe { frames := 0, cells := 0, slots := 0, locals := 0 } xs xm ([.ref a_m, .ref a_mcode, .int p_2] : List Value).toArray xb xme xc H locs 0 0 Q (F0 xm 91 ls []) := by
      refine lp_walk _ (fun v x h hc he => ?_)
      obtain ⟨x3_2, x4_3, c4⟩ := v
      intro H locs ls hP hD hS hl
      have h : s_Model_encode_91 c_sort c_fst c_snd p_2 x3_2 x4_3 c4 = some x := h
      unfold s_Model_encode_91 at h
      refine lv_iload hx hb d_Model_encode_91 (lv_at hl 4 rfl) ?_
      refine lv_aload_n hx hb d_Model_encode_93 rfl (lv_at hl 0 rfl) ?_
      refine va_get (D := G.1) (ci := 6) (v := .int c_sort) (C := "BranchStoreModel") (T := F_Model) (N := 16) hx hb hts i_Model hown hK hP 0 rfl rfl 0 (by decide) (hts _ k_770) (fun _ h9 => h9) rfl d_Model_encode_94 ?_
      refine lv_icmp_gt (tgt := 174) hx hb d_Model_encode_97 (by decide) (fun q6 => ?_) (fun q6 => ?_)
      · have h := it h q6
        exact E91 x3_2 c4 (he _ (Option.some.inj h).symm) H locs ls hP hD hS (lv_sub hl [3] rfl)
      · have h := ie h q6
        refine lv_iload hx hb d_Model_encode_100 (lv_at hl 4 rfl) ?_
        obtain ⟨y11, hy11, h⟩ := ob h
        have J120 : ∀ (z13 : Int64), z13 = y11 → ∀ (H : Heap) (locs : List Loc) (ls : Array Slot), va_P G.1 classes (wM G a_m a_mfst a_msnd a_mlet a_mmany a_mval a_mord a_mfree a_mcode a_mnext a_mcom a_mmet c_sort c_cnt c_frees c_cur c_thr c_fst c_snd c_let c_many c_val c_ord c_free c4 c_next c_com c_met) H → va_D A (wM G a_m a_mfst a_msnd a_mlet a_mmany a_mval a_mord a_mfree a_mcode a_mnext a_mcom a_mmet c_sort c_cnt c_frees c_cur c_thr c_fst c_snd c_let c_many c_val c_ord c_free c4 c_next c_com c_met) → va_S A xs.heap H locs → lv_has ls 8 [(0, .ref a_m), (1, .ref a_mcode), (2, .int p_2), (3, .int x3_2), (4, .int x4_3)] → W xp l xe { frames := 0, cells := 0, slots := 0, locals := 0 } xs xm ([.ref a_m, .ref a_mcode, .int p_2] : List Value).toArray xb xme xc H locs 0 0 Q (F0 xm 120 ls [.long z13]) := by
          intro z13 ey H locs ls hP hD hS hl
          subst ey
          try dsimp only at h
          refine lv_lstore (lv' := [(5, .long z13), (0, .ref a_m), (1, .ref a_mcode), (2, .int p_2), (3, .int x3_2), (4, .int x4_3)]) hx hb d_Model_encode_120 hl (by decide) rfl (fun ls hl => ?_)
          refine lv_bipush (v := 56) hx hb d_Model_encode_122 (by decide) ?_
          refine lv_istore (lv' := [(7, .int 56), (5, .long z13), (0, .ref a_m), (1, .ref a_mcode), (2, .int p_2), (3, .int x3_2), (4, .int x4_3)]) hx hb d_Model_encode_124 hl (by decide) rfl (fun ls hl => ?_)
          obtain ⟨y17, hy17, h⟩ := ob h
          have E126 : ∀ (z28 : Int32) (z29 : (Nat → Int32)), (z28, z29) = y17 → ∀ (H : Heap) (locs : List Loc) (ls : Array Slot), va_P G.1 classes (wM G a_m a_mfst a_msnd a_mlet a_mmany a_mval a_mord a_mfree a_mcode a_mnext a_mcom a_mmet c_sort c_cnt c_frees c_cur c_thr c_fst c_snd c_let c_many c_val c_ord c_free z29 c_next c_com c_met) H → va_D A (wM G a_m a_mfst a_msnd a_mlet a_mmany a_mval a_mord a_mfree a_mcode a_mnext a_mcom a_mmet c_sort c_cnt c_frees c_cur c_thr c_fst c_snd c_let c_many c_val c_ord c_free z29 c_next c_com c_met) → va_S A xs.heap H locs → lv_has ls 8 [(0, .ref a_m), (1, .ref a_mcode), (2, .int p_2), (3, .int z28), (4, .int x4_3)] → W xp l xe { frames := 0, cells := 0, slots := 0, locals := 0 } xs xm ([.ref a_m, .ref a_mcode, .int p_2] : List Value).toArray xb xme xc H locs 0 0 Q (F0 xm 168 ls []) := by
            intro z28 z29 ey H locs ls hP hD hS hl
            subst ey
            try dsimp only at h
            obtain ⟨v31, ev31⟩ : ∃ y : Int32, y = x4_3 + 1 := ⟨_, rfl⟩
            have h := nm_k h v31 ev31
            refine lv_iinc (v := v31) (lv' := [(4, .int v31), (0, .ref a_m), (1, .ref a_mcode), (2, .int p_2), (3, .int z28)]) hx hb d_Model_encode_168 hl (k := 4) rfl (by rw [ev31]; rfl) (by decide) rfl (fun ls hl => ?_)
            refine lv_goto (tgt := 91) hx hb d_Model_encode_171 (by decide) ?_
            exact hc _ (Option.some.inj h).symm H locs ls hP hD hS (lv_sub hl [1, 2, 3, 4, 0] rfl)
          have L126 : ∀ v : (Int32 × Int32 × (Nat → Int32)), lp (fun v => s_Model_encode_126 z13 v.1 v.2.1 v.2.2) v = some y17 → ∀ (H : Heap) (locs : List Loc) (ls : Array Slot), va_P G.1 classes (wM G a_m a_mfst a_msnd a_mlet a_mmany a_mval a_mord a_mfree a_mcode a_mnext a_mcom a_mmet c_sort c_cnt c_frees c_cur c_thr c_fst c_snd c_let c_many c_val c_ord c_free v.2.2 c_next c_com c_met) H → va_D A (wM G a_m a_mfst a_msnd a_mlet a_mmany a_mval a_mord a_mfree a_mcode a_mnext a_mcom a_mmet c_sort c_cnt c_frees c_cur c_thr c_fst c_snd c_let c_many c_val c_ord c_free v.2.2 c_next c_com c_met) → va_S A xs.heap H locs → lv_has ls 8 [(0, .ref a_m), (1, .ref a_mcode), (2, .int p_2), (3, .int v.1), (4, .int x4_3), (5, .long z13), (7, .int v.2.1)] → W xp l xe { frames := 0, cells := 0, slots := 0, locals := 0 } xs xm ([.ref a_m, .ref a_mcode, .int p_2] : List Value).toArray xb xme xc H locs 0 0 Q (F0 xm 126 ls []) := by
            refine lp_walk _ (fun v x h hc he => ?_)
            obtain ⟨x3_14, x7_15, c16⟩ := v
            intro H locs ls hP hD hS hl
            have h : s_Model_encode_126 z13 x3_14 x7_15 c16 = some x := h
            unfold s_Model_encode_126 at h
            refine lv_iload hx hb d_Model_encode_126 (lv_at hl 6 rfl) ?_
            refine lv_if_lt (tgt := 168) hx hb d_Model_encode_128 (by decide) (fun q18 => ?_) (fun q18 => ?_)
            · have h := it h q18
              exact E126 x3_14 c16 (he _ (Option.some.inj h).symm) H locs ls hP hD hS (lv_sub hl [0, 1, 2, 3, 4] rfl)
            · have h := ie h q18
              refine lv_aload_n hx hb d_Model_encode_131 rfl (lv_at hl 1 rfl) ?_
              refine lv_iload_n hx hb d_Model_encode_132 rfl (lv_at hl 3 rfl) ?_
              obtain ⟨v19, ev19⟩ : ∃ y : Int32, y = x3_14 + 1 := ⟨_, rfl⟩
              have h := nm_k h v19 ev19
              refine lv_iinc (v := v19) (lv' := [(3, .int v19), (0, .ref a_m), (1, .ref a_mcode), (2, .int p_2), (4, .int x4_3), (5, .long z13), (7, .int x7_15)]) hx hb d_Model_encode_133 hl (k := 3) rfl (by rw [ev19]; rfl) (by decide) rfl (fun ls hl => ?_)
              refine lv_lload hx hb d_Model_encode_136 (lv_at hl 5 rfl) ?_
              refine lv_iload hx hb d_Model_encode_138 (lv_at hl 6 rfl) ?_
              refine lv_lshr (v := zlshr z13 x7_15) hx hb d_Model_encode_140 rfl ?_
              refine lv_ldc2 (v := 255) hx hb hown (hts _ k_975) d_Model_encode_141 ?_
              refine lv_land hx hb d_Model_encode_144 ?_
              refine lv_l2i (v := ((zlshr z13 x7_15) &&& 255).toInt32) hx hb d_Model_encode_145 rfl ?_
              refine lv_iload hx hb d_Model_encode_146 (lv_at hl 6 rfl) ?_
              refine lv_bipush (v := 56) hx hb d_Model_encode_148 (by decide) ?_
              obtain ⟨y22, hy22, h⟩ := ob h
              have J160 : ∀ (z24 : Int32), z24 = y22 → ∀ (H : Heap) (locs : List Loc) (ls : Array Slot), va_P G.1 classes (wM G a_m a_mfst a_msnd a_mlet a_mmany a_mval a_mord a_mfree a_mcode a_mnext a_mcom a_mmet c_sort c_cnt c_frees c_cur c_thr c_fst c_snd c_let c_many c_val c_ord c_free c16 c_next c_com c_met) H → va_D A (wM G a_m a_mfst a_msnd a_mlet a_mmany a_mval a_mord a_mfree a_mcode a_mnext a_mcom a_mmet c_sort c_cnt c_frees c_cur c_thr c_fst c_snd c_let c_many c_val c_ord c_free c16 c_next c_com c_met) → va_S A xs.heap H locs → lv_has ls 8 [(0, .ref a_m), (1, .ref a_mcode), (2, .int p_2), (3, .int v19), (4, .int x4_3), (5, .long z13), (7, .int x7_15)] → W xp l xe { frames := 0, cells := 0, slots := 0, locals := 0 } xs xm ([.ref a_m, .ref a_mcode, .int p_2] : List Value).toArray xb xme xc H locs 0 0 Q (F0 xm 160 ls [.int z24, .int (((zlshr z13 x7_15) &&& 255).toInt32), .int x3_14, .ref a_mcode]) := by
                intro z24 ey H locs ls hP hD hS hl
                subst ey
                try dsimp only at h
                refine lv_ixor hx hb d_Model_encode_160 ?_
                obtain ⟨h25, h⟩ := gi_k h
                refine va_iast hx hb hK hP hD hS 8 0 rfl rfl h25 d_Model_encode_161 (fun H locs hP hD hS => ?_)
                obtain ⟨c26, ec26⟩ : ∃ y, y = upd c16 x3_14.toNatClampNeg ((((zlshr z13 x7_15) &&& 255).toInt32) ^^^ z24) := ⟨_, rfl⟩
                have h := nm_k h c26 ec26
                have hP : va_P G.1 classes (wM G a_m a_mfst a_msnd a_mlet a_mmany a_mval a_mord a_mfree a_mcode a_mnext a_mcom a_mmet c_sort c_cnt c_frees c_cur c_thr c_fst c_snd c_let c_many c_val c_ord c_free c26 c_next c_com c_met) H := by rw [ec26]; exact hP
                have hD : va_D A (wM G a_m a_mfst a_msnd a_mlet a_mmany a_mval a_mord a_mfree a_mcode a_mnext a_mcom a_mmet c_sort c_cnt c_frees c_cur c_thr c_fst c_snd c_let c_many c_val c_ord c_free c26 c_next c_com c_met) := by rw [ec26]; exact hD
                obtain ⟨v27, ev27⟩ : ∃ y : Int32, y = x7_15 + (-8) := ⟨_, rfl⟩
                have h := nm_k h v27 ev27
                refine lv_iinc (v := v27) (lv' := [(7, .int v27), (0, .ref a_m), (1, .ref a_mcode), (2, .int p_2), (3, .int v19), (4, .int x4_3), (5, .long z13)]) hx hb d_Model_encode_162 hl (k := 6) rfl (by rw [ev27]; rfl) (by decide) rfl (fun ls hl => ?_)
                refine lv_goto (tgt := 126) hx hb d_Model_encode_165 (by decide) ?_
                exact hc _ (Option.some.inj h).symm H locs ls hP hD hS (lv_sub hl [1, 2, 3, 4, 5, 6, 0] rfl)
              have h := hy22
              refine lv_icmp_ne (tgt := 159) hx hb d_Model_encode_150 (by decide) (fun q21 => ?_) (fun q21 => ?_)
              · have h := ie h q21
                refine lv_iconst (v := 0) hx hb d_Model_encode_159 (by decide) ?_
                exact J160 0 (Option.some.inj h) H locs ls hP hD hS (lv_sub hl [1, 2, 3, 0, 4, 5, 6] rfl)
              · have h := it h q21
                refine lv_sipush (v := 128) hx hb d_Model_encode_153 (by decide) ?_
                refine lv_goto (tgt := 160) hx hb d_Model_encode_156 (by decide) ?_
                exact J160 128 (Option.some.inj h) H locs ls hP hD hS (lv_sub hl [1, 2, 3, 0, 4, 5, 6] rfl)
          exact L126 _ hy17 _ _ ls hP hD hS (lv_sub hl [2, 3, 4, 5, 6, 1, 0] rfl)
        have h := hy11
        refine lv_if_ne (tgt := 114) hx hb d_Model_encode_102 (by decide) (fun q8 => ?_) (fun q8 => ?_)
        · have h := ie h q8
          refine lv_aload_n hx hb d_Model_encode_114 rfl (lv_at hl 0 rfl) ?_
          refine va_get (D := G.1) (ci := 6) (v := .ref a_msnd) (C := "BranchStoreModel") (T := F_Model) (N := 16) hx hb hts i_Model hown hK hP 0 rfl rfl 2 (by decide) (hts _ k_772) (fun _ h9 => h9) rfl d_Model_encode_115 ?_
          refine lv_iload_n hx hb d_Model_encode_118 rfl (lv_at hl 2 rfl) ?_
          obtain ⟨h9, h⟩ := gi_k h
          refine va_lald hx hb hK hP 2 2 rfl rfl h9 d_Model_encode_119 ?_
          exact J120 (c_snd p_2.toNatClampNeg) (Option.some.inj h) H locs ls hP hD hS (lv_sub hl [0, 1, 2, 3, 4] rfl)
        · have h := it h q8
          refine lv_aload_n hx hb d_Model_encode_105 rfl (lv_at hl 0 rfl) ?_
          refine va_get (D := G.1) (ci := 6) (v := .ref a_mfst) (C := "BranchStoreModel") (T := F_Model) (N := 16) hx hb hts i_Model hown hK hP 0 rfl rfl 1 (by decide) (hts _ k_771) (fun _ h9 => h9) rfl d_Model_encode_106 ?_
          refine lv_iload_n hx hb d_Model_encode_109 rfl (lv_at hl 2 rfl) ?_
          obtain ⟨h10, h⟩ := gi_k h
          refine va_lald hx hb hK hP 1 2 rfl rfl h10 d_Model_encode_110 ?_
          refine lv_goto (tgt := 120) hx hb d_Model_encode_111 (by decide) ?_
          exact J120 (c_fst p_2.toNatClampNeg) (Option.some.inj h) H locs ls hP hD hS (lv_sub hl [0, 1, 2, 3, 4] rfl)
    exact L91 _ hy5 _ _ ls hP hD hS (lv_sub hl [2, 3, 4, 1, 0] rfl)
  · have h := it h q1
    refine lv_iconst (v := 0) hx hb d_Model_encode_10 (by decide) ?_
    refine lv_istore (lv' := [(4, .int 0), (3, .int 0), (0, .ref a_m), (1, .ref a_mcode), (2, .int p_2)]) hx hb d_Model_encode_11 hl (by decide) rfl (fun ls hl => ?_)
    obtain ⟨y38, hy38, h⟩ := ob h
    have E13 : ∀ (z52 : Int32) (z53 : (Nat → Int32)), (z52, z53) = y38 → ∀ (H : Heap) (locs : List Loc) (ls : Array Slot), va_P G.1 classes (wM G a_m a_mfst a_msnd a_mlet a_mmany a_mval a_mord a_mfree a_mcode a_mnext a_mcom a_mmet c_sort c_cnt c_frees c_cur c_thr c_fst c_snd c_let c_many c_val c_ord c_free z53 c_next c_com c_met) H → va_D A (wM G a_m a_mfst a_msnd a_mlet a_mmany a_mval a_mord a_mfree a_mcode a_mnext a_mcom a_mmet c_sort c_cnt c_frees c_cur c_thr c_fst c_snd c_let c_many c_val c_ord c_free z53 c_next c_com c_met) → va_S A xs.heap H locs → lv_has ls 8 [(1, .ref a_mcode), (3, .int z52)] → W xp l xe { frames := 0, cells := 0, slots := 0, locals := 0 } xs xm ([.ref a_m, .ref a_mcode, .int p_2] : List Value).toArray xb xme xc H locs 0 0 Q (F0 xm 72 ls []) := by
      intro z52 z53 ey H locs ls hP hD hS hl
      subst ey
      try dsimp only at h
      refine lv_aload_n hx hb d_Model_encode_72 rfl (lv_at hl 0 rfl) ?_
      refine lv_iload_n hx hb d_Model_encode_73 rfl (lv_at hl 1 rfl) ?_
      obtain ⟨v55, ev55⟩ : ∃ y : Int32, y = z52 + 1 := ⟨_, rfl⟩
      have h := nm_k h v55 ev55
      refine lv_iinc (v := v55) (lv' := [(3, .int v55), (1, .ref a_mcode)]) hx hb d_Model_encode_74 hl (k := 1) rfl (by rw [ev55]; rfl) (by decide) rfl (fun ls hl => ?_)
      refine lv_iconst (v := 0) hx hb d_Model_encode_77 (by decide) ?_
      obtain ⟨h56, h⟩ := gi_k h
      refine va_iast hx hb hK hP hD hS 8 0 rfl rfl h56 d_Model_encode_78 (fun H locs hP hD hS => ?_)
      obtain ⟨c57, ec57⟩ : ∃ y, y = upd z53 z52.toNatClampNeg 0 := ⟨_, rfl⟩
      have h := nm_k h c57 ec57
      have hP : va_P G.1 classes (wM G a_m a_mfst a_msnd a_mlet a_mmany a_mval a_mord a_mfree a_mcode a_mnext a_mcom a_mmet c_sort c_cnt c_frees c_cur c_thr c_fst c_snd c_let c_many c_val c_ord c_free c57 c_next c_com c_met) H := by rw [ec57]; exact hP
      have hD : va_D A (wM G a_m a_mfst a_msnd a_mlet a_mmany a_mval a_mord a_mfree a_mcode a_mnext a_mcom a_mmet c_sort c_cnt c_frees c_cur c_thr c_fst c_snd c_let c_many c_val c_ord c_free c57 c_next c_com c_met) := by rw [ec57]; exact hD
      refine lv_aload_n hx hb d_Model_encode_79 rfl (lv_at hl 1 rfl) ?_
      refine lv_iload_n hx hb d_Model_encode_80 rfl (lv_at hl 0 rfl) ?_
      obtain ⟨v58, ev58⟩ : ∃ y : Int32, y = v55 + 1 := ⟨_, rfl⟩
      have h := nm_k h v58 ev58
      refine lv_iinc (v := v58) (lv' := [(3, .int v58), (1, .ref a_mcode)]) hx hb d_Model_encode_81 hl (k := 0) rfl (by rw [ev58]; rfl) (by decide) rfl (fun ls hl => ?_)
      refine lv_iconst (v := 0) hx hb d_Model_encode_84 (by decide) ?_
      obtain ⟨h59, h⟩ := gi_k h
      refine va_iast hx hb hK hP hD hS 8 0 rfl rfl h59 d_Model_encode_85 (fun H locs hP hD hS => ?_)
      obtain ⟨c60, ec60⟩ : ∃ y, y = upd c57 v55.toNatClampNeg 0 := ⟨_, rfl⟩
      have h := nm_k h c60 ec60
      have hP : va_P G.1 classes (wM G a_m a_mfst a_msnd a_mlet a_mmany a_mval a_mord a_mfree a_mcode a_mnext a_mcom a_mmet c_sort c_cnt c_frees c_cur c_thr c_fst c_snd c_let c_many c_val c_ord c_free c60 c_next c_com c_met) H := by rw [ec60]; exact hP
      have hD : va_D A (wM G a_m a_mfst a_msnd a_mlet a_mmany a_mval a_mord a_mfree a_mcode a_mnext a_mcom a_mmet c_sort c_cnt c_frees c_cur c_thr c_fst c_snd c_let c_many c_val c_ord c_free c60 c_next c_com c_met) := by rw [ec60]; exact hD
      refine lv_iload_n hx hb d_Model_encode_86 rfl (lv_at hl 0 rfl) ?_
      obtain rfl := Option.some.inj h
      exact zreti () hQ hS.2.2 hx hb hr hlocks hP hD hS rfl (Nat.le_refl _) (Nat.le_refl _) d_Model_encode_87
    have L13 : ∀ v : (Int32 × Int32 × (Nat → Int32)), lp (fun v => s_Model_encode_13 c_let c_many p_2 v.1 v.2.1 v.2.2) v = some y38 → ∀ (H : Heap) (locs : List Loc) (ls : Array Slot), va_P G.1 classes (wM G a_m a_mfst a_msnd a_mlet a_mmany a_mval a_mord a_mfree a_mcode a_mnext a_mcom a_mmet c_sort c_cnt c_frees c_cur c_thr c_fst c_snd c_let c_many c_val c_ord c_free v.2.2 c_next c_com c_met) H → va_D A (wM G a_m a_mfst a_msnd a_mlet a_mmany a_mval a_mord a_mfree a_mcode a_mnext a_mcom a_mmet c_sort c_cnt c_frees c_cur c_thr c_fst c_snd c_let c_many c_val c_ord c_free v.2.2 c_next c_com c_met) → va_S A xs.heap H locs → lv_has ls 8 [(0, .ref a_m), (1, .ref a_mcode), (2, .int p_2), (3, .int v.1), (4, .int v.2.1)] → W xp l xe { frames := 0, cells := 0, slots := 0, locals := 0 } xs xm ([.ref a_m, .ref a_mcode, .int p_2] : List Value).toArray xb xme xc H locs 0 0 Q (F0 xm 13 ls []) := by
      refine lp_walk _ (fun v x h hc he => ?_)
      obtain ⟨x3_35, x4_36, c37⟩ := v
      intro H locs ls hP hD hS hl
      have h : s_Model_encode_13 c_let c_many p_2 x3_35 x4_36 c37 = some x := h
      unfold s_Model_encode_13 at h
      refine lv_iload hx hb d_Model_encode_13 (lv_at hl 4 rfl) ?_
      refine lv_aload_n hx hb d_Model_encode_15 rfl (lv_at hl 0 rfl) ?_
      refine va_get (D := G.1) (ci := 6) (v := .ref a_mmany) (C := "BranchStoreModel") (T := F_Model) (N := 16) hx hb hts i_Model hown hK hP 0 rfl rfl 4 (by decide) (hts _ k_774) (fun _ h9 => h9) rfl d_Model_encode_16 ?_
      refine lv_iload_n hx hb d_Model_encode_19 rfl (lv_at hl 2 rfl) ?_
      obtain ⟨h39, h⟩ := gi_k h
      refine va_iald hx hb hK hP 4 0 rfl rfl h39 d_Model_encode_20 ?_
      refine lv_icmp_ge (tgt := 72) hx hb d_Model_encode_21 (by decide) (fun q40 => ?_) (fun q40 => ?_)
      · have h := it h q40
        exact E13 x3_35 c37 (he _ (Option.some.inj h).symm) H locs ls hP hD hS (lv_sub hl [1, 3] rfl)
      · have h := ie h q40
        refine lv_aload_n hx hb d_Model_encode_24 rfl (lv_at hl 1 rfl) ?_
        refine lv_iload_n hx hb d_Model_encode_25 rfl (lv_at hl 3 rfl) ?_
        obtain ⟨v41, ev41⟩ : ∃ y : Int32, y = x3_35 + 1 := ⟨_, rfl⟩
        have h := nm_k h v41 ev41
        refine lv_iinc (v := v41) (lv' := [(3, .int v41), (0, .ref a_m), (1, .ref a_mcode), (2, .int p_2), (4, .int x4_36)]) hx hb d_Model_encode_26 hl (k := 3) rfl (by rw [ev41]; rfl) (by decide) rfl (fun ls hl => ?_)
        refine lv_aload_n hx hb d_Model_encode_29 rfl (lv_at hl 1 rfl) ?_
        refine va_get (D := G.1) (ci := 6) (v := .ref a_mlet) (C := "BranchStoreModel") (T := F_Model) (N := 16) hx hb hts i_Model hown hK hP 0 rfl rfl 3 (by decide) (hts _ k_773) (fun _ h9 => h9) rfl d_Model_encode_30 ?_
        refine lv_bipush (v := 24) hx hb d_Model_encode_33 (by decide) ?_
        refine lv_iload_n hx hb d_Model_encode_35 rfl (lv_at hl 3 rfl) ?_
        refine lv_imul hx hb d_Model_encode_36 ?_
        refine lv_iload hx hb d_Model_encode_37 (lv_at hl 4 rfl) ?_
        refine lv_iadd hx hb d_Model_encode_39 ?_
        obtain ⟨h42, h⟩ := gi_k h
        refine va_iald hx hb hK hP 3 0 rfl rfl h42 d_Model_encode_40 ?_
        obtain ⟨h43, h⟩ := gi_k h
        refine va_iast hx hb hK hP hD hS 8 0 rfl rfl h43 d_Model_encode_41 (fun H locs hP hD hS => ?_)
        obtain ⟨c44, ec44⟩ : ∃ y, y = upd c37 x3_35.toNatClampNeg (c_let ((24 * p_2) + x4_36).toNatClampNeg) := ⟨_, rfl⟩
        have h := nm_k h c44 ec44
        have hP : va_P G.1 classes (wM G a_m a_mfst a_msnd a_mlet a_mmany a_mval a_mord a_mfree a_mcode a_mnext a_mcom a_mmet c_sort c_cnt c_frees c_cur c_thr c_fst c_snd c_let c_many c_val c_ord c_free c44 c_next c_com c_met) H := by rw [ec44]; exact hP
        have hD : va_D A (wM G a_m a_mfst a_msnd a_mlet a_mmany a_mval a_mord a_mfree a_mcode a_mnext a_mcom a_mmet c_sort c_cnt c_frees c_cur c_thr c_fst c_snd c_let c_many c_val c_ord c_free c44 c_next c_com c_met) := by rw [ec44]; exact hD
        refine lv_aload_n hx hb d_Model_encode_42 rfl (lv_at hl 1 rfl) ?_
        refine va_get (D := G.1) (ci := 6) (v := .ref a_mlet) (C := "BranchStoreModel") (T := F_Model) (N := 16) hx hb hts i_Model hown hK hP 0 rfl rfl 3 (by decide) (hts _ k_773) (fun _ h9 => h9) rfl d_Model_encode_43 ?_
        refine lv_bipush (v := 24) hx hb d_Model_encode_46 (by decide) ?_
        refine lv_iload_n hx hb d_Model_encode_48 rfl (lv_at hl 3 rfl) ?_
        refine lv_imul hx hb d_Model_encode_49 ?_
        refine lv_iload hx hb d_Model_encode_50 (lv_at hl 4 rfl) ?_
        refine lv_iadd hx hb d_Model_encode_52 ?_
        obtain ⟨h45, h⟩ := gi_k h
        refine va_iald hx hb hK hP 3 0 rfl rfl h45 d_Model_encode_53 ?_
        refine lv_if_ne (tgt := 66) hx hb d_Model_encode_54 (by decide) (fun q46 => ?_) (fun q46 => ?_)
        · have h := ie h q46
          obtain ⟨v47, ev47⟩ : ∃ y : Int32, y = x4_36 + 1 := ⟨_, rfl⟩
          have h := nm_k h v47 ev47
          refine lv_iinc (v := v47) (lv' := [(4, .int v47), (3, .int v41), (0, .ref a_m), (1, .ref a_mcode), (2, .int p_2)]) hx hb d_Model_encode_66 hl (k := 4) rfl (by rw [ev47]; rfl) (by decide) rfl (fun ls hl => ?_)
          refine lv_goto (tgt := 13) hx hb d_Model_encode_69 (by decide) ?_
          exact hc _ (Option.some.inj h).symm H locs ls hP hD hS (lv_sub hl [2, 3, 4, 1, 0] rfl)
        · have h := it h q46
          refine lv_aload_n hx hb d_Model_encode_57 rfl (lv_at hl 2 rfl) ?_
          refine lv_iload_n hx hb d_Model_encode_58 rfl (lv_at hl 0 rfl) ?_
          obtain ⟨v48, ev48⟩ : ∃ y : Int32, y = v41 + 1 := ⟨_, rfl⟩
          have h := nm_k h v48 ev48
          refine lv_iinc (v := v48) (lv' := [(3, .int v48), (0, .ref a_m), (1, .ref a_mcode), (2, .int p_2), (4, .int x4_36)]) hx hb d_Model_encode_59 hl (k := 0) rfl (by rw [ev48]; rfl) (by decide) rfl (fun ls hl => ?_)
          refine lv_sipush (v := 255) hx hb d_Model_encode_62 (by decide) ?_
          obtain ⟨h49, h⟩ := gi_k h
          refine va_iast hx hb hK hP hD hS 8 0 rfl rfl h49 d_Model_encode_65 (fun H locs hP hD hS => ?_)
          obtain ⟨c50, ec50⟩ : ∃ y, y = upd c44 v41.toNatClampNeg 255 := ⟨_, rfl⟩
          have h := nm_k h c50 ec50
          have hP : va_P G.1 classes (wM G a_m a_mfst a_msnd a_mlet a_mmany a_mval a_mord a_mfree a_mcode a_mnext a_mcom a_mmet c_sort c_cnt c_frees c_cur c_thr c_fst c_snd c_let c_many c_val c_ord c_free c50 c_next c_com c_met) H := by rw [ec50]; exact hP
          have hD : va_D A (wM G a_m a_mfst a_msnd a_mlet a_mmany a_mval a_mord a_mfree a_mcode a_mnext a_mcom a_mmet c_sort c_cnt c_frees c_cur c_thr c_fst c_snd c_let c_many c_val c_ord c_free c50 c_next c_com c_met) := by rw [ec50]; exact hD
          obtain ⟨v51, ev51⟩ : ∃ y : Int32, y = x4_36 + 1 := ⟨_, rfl⟩
          have h := nm_k h v51 ev51
          refine lv_iinc (v := v51) (lv' := [(4, .int v51), (3, .int v48), (0, .ref a_m), (1, .ref a_mcode), (2, .int p_2)]) hx hb d_Model_encode_66 hl (k := 4) rfl (by rw [ev51]; rfl) (by decide) rfl (fun ls hl => ?_)
          refine lv_goto (tgt := 13) hx hb d_Model_encode_69 (by decide) ?_
          exact hc _ (Option.some.inj h).symm H locs ls hP hD hS (lv_sub hl [2, 3, 4, 1, 0] rfl)
    exact L13 _ hy38 _ _ ls hP hD hS (lv_sub hl [2, 3, 4, 1, 0] rfl)

set_option maxHeartbeats 8000000 in
set_option maxRecDepth 100000 in
theorem c_Model_encodeN (l : Launch) (G : zG) (sz : Nat) (a_m a_mfst a_msnd a_mlet a_mmany a_mval a_mord a_mfree a_mcode a_mnext a_mcom a_mmet : Nat) (c_sort : Int32) (c_cnt : Int32) (c_frees : Int32) (c_cur : Int32) (c_thr : Int32) (c_fst : (Nat → Int64)) (c_snd : (Nat → Int64)) (c_let : (Nat → Int32)) (c_many : (Nat → Int32)) (c_val : (Nat → Int64)) (c_ord : (Nat → Int32)) (c_free : (Nat → Int32)) (c_code : (Nat → Int32)) (c_next : (Nat → Int32)) (c_com : (Nat → Int32)) (c_met : (Nat → Int32)) (p_2 : Int32) (r0 : (Int32 × (Nat → Int32))) (hf : f_Model_encode c_sort c_fst c_snd c_let c_many c_next p_2 = some r0) :
    Met l y_Model_encode (Cond.code y_Model_encode prog_9_method_37_code 8 (some .int) :: lw_ok) { frames := 0, cells := 0, slots := 0, locals := 0 } (zPc G sz [.ref a_m, .ref a_mnext, .int p_2] (wM G a_m a_mfst a_msnd a_mlet a_mmany a_mval a_mord a_mfree a_mcode a_mnext a_mcom a_mmet c_sort c_cnt c_frees c_cur c_thr c_fst c_snd c_let c_many c_val c_ord c_free c_code c_next c_com c_met))
      ((fun (A : Nat → Prop) => va_Qi (fun (r : Int32) (_ : Unit) => r = r0.1) (fun _ t => zB G A (wM G a_m a_mfst a_msnd a_mlet a_mmany a_mval a_mord a_mfree a_mcode a_mnext a_mcom a_mmet c_sort c_cnt c_frees c_cur c_thr c_fst c_snd c_let c_many c_val c_ord c_free c_code r0.2 c_com c_met) t) A) (va_A (wM G a_m a_mfst a_msnd a_mlet a_mmany a_mval a_mord a_mfree a_mcode a_mnext a_mcom a_mmet c_sort c_cnt c_frees c_cur c_thr c_fst c_snd c_let c_many c_val c_ord c_free c_code c_next c_com c_met) sz)) 0 0 (va_A (wM G a_m a_mfst a_msnd a_mlet a_mmany a_mval a_mord a_mfree a_mcode a_mnext a_mcom a_mmet c_sort c_cnt c_frees c_cur c_thr c_fst c_snd c_let c_many c_val c_ord c_free c_code c_next c_com c_met) sz) := by
  refine zMet (Qc := fun (A : Nat → Prop) => va_Qi (fun (r : Int32) (_ : Unit) => r = r0.1) (fun _ t => zB G A (wM G a_m a_mfst a_msnd a_mlet a_mmany a_mval a_mord a_mfree a_mcode a_mnext a_mcom a_mmet c_sort c_cnt c_frees c_cur c_thr c_fst c_snd c_let c_many c_val c_ord c_free c_code r0.2 c_com c_met) t) A) (by decide) (Nat.le_of_ble_eq_true rfl) (fun xp xe xs xm xb xme xc A ls Q H locs C hN hK hP hD hS hA hl hQ => ?_)
  obtain ⟨hx, hb, hr, hts, hown, hlocks, hml, hin⟩ := C
  have hl : lv_has ls 8 [(0, .ref a_m), (1, .ref a_mnext), (2, .int p_2)] := hl
  have h := hf
  unfold f_Model_encode at h
  refine lv_iconst (v := 0) hx hb d_Model_encode_0 (by decide) ?_
  refine lv_istore_n (lv' := [(3, .int 0), (0, .ref a_m), (1, .ref a_mnext), (2, .int p_2)]) hx hb d_Model_encode_1 rfl hl (by decide) rfl (fun ls hl => ?_)
  refine lv_aload_n hx hb d_Model_encode_2 rfl (lv_at hl 1 rfl) ?_
  refine va_get (D := G.1) (ci := 6) (v := .int c_sort) (C := "BranchStoreModel") (T := F_Model) (N := 16) hx hb hts i_Model hown hK hP 0 rfl rfl 0 (by decide) (hts _ k_770) (fun _ h9 => h9) rfl d_Model_encode_3 ?_
  refine lv_iconst (v := 2) hx hb d_Model_encode_6 (by decide) ?_
  refine lv_icmp_ne (tgt := 88) hx hb d_Model_encode_7 (by decide) (fun q1 => ?_) (fun q1 => ?_)
  · have h := ie h q1
    refine lv_iconst (v := 0) hx hb d_Model_encode_88 (by decide) ?_
    refine lv_istore (lv' := [(4, .int 0), (3, .int 0), (0, .ref a_m), (1, .ref a_mnext), (2, .int p_2)]) hx hb d_Model_encode_89 hl (by decide) rfl (fun ls hl => ?_)
    obtain ⟨y5, hy5, h⟩ := ob h
    have E91 : ∀ (z32 : Int32) (z33 : (Nat → Int32)), (z32, z33) = y5 → ∀ (H : Heap) (locs : List Loc) (ls : Array Slot), va_P G.1 classes (wM G a_m a_mfst a_msnd a_mlet a_mmany a_mval a_mord a_mfree a_mcode a_mnext a_mcom a_mmet c_sort c_cnt c_frees c_cur c_thr c_fst c_snd c_let c_many c_val c_ord c_free c_code z33 c_com c_met) H → va_D A (wM G a_m a_mfst a_msnd a_mlet a_mmany a_mval a_mord a_mfree a_mcode a_mnext a_mcom a_mmet c_sort c_cnt c_frees c_cur c_thr c_fst c_snd c_let c_many c_val c_ord c_free c_code z33 c_com c_met) → va_S A xs.heap H locs → lv_has ls 8 [(3, .int z32)] → W xp l xe { frames := 0, cells := 0, slots := 0, locals := 0 } xs xm ([.ref a_m, .ref a_mnext, .int p_2] : List Value).toArray xb xme xc H locs 0 0 Q (F0 xm 174 ls []) := by
      intro z32 z33 ey H locs ls hP hD hS hl
      subst ey
      try dsimp only at h
      refine lv_iload_n hx hb d_Model_encode_174 rfl (lv_at hl 0 rfl) ?_
      obtain rfl := Option.some.inj h
      exact zreti () hQ hS.2.2 hx hb hr hlocks hP hD hS rfl (Nat.le_refl _) (Nat.le_refl _) d_Model_encode_175
    have L91 : ∀ v : (Int32 × Int32 × (Nat → Int32)), lp (fun v => s_Model_encode_91 c_sort c_fst c_snd p_2 v.1 v.2.1 v.2.2) v = some y5 → ∀ (H : Heap) (locs : List Loc) (ls : Array Slot), va_P G.1 classes (wM G a_m a_mfst a_msnd a_mlet a_mmany a_mval a_mord a_mfree a_mcode a_mnext a_mcom a_mmet c_sort c_cnt c_frees c_cur c_thr c_fst c_snd c_let c_many c_val c_ord c_free c_code v.2.2 c_com c_met) H → va_D A (wM G a_m a_mfst a_msnd a_mlet a_mmany a_mval a_mord a_mfree a_mcode a_mnext a_mcom a_mmet c_sort c_cnt c_frees c_cur c_thr c_fst c_snd c_let c_many c_val c_ord c_free c_code v.2.2 c_com c_met) → va_S A xs.heap H locs → lv_has ls 8 [(0, .ref a_m), (1, .ref a_mnext), (2, .int p_2), (3, .int v.1), (4, .int v.2.1)] → W xp l xe { frames := 0, cells := 0, slots := 0, locals := 0 } xs xm ([.ref a_m, .ref a_mnext, .int p_2] : List Value).toArray xb xme xc H locs 0 0 Q (F0 xm 91 ls []) := by
      refine lp_walk _ (fun v x h hc he => ?_)
      obtain ⟨x3_2, x4_3, c4⟩ := v
      intro H locs ls hP hD hS hl
      have h : s_Model_encode_91 c_sort c_fst c_snd p_2 x3_2 x4_3 c4 = some x := h
      unfold s_Model_encode_91 at h
      refine lv_iload hx hb d_Model_encode_91 (lv_at hl 4 rfl) ?_
      refine lv_aload_n hx hb d_Model_encode_93 rfl (lv_at hl 0 rfl) ?_
      refine va_get (D := G.1) (ci := 6) (v := .int c_sort) (C := "BranchStoreModel") (T := F_Model) (N := 16) hx hb hts i_Model hown hK hP 0 rfl rfl 0 (by decide) (hts _ k_770) (fun _ h9 => h9) rfl d_Model_encode_94 ?_
      refine lv_icmp_gt (tgt := 174) hx hb d_Model_encode_97 (by decide) (fun q6 => ?_) (fun q6 => ?_)
      · have h := it h q6
        exact E91 x3_2 c4 (he _ (Option.some.inj h).symm) H locs ls hP hD hS (lv_sub hl [3] rfl)
      · have h := ie h q6
        refine lv_iload hx hb d_Model_encode_100 (lv_at hl 4 rfl) ?_
        obtain ⟨y11, hy11, h⟩ := ob h
        have J120 : ∀ (z13 : Int64), z13 = y11 → ∀ (H : Heap) (locs : List Loc) (ls : Array Slot), va_P G.1 classes (wM G a_m a_mfst a_msnd a_mlet a_mmany a_mval a_mord a_mfree a_mcode a_mnext a_mcom a_mmet c_sort c_cnt c_frees c_cur c_thr c_fst c_snd c_let c_many c_val c_ord c_free c_code c4 c_com c_met) H → va_D A (wM G a_m a_mfst a_msnd a_mlet a_mmany a_mval a_mord a_mfree a_mcode a_mnext a_mcom a_mmet c_sort c_cnt c_frees c_cur c_thr c_fst c_snd c_let c_many c_val c_ord c_free c_code c4 c_com c_met) → va_S A xs.heap H locs → lv_has ls 8 [(0, .ref a_m), (1, .ref a_mnext), (2, .int p_2), (3, .int x3_2), (4, .int x4_3)] → W xp l xe { frames := 0, cells := 0, slots := 0, locals := 0 } xs xm ([.ref a_m, .ref a_mnext, .int p_2] : List Value).toArray xb xme xc H locs 0 0 Q (F0 xm 120 ls [.long z13]) := by
          intro z13 ey H locs ls hP hD hS hl
          subst ey
          try dsimp only at h
          refine lv_lstore (lv' := [(5, .long z13), (0, .ref a_m), (1, .ref a_mnext), (2, .int p_2), (3, .int x3_2), (4, .int x4_3)]) hx hb d_Model_encode_120 hl (by decide) rfl (fun ls hl => ?_)
          refine lv_bipush (v := 56) hx hb d_Model_encode_122 (by decide) ?_
          refine lv_istore (lv' := [(7, .int 56), (5, .long z13), (0, .ref a_m), (1, .ref a_mnext), (2, .int p_2), (3, .int x3_2), (4, .int x4_3)]) hx hb d_Model_encode_124 hl (by decide) rfl (fun ls hl => ?_)
          obtain ⟨y17, hy17, h⟩ := ob h
          have E126 : ∀ (z28 : Int32) (z29 : (Nat → Int32)), (z28, z29) = y17 → ∀ (H : Heap) (locs : List Loc) (ls : Array Slot), va_P G.1 classes (wM G a_m a_mfst a_msnd a_mlet a_mmany a_mval a_mord a_mfree a_mcode a_mnext a_mcom a_mmet c_sort c_cnt c_frees c_cur c_thr c_fst c_snd c_let c_many c_val c_ord c_free c_code z29 c_com c_met) H → va_D A (wM G a_m a_mfst a_msnd a_mlet a_mmany a_mval a_mord a_mfree a_mcode a_mnext a_mcom a_mmet c_sort c_cnt c_frees c_cur c_thr c_fst c_snd c_let c_many c_val c_ord c_free c_code z29 c_com c_met) → va_S A xs.heap H locs → lv_has ls 8 [(0, .ref a_m), (1, .ref a_mnext), (2, .int p_2), (3, .int z28), (4, .int x4_3)] → W xp l xe { frames := 0, cells := 0, slots := 0, locals := 0 } xs xm ([.ref a_m, .ref a_mnext, .int p_2] : List Value).toArray xb xme xc H locs 0 0 Q (F0 xm 168 ls []) := by
            intro z28 z29 ey H locs ls hP hD hS hl
            subst ey
            try dsimp only at h
            obtain ⟨v31, ev31⟩ : ∃ y : Int32, y = x4_3 + 1 := ⟨_, rfl⟩
            have h := nm_k h v31 ev31
            refine lv_iinc (v := v31) (lv' := [(4, .int v31), (0, .ref a_m), (1, .ref a_mnext), (2, .int p_2), (3, .int z28)]) hx hb d_Model_encode_168 hl (k := 4) rfl (by rw [ev31]; rfl) (by decide) rfl (fun ls hl => ?_)
            refine lv_goto (tgt := 91) hx hb d_Model_encode_171 (by decide) ?_
            exact hc _ (Option.some.inj h).symm H locs ls hP hD hS (lv_sub hl [1, 2, 3, 4, 0] rfl)
          have L126 : ∀ v : (Int32 × Int32 × (Nat → Int32)), lp (fun v => s_Model_encode_126 z13 v.1 v.2.1 v.2.2) v = some y17 → ∀ (H : Heap) (locs : List Loc) (ls : Array Slot), va_P G.1 classes (wM G a_m a_mfst a_msnd a_mlet a_mmany a_mval a_mord a_mfree a_mcode a_mnext a_mcom a_mmet c_sort c_cnt c_frees c_cur c_thr c_fst c_snd c_let c_many c_val c_ord c_free c_code v.2.2 c_com c_met) H → va_D A (wM G a_m a_mfst a_msnd a_mlet a_mmany a_mval a_mord a_mfree a_mcode a_mnext a_mcom a_mmet c_sort c_cnt c_frees c_cur c_thr c_fst c_snd c_let c_many c_val c_ord c_free c_code v.2.2 c_com c_met) → va_S A xs.heap H locs → lv_has ls 8 [(0, .ref a_m), (1, .ref a_mnext), (2, .int p_2), (3, .int v.1), (4, .int x4_3), (5, .long z13), (7, .int v.2.1)] → W xp l xe { frames := 0, cells := 0, slots := 0, locals := 0 } xs xm ([.ref a_m, .ref a_mnext, .int p_2] : List Value).toArray xb xme xc H locs 0 0 Q (F0 xm 126 ls []) := by
            refine lp_walk _ (fun v x h hc he => ?_)
            obtain ⟨x3_14, x7_15, c16⟩ := v
            intro H locs ls hP hD hS hl
            have h : s_Model_encode_126 z13 x3_14 x7_15 c16 = some x := h
            unfold s_Model_encode_126 at h
            refine lv_iload hx hb d_Model_encode_126 (lv_at hl 6 rfl) ?_
            refine lv_if_lt (tgt := 168) hx hb d_Model_encode_128 (by decide) (fun q18 => ?_) (fun q18 => ?_)
            · have h := it h q18
              exact E126 x3_14 c16 (he _ (Option.some.inj h).symm) H locs ls hP hD hS (lv_sub hl [0, 1, 2, 3, 4] rfl)
            · have h := ie h q18
              refine lv_aload_n hx hb d_Model_encode_131 rfl (lv_at hl 1 rfl) ?_
              refine lv_iload_n hx hb d_Model_encode_132 rfl (lv_at hl 3 rfl) ?_
              obtain ⟨v19, ev19⟩ : ∃ y : Int32, y = x3_14 + 1 := ⟨_, rfl⟩
              have h := nm_k h v19 ev19
              refine lv_iinc (v := v19) (lv' := [(3, .int v19), (0, .ref a_m), (1, .ref a_mnext), (2, .int p_2), (4, .int x4_3), (5, .long z13), (7, .int x7_15)]) hx hb d_Model_encode_133 hl (k := 3) rfl (by rw [ev19]; rfl) (by decide) rfl (fun ls hl => ?_)
              refine lv_lload hx hb d_Model_encode_136 (lv_at hl 5 rfl) ?_
              refine lv_iload hx hb d_Model_encode_138 (lv_at hl 6 rfl) ?_
              refine lv_lshr (v := zlshr z13 x7_15) hx hb d_Model_encode_140 rfl ?_
              refine lv_ldc2 (v := 255) hx hb hown (hts _ k_975) d_Model_encode_141 ?_
              refine lv_land hx hb d_Model_encode_144 ?_
              refine lv_l2i (v := ((zlshr z13 x7_15) &&& 255).toInt32) hx hb d_Model_encode_145 rfl ?_
              refine lv_iload hx hb d_Model_encode_146 (lv_at hl 6 rfl) ?_
              refine lv_bipush (v := 56) hx hb d_Model_encode_148 (by decide) ?_
              obtain ⟨y22, hy22, h⟩ := ob h
              have J160 : ∀ (z24 : Int32), z24 = y22 → ∀ (H : Heap) (locs : List Loc) (ls : Array Slot), va_P G.1 classes (wM G a_m a_mfst a_msnd a_mlet a_mmany a_mval a_mord a_mfree a_mcode a_mnext a_mcom a_mmet c_sort c_cnt c_frees c_cur c_thr c_fst c_snd c_let c_many c_val c_ord c_free c_code c16 c_com c_met) H → va_D A (wM G a_m a_mfst a_msnd a_mlet a_mmany a_mval a_mord a_mfree a_mcode a_mnext a_mcom a_mmet c_sort c_cnt c_frees c_cur c_thr c_fst c_snd c_let c_many c_val c_ord c_free c_code c16 c_com c_met) → va_S A xs.heap H locs → lv_has ls 8 [(0, .ref a_m), (1, .ref a_mnext), (2, .int p_2), (3, .int v19), (4, .int x4_3), (5, .long z13), (7, .int x7_15)] → W xp l xe { frames := 0, cells := 0, slots := 0, locals := 0 } xs xm ([.ref a_m, .ref a_mnext, .int p_2] : List Value).toArray xb xme xc H locs 0 0 Q (F0 xm 160 ls [.int z24, .int (((zlshr z13 x7_15) &&& 255).toInt32), .int x3_14, .ref a_mnext]) := by
                intro z24 ey H locs ls hP hD hS hl
                subst ey
                try dsimp only at h
                refine lv_ixor hx hb d_Model_encode_160 ?_
                obtain ⟨h25, h⟩ := gi_k h
                refine va_iast hx hb hK hP hD hS 9 0 rfl rfl h25 d_Model_encode_161 (fun H locs hP hD hS => ?_)
                obtain ⟨c26, ec26⟩ : ∃ y, y = upd c16 x3_14.toNatClampNeg ((((zlshr z13 x7_15) &&& 255).toInt32) ^^^ z24) := ⟨_, rfl⟩
                have h := nm_k h c26 ec26
                have hP : va_P G.1 classes (wM G a_m a_mfst a_msnd a_mlet a_mmany a_mval a_mord a_mfree a_mcode a_mnext a_mcom a_mmet c_sort c_cnt c_frees c_cur c_thr c_fst c_snd c_let c_many c_val c_ord c_free c_code c26 c_com c_met) H := by rw [ec26]; exact hP
                have hD : va_D A (wM G a_m a_mfst a_msnd a_mlet a_mmany a_mval a_mord a_mfree a_mcode a_mnext a_mcom a_mmet c_sort c_cnt c_frees c_cur c_thr c_fst c_snd c_let c_many c_val c_ord c_free c_code c26 c_com c_met) := by rw [ec26]; exact hD
                obtain ⟨v27, ev27⟩ : ∃ y : Int32, y = x7_15 + (-8) := ⟨_, rfl⟩
                have h := nm_k h v27 ev27
                refine lv_iinc (v := v27) (lv' := [(7, .int v27), (0, .ref a_m), (1, .ref a_mnext), (2, .int p_2), (3, .int v19), (4, .int x4_3), (5, .long z13)]) hx hb d_Model_encode_162 hl (k := 6) rfl (by rw [ev27]; rfl) (by decide) rfl (fun ls hl => ?_)
                refine lv_goto (tgt := 126) hx hb d_Model_encode_165 (by decide) ?_
                exact hc _ (Option.some.inj h).symm H locs ls hP hD hS (lv_sub hl [1, 2, 3, 4, 5, 6, 0] rfl)
              have h := hy22
              refine lv_icmp_ne (tgt := 159) hx hb d_Model_encode_150 (by decide) (fun q21 => ?_) (fun q21 => ?_)
              · have h := ie h q21
                refine lv_iconst (v := 0) hx hb d_Model_encode_159 (by decide) ?_
                exact J160 0 (Option.some.inj h) H locs ls hP hD hS (lv_sub hl [1, 2, 3, 0, 4, 5, 6] rfl)
              · have h := it h q21
                refine lv_sipush (v := 128) hx hb d_Model_encode_153 (by decide) ?_
                refine lv_goto (tgt := 160) hx hb d_Model_encode_156 (by decide) ?_
                exact J160 128 (Option.some.inj h) H locs ls hP hD hS (lv_sub hl [1, 2, 3, 0, 4, 5, 6] rfl)
          exact L126 _ hy17 _ _ ls hP hD hS (lv_sub hl [2, 3, 4, 5, 6, 1, 0] rfl)
        have h := hy11
        refine lv_if_ne (tgt := 114) hx hb d_Model_encode_102 (by decide) (fun q8 => ?_) (fun q8 => ?_)
        · have h := ie h q8
          refine lv_aload_n hx hb d_Model_encode_114 rfl (lv_at hl 0 rfl) ?_
          refine va_get (D := G.1) (ci := 6) (v := .ref a_msnd) (C := "BranchStoreModel") (T := F_Model) (N := 16) hx hb hts i_Model hown hK hP 0 rfl rfl 2 (by decide) (hts _ k_772) (fun _ h9 => h9) rfl d_Model_encode_115 ?_
          refine lv_iload_n hx hb d_Model_encode_118 rfl (lv_at hl 2 rfl) ?_
          obtain ⟨h9, h⟩ := gi_k h
          refine va_lald hx hb hK hP 2 2 rfl rfl h9 d_Model_encode_119 ?_
          exact J120 (c_snd p_2.toNatClampNeg) (Option.some.inj h) H locs ls hP hD hS (lv_sub hl [0, 1, 2, 3, 4] rfl)
        · have h := it h q8
          refine lv_aload_n hx hb d_Model_encode_105 rfl (lv_at hl 0 rfl) ?_
          refine va_get (D := G.1) (ci := 6) (v := .ref a_mfst) (C := "BranchStoreModel") (T := F_Model) (N := 16) hx hb hts i_Model hown hK hP 0 rfl rfl 1 (by decide) (hts _ k_771) (fun _ h9 => h9) rfl d_Model_encode_106 ?_
          refine lv_iload_n hx hb d_Model_encode_109 rfl (lv_at hl 2 rfl) ?_
          obtain ⟨h10, h⟩ := gi_k h
          refine va_lald hx hb hK hP 1 2 rfl rfl h10 d_Model_encode_110 ?_
          refine lv_goto (tgt := 120) hx hb d_Model_encode_111 (by decide) ?_
          exact J120 (c_fst p_2.toNatClampNeg) (Option.some.inj h) H locs ls hP hD hS (lv_sub hl [0, 1, 2, 3, 4] rfl)
    exact L91 _ hy5 _ _ ls hP hD hS (lv_sub hl [2, 3, 4, 1, 0] rfl)
  · have h := it h q1
    refine lv_iconst (v := 0) hx hb d_Model_encode_10 (by decide) ?_
    refine lv_istore (lv' := [(4, .int 0), (3, .int 0), (0, .ref a_m), (1, .ref a_mnext), (2, .int p_2)]) hx hb d_Model_encode_11 hl (by decide) rfl (fun ls hl => ?_)
    obtain ⟨y38, hy38, h⟩ := ob h
    have E13 : ∀ (z52 : Int32) (z53 : (Nat → Int32)), (z52, z53) = y38 → ∀ (H : Heap) (locs : List Loc) (ls : Array Slot), va_P G.1 classes (wM G a_m a_mfst a_msnd a_mlet a_mmany a_mval a_mord a_mfree a_mcode a_mnext a_mcom a_mmet c_sort c_cnt c_frees c_cur c_thr c_fst c_snd c_let c_many c_val c_ord c_free c_code z53 c_com c_met) H → va_D A (wM G a_m a_mfst a_msnd a_mlet a_mmany a_mval a_mord a_mfree a_mcode a_mnext a_mcom a_mmet c_sort c_cnt c_frees c_cur c_thr c_fst c_snd c_let c_many c_val c_ord c_free c_code z53 c_com c_met) → va_S A xs.heap H locs → lv_has ls 8 [(1, .ref a_mnext), (3, .int z52)] → W xp l xe { frames := 0, cells := 0, slots := 0, locals := 0 } xs xm ([.ref a_m, .ref a_mnext, .int p_2] : List Value).toArray xb xme xc H locs 0 0 Q (F0 xm 72 ls []) := by
      intro z52 z53 ey H locs ls hP hD hS hl
      subst ey
      try dsimp only at h
      refine lv_aload_n hx hb d_Model_encode_72 rfl (lv_at hl 0 rfl) ?_
      refine lv_iload_n hx hb d_Model_encode_73 rfl (lv_at hl 1 rfl) ?_
      obtain ⟨v55, ev55⟩ : ∃ y : Int32, y = z52 + 1 := ⟨_, rfl⟩
      have h := nm_k h v55 ev55
      refine lv_iinc (v := v55) (lv' := [(3, .int v55), (1, .ref a_mnext)]) hx hb d_Model_encode_74 hl (k := 1) rfl (by rw [ev55]; rfl) (by decide) rfl (fun ls hl => ?_)
      refine lv_iconst (v := 0) hx hb d_Model_encode_77 (by decide) ?_
      obtain ⟨h56, h⟩ := gi_k h
      refine va_iast hx hb hK hP hD hS 9 0 rfl rfl h56 d_Model_encode_78 (fun H locs hP hD hS => ?_)
      obtain ⟨c57, ec57⟩ : ∃ y, y = upd z53 z52.toNatClampNeg 0 := ⟨_, rfl⟩
      have h := nm_k h c57 ec57
      have hP : va_P G.1 classes (wM G a_m a_mfst a_msnd a_mlet a_mmany a_mval a_mord a_mfree a_mcode a_mnext a_mcom a_mmet c_sort c_cnt c_frees c_cur c_thr c_fst c_snd c_let c_many c_val c_ord c_free c_code c57 c_com c_met) H := by rw [ec57]; exact hP
      have hD : va_D A (wM G a_m a_mfst a_msnd a_mlet a_mmany a_mval a_mord a_mfree a_mcode a_mnext a_mcom a_mmet c_sort c_cnt c_frees c_cur c_thr c_fst c_snd c_let c_many c_val c_ord c_free c_code c57 c_com c_met) := by rw [ec57]; exact hD
      refine lv_aload_n hx hb d_Model_encode_79 rfl (lv_at hl 1 rfl) ?_
      refine lv_iload_n hx hb d_Model_encode_80 rfl (lv_at hl 0 rfl) ?_
      obtain ⟨v58, ev58⟩ : ∃ y : Int32, y = v55 + 1 := ⟨_, rfl⟩
      have h := nm_k h v58 ev58
      refine lv_iinc (v := v58) (lv' := [(3, .int v58), (1, .ref a_mnext)]) hx hb d_Model_encode_81 hl (k := 0) rfl (by rw [ev58]; rfl) (by decide) rfl (fun ls hl => ?_)
      refine lv_iconst (v := 0) hx hb d_Model_encode_84 (by decide) ?_
      obtain ⟨h59, h⟩ := gi_k h
      refine va_iast hx hb hK hP hD hS 9 0 rfl rfl h59 d_Model_encode_85 (fun H locs hP hD hS => ?_)
      obtain ⟨c60, ec60⟩ : ∃ y, y = upd c57 v55.toNatClampNeg 0 := ⟨_, rfl⟩
      have h := nm_k h c60 ec60
      have hP : va_P G.1 classes (wM G a_m a_mfst a_msnd a_mlet a_mmany a_mval a_mord a_mfree a_mcode a_mnext a_mcom a_mmet c_sort c_cnt c_frees c_cur c_thr c_fst c_snd c_let c_many c_val c_ord c_free c_code c60 c_com c_met) H := by rw [ec60]; exact hP
      have hD : va_D A (wM G a_m a_mfst a_msnd a_mlet a_mmany a_mval a_mord a_mfree a_mcode a_mnext a_mcom a_mmet c_sort c_cnt c_frees c_cur c_thr c_fst c_snd c_let c_many c_val c_ord c_free c_code c60 c_com c_met) := by rw [ec60]; exact hD
      refine lv_iload_n hx hb d_Model_encode_86 rfl (lv_at hl 0 rfl) ?_
      obtain rfl := Option.some.inj h
      exact zreti () hQ hS.2.2 hx hb hr hlocks hP hD hS rfl (Nat.le_refl _) (Nat.le_refl _) d_Model_encode_87
    have L13 : ∀ v : (Int32 × Int32 × (Nat → Int32)), lp (fun v => s_Model_encode_13 c_let c_many p_2 v.1 v.2.1 v.2.2) v = some y38 → ∀ (H : Heap) (locs : List Loc) (ls : Array Slot), va_P G.1 classes (wM G a_m a_mfst a_msnd a_mlet a_mmany a_mval a_mord a_mfree a_mcode a_mnext a_mcom a_mmet c_sort c_cnt c_frees c_cur c_thr c_fst c_snd c_let c_many c_val c_ord c_free c_code v.2.2 c_com c_met) H → va_D A (wM G a_m a_mfst a_msnd a_mlet a_mmany a_mval a_mord a_mfree a_mcode a_mnext a_mcom a_mmet c_sort c_cnt c_frees c_cur c_thr c_fst c_snd c_let c_many c_val c_ord c_free c_code v.2.2 c_com c_met) → va_S A xs.heap H locs → lv_has ls 8 [(0, .ref a_m), (1, .ref a_mnext), (2, .int p_2), (3, .int v.1), (4, .int v.2.1)] → W xp l xe { frames := 0, cells := 0, slots := 0, locals := 0 } xs xm ([.ref a_m, .ref a_mnext, .int p_2] : List Value).toArray xb xme xc H locs 0 0 Q (F0 xm 13 ls []) := by
      refine lp_walk _ (fun v x h hc he => ?_)
      obtain ⟨x3_35, x4_36, c37⟩ := v
      intro H locs ls hP hD hS hl
      have h : s_Model_encode_13 c_let c_many p_2 x3_35 x4_36 c37 = some x := h
      unfold s_Model_encode_13 at h
      refine lv_iload hx hb d_Model_encode_13 (lv_at hl 4 rfl) ?_
      refine lv_aload_n hx hb d_Model_encode_15 rfl (lv_at hl 0 rfl) ?_
      refine va_get (D := G.1) (ci := 6) (v := .ref a_mmany) (C := "BranchStoreModel") (T := F_Model) (N := 16) hx hb hts i_Model hown hK hP 0 rfl rfl 4 (by decide) (hts _ k_774) (fun _ h9 => h9) rfl d_Model_encode_16 ?_
      refine lv_iload_n hx hb d_Model_encode_19 rfl (lv_at hl 2 rfl) ?_
      obtain ⟨h39, h⟩ := gi_k h
      refine va_iald hx hb hK hP 4 0 rfl rfl h39 d_Model_encode_20 ?_
      refine lv_icmp_ge (tgt := 72) hx hb d_Model_encode_21 (by decide) (fun q40 => ?_) (fun q40 => ?_)
      · have h := it h q40
        exact E13 x3_35 c37 (he _ (Option.some.inj h).symm) H locs ls hP hD hS (lv_sub hl [1, 3] rfl)
      · have h := ie h q40
        refine lv_aload_n hx hb d_Model_encode_24 rfl (lv_at hl 1 rfl) ?_
        refine lv_iload_n hx hb d_Model_encode_25 rfl (lv_at hl 3 rfl) ?_
        obtain ⟨v41, ev41⟩ : ∃ y : Int32, y = x3_35 + 1 := ⟨_, rfl⟩
        have h := nm_k h v41 ev41
        refine lv_iinc (v := v41) (lv' := [(3, .int v41), (0, .ref a_m), (1, .ref a_mnext), (2, .int p_2), (4, .int x4_36)]) hx hb d_Model_encode_26 hl (k := 3) rfl (by rw [ev41]; rfl) (by decide) rfl (fun ls hl => ?_)
        refine lv_aload_n hx hb d_Model_encode_29 rfl (lv_at hl 1 rfl) ?_
        refine va_get (D := G.1) (ci := 6) (v := .ref a_mlet) (C := "BranchStoreModel") (T := F_Model) (N := 16) hx hb hts i_Model hown hK hP 0 rfl rfl 3 (by decide) (hts _ k_773) (fun _ h9 => h9) rfl d_Model_encode_30 ?_
        refine lv_bipush (v := 24) hx hb d_Model_encode_33 (by decide) ?_
        refine lv_iload_n hx hb d_Model_encode_35 rfl (lv_at hl 3 rfl) ?_
        refine lv_imul hx hb d_Model_encode_36 ?_
        refine lv_iload hx hb d_Model_encode_37 (lv_at hl 4 rfl) ?_
        refine lv_iadd hx hb d_Model_encode_39 ?_
        obtain ⟨h42, h⟩ := gi_k h
        refine va_iald hx hb hK hP 3 0 rfl rfl h42 d_Model_encode_40 ?_
        obtain ⟨h43, h⟩ := gi_k h
        refine va_iast hx hb hK hP hD hS 9 0 rfl rfl h43 d_Model_encode_41 (fun H locs hP hD hS => ?_)
        obtain ⟨c44, ec44⟩ : ∃ y, y = upd c37 x3_35.toNatClampNeg (c_let ((24 * p_2) + x4_36).toNatClampNeg) := ⟨_, rfl⟩
        have h := nm_k h c44 ec44
        have hP : va_P G.1 classes (wM G a_m a_mfst a_msnd a_mlet a_mmany a_mval a_mord a_mfree a_mcode a_mnext a_mcom a_mmet c_sort c_cnt c_frees c_cur c_thr c_fst c_snd c_let c_many c_val c_ord c_free c_code c44 c_com c_met) H := by rw [ec44]; exact hP
        have hD : va_D A (wM G a_m a_mfst a_msnd a_mlet a_mmany a_mval a_mord a_mfree a_mcode a_mnext a_mcom a_mmet c_sort c_cnt c_frees c_cur c_thr c_fst c_snd c_let c_many c_val c_ord c_free c_code c44 c_com c_met) := by rw [ec44]; exact hD
        refine lv_aload_n hx hb d_Model_encode_42 rfl (lv_at hl 1 rfl) ?_
        refine va_get (D := G.1) (ci := 6) (v := .ref a_mlet) (C := "BranchStoreModel") (T := F_Model) (N := 16) hx hb hts i_Model hown hK hP 0 rfl rfl 3 (by decide) (hts _ k_773) (fun _ h9 => h9) rfl d_Model_encode_43 ?_
        refine lv_bipush (v := 24) hx hb d_Model_encode_46 (by decide) ?_
        refine lv_iload_n hx hb d_Model_encode_48 rfl (lv_at hl 3 rfl) ?_
        refine lv_imul hx hb d_Model_encode_49 ?_
        refine lv_iload hx hb d_Model_encode_50 (lv_at hl 4 rfl) ?_
        refine lv_iadd hx hb d_Model_encode_52 ?_
        obtain ⟨h45, h⟩ := gi_k h
        refine va_iald hx hb hK hP 3 0 rfl rfl h45 d_Model_encode_53 ?_
        refine lv_if_ne (tgt := 66) hx hb d_Model_encode_54 (by decide) (fun q46 => ?_) (fun q46 => ?_)
        · have h := ie h q46
          obtain ⟨v47, ev47⟩ : ∃ y : Int32, y = x4_36 + 1 := ⟨_, rfl⟩
          have h := nm_k h v47 ev47
          refine lv_iinc (v := v47) (lv' := [(4, .int v47), (3, .int v41), (0, .ref a_m), (1, .ref a_mnext), (2, .int p_2)]) hx hb d_Model_encode_66 hl (k := 4) rfl (by rw [ev47]; rfl) (by decide) rfl (fun ls hl => ?_)
          refine lv_goto (tgt := 13) hx hb d_Model_encode_69 (by decide) ?_
          exact hc _ (Option.some.inj h).symm H locs ls hP hD hS (lv_sub hl [2, 3, 4, 1, 0] rfl)
        · have h := it h q46
          refine lv_aload_n hx hb d_Model_encode_57 rfl (lv_at hl 2 rfl) ?_
          refine lv_iload_n hx hb d_Model_encode_58 rfl (lv_at hl 0 rfl) ?_
          obtain ⟨v48, ev48⟩ : ∃ y : Int32, y = v41 + 1 := ⟨_, rfl⟩
          have h := nm_k h v48 ev48
          refine lv_iinc (v := v48) (lv' := [(3, .int v48), (0, .ref a_m), (1, .ref a_mnext), (2, .int p_2), (4, .int x4_36)]) hx hb d_Model_encode_59 hl (k := 0) rfl (by rw [ev48]; rfl) (by decide) rfl (fun ls hl => ?_)
          refine lv_sipush (v := 255) hx hb d_Model_encode_62 (by decide) ?_
          obtain ⟨h49, h⟩ := gi_k h
          refine va_iast hx hb hK hP hD hS 9 0 rfl rfl h49 d_Model_encode_65 (fun H locs hP hD hS => ?_)
          obtain ⟨c50, ec50⟩ : ∃ y, y = upd c44 v41.toNatClampNeg 255 := ⟨_, rfl⟩
          have h := nm_k h c50 ec50
          have hP : va_P G.1 classes (wM G a_m a_mfst a_msnd a_mlet a_mmany a_mval a_mord a_mfree a_mcode a_mnext a_mcom a_mmet c_sort c_cnt c_frees c_cur c_thr c_fst c_snd c_let c_many c_val c_ord c_free c_code c50 c_com c_met) H := by rw [ec50]; exact hP
          have hD : va_D A (wM G a_m a_mfst a_msnd a_mlet a_mmany a_mval a_mord a_mfree a_mcode a_mnext a_mcom a_mmet c_sort c_cnt c_frees c_cur c_thr c_fst c_snd c_let c_many c_val c_ord c_free c_code c50 c_com c_met) := by rw [ec50]; exact hD
          obtain ⟨v51, ev51⟩ : ∃ y : Int32, y = x4_36 + 1 := ⟨_, rfl⟩
          have h := nm_k h v51 ev51
          refine lv_iinc (v := v51) (lv' := [(4, .int v51), (3, .int v48), (0, .ref a_m), (1, .ref a_mnext), (2, .int p_2)]) hx hb d_Model_encode_66 hl (k := 4) rfl (by rw [ev51]; rfl) (by decide) rfl (fun ls hl => ?_)
          refine lv_goto (tgt := 13) hx hb d_Model_encode_69 (by decide) ?_
          exact hc _ (Option.some.inj h).symm H locs ls hP hD hS (lv_sub hl [2, 3, 4, 1, 0] rfl)
    exact L13 _ hy38 _ _ ls hP hD hS (lv_sub hl [2, 3, 4, 1, 0] rfl)

theorem kv_Model_120 : zKV "BranchStoreModel" 120 y_Model_encode prog_9_method_37_code 8 (some .int) 2 := ⟨k_971, k_973, kp_38, k_8, k_974, by decide +kernel⟩
noncomputable def s_Model_look_46 (c_code : (Nat → Int32)) (c_next : (Nat → Int32)) (x2 : Int32) : Option (Int32 ⊕ Int32) :=
gi x2 50 <|
gi x2 50 <|
if (c_code x2.toNatClampNeg) = (c_next x2.toNatClampNeg) then
(nm (x2 + 1) fun v16 =>
some (.inl v16))
else
(some (.inr x2))
noncomputable def s_Model_look_2 (c_sort : Int32) (c_cnt : Int32) (c_fst : (Nat → Int64)) (c_snd : (Nat → Int64)) (c_let : (Nat → Int32)) (c_many : (Nat → Int32)) (c_ord : (Nat → Int32)) (x1 : Int32) (c_code : (Nat → Int32)) (c_next : (Nat → Int32)) (c_com : (Nat → Int32)) : Option ((Int32 × (Nat → Int32) × (Nat → Int32) × (Nat → Int32)) ⊕ ((Nat → Int32) × (Nat → Int32) × (Nat → Int32))) :=
if c_cnt ≤ (x1 + 1) then
(some (.inr (c_code, c_next, c_com)))
else
(gi x1 1500 <|
(f_Model_encode c_sort c_fst c_snd c_let c_many c_code (c_ord x1.toNatClampNeg)).bind fun r8 =>
gi (x1 + 1) 1500 <|
(f_Model_encode c_sort c_fst c_snd c_let c_many c_next (c_ord (x1 + 1).toNatClampNeg)).bind fun r10 =>
(lp (fun v => s_Model_look_46 r8.2 r10.2 v) 0).bind fun y18 =>
gi x1 1500 <|
nm (upd c_com x1.toNatClampNeg y18) fun c20 =>
nm (x1 + 1) fun v21 =>
some (.inl (v21, r8.2, r10.2, c20)))
noncomputable def f_Model_look (c_sort : Int32) (c_cnt : Int32) (c_fst : (Nat → Int64)) (c_snd : (Nat → Int64)) (c_let : (Nat → Int32)) (c_many : (Nat → Int32)) (c_ord : (Nat → Int32)) (c_code : (Nat → Int32)) (c_next : (Nat → Int32)) (c_com : (Nat → Int32))  : Option ((Nat → Int32) × (Nat → Int32) × (Nat → Int32)) :=
(lp (fun v => s_Model_look_2 c_sort c_cnt c_fst c_snd c_let c_many c_ord v.1 v.2.1 v.2.2.1 v.2.2.2) (0, c_code, c_next, c_com)).bind fun y25 =>
some (y25.1, y25.2.1, y25.2.2)
set_option maxHeartbeats 8000000 in
set_option maxRecDepth 100000 in
theorem c_Model_look (l : Launch) (G : zG) (sz : Nat) (a_m a_mfst a_msnd a_mlet a_mmany a_mval a_mord a_mfree a_mcode a_mnext a_mcom a_mmet : Nat) (c_sort : Int32) (c_cnt : Int32) (c_frees : Int32) (c_cur : Int32) (c_thr : Int32) (c_fst : (Nat → Int64)) (c_snd : (Nat → Int64)) (c_let : (Nat → Int32)) (c_many : (Nat → Int32)) (c_val : (Nat → Int64)) (c_ord : (Nat → Int32)) (c_free : (Nat → Int32)) (c_code : (Nat → Int32)) (c_next : (Nat → Int32)) (c_com : (Nat → Int32)) (c_met : (Nat → Int32)) (r0 : ((Nat → Int32) × (Nat → Int32) × (Nat → Int32))) (hf : f_Model_look c_sort c_cnt c_fst c_snd c_let c_many c_ord c_code c_next c_com = some r0) :
    Met l y_Model_look (Cond.code y_Model_look prog_9_method_38_code 3 none :: lw_ok) { frames := 1, cells := 0, slots := 0, locals := 27 } (zPc G sz [.ref a_m] (wM G a_m a_mfst a_msnd a_mlet a_mmany a_mval a_mord a_mfree a_mcode a_mnext a_mcom a_mmet c_sort c_cnt c_frees c_cur c_thr c_fst c_snd c_let c_many c_val c_ord c_free c_code c_next c_com c_met))
      ((fun (A : Nat → Prop) => va_Qv (fun (_ : Unit) => True) (fun _ t => zB G A (wM G a_m a_mfst a_msnd a_mlet a_mmany a_mval a_mord a_mfree a_mcode a_mnext a_mcom a_mmet c_sort c_cnt c_frees c_cur c_thr c_fst c_snd c_let c_many c_val c_ord c_free r0.1 r0.2.1 r0.2.2 c_met) t) A) (va_A (wM G a_m a_mfst a_msnd a_mlet a_mmany a_mval a_mord a_mfree a_mcode a_mnext a_mcom a_mmet c_sort c_cnt c_frees c_cur c_thr c_fst c_snd c_let c_many c_val c_ord c_free c_code c_next c_com c_met) sz)) 0 0 (va_A (wM G a_m a_mfst a_msnd a_mlet a_mmany a_mval a_mord a_mfree a_mcode a_mnext a_mcom a_mmet c_sort c_cnt c_frees c_cur c_thr c_fst c_snd c_let c_many c_val c_ord c_free c_code c_next c_com c_met) sz) := by
  refine zMet (Qc := fun (A : Nat → Prop) => va_Qv (fun (_ : Unit) => True) (fun _ t => zB G A (wM G a_m a_mfst a_msnd a_mlet a_mmany a_mval a_mord a_mfree a_mcode a_mnext a_mcom a_mmet c_sort c_cnt c_frees c_cur c_thr c_fst c_snd c_let c_many c_val c_ord c_free r0.1 r0.2.1 r0.2.2 c_met) t) A) (by decide) (Nat.le_of_ble_eq_true rfl) (fun xp xe xs xm xb xme xc A ls Q H locs C hN hK hP hD hS hA hl hQ => ?_)
  obtain ⟨hx, hb, hr, hts, hown, hlocks, hml, hin⟩ := C
  have hl : lv_has ls 3 [(0, .ref a_m)] := hl
  have h := hf
  unfold f_Model_look at h
  refine lv_iconst (v := 0) hx hb d_Model_look_0 (by decide) ?_
  refine lv_istore_n (lv' := [(1, .int 0), (0, .ref a_m)]) hx hb d_Model_look_1 rfl hl (by decide) rfl (fun ls hl => ?_)
  obtain ⟨y5, hy5, h⟩ := ob h
  have E2 : ∀ (z22 : (Nat → Int32)) (z23 : (Nat → Int32)) (z24 : (Nat → Int32)), (z22, z23, z24) = y5 → ∀ (H : Heap) (locs : List Loc) (ls : Array Slot), va_P G.1 classes (wM G a_m a_mfst a_msnd a_mlet a_mmany a_mval a_mord a_mfree a_mcode a_mnext a_mcom a_mmet c_sort c_cnt c_frees c_cur c_thr c_fst c_snd c_let c_many c_val c_ord c_free z22 z23 z24 c_met) H → va_D A (wM G a_m a_mfst a_msnd a_mlet a_mmany a_mval a_mord a_mfree a_mcode a_mnext a_mcom a_mmet c_sort c_cnt c_frees c_cur c_thr c_fst c_snd c_let c_many c_val c_ord c_free z22 z23 z24 c_met) → va_S A xs.heap H locs → lv_has ls 3 [] → W xp l xe { frames := 1, cells := 0, slots := 0, locals := 27 } xs xm ([.ref a_m] : List Value).toArray xb xme xc H locs 0 0 Q (F0 xm 80 ls []) := by
    intro z22 z23 z24 ey H locs ls hP hD hS hl
    subst ey
    try dsimp only at h
    obtain rfl := Option.some.inj h
    exact zretv () hQ hS.2.2 hx hb hr hlocks hP hD hS trivial (Nat.le_refl _) (Nat.le_refl _) d_Model_look_80
  have L2 : ∀ v : (Int32 × (Nat → Int32) × (Nat → Int32) × (Nat → Int32)), lp (fun v => s_Model_look_2 c_sort c_cnt c_fst c_snd c_let c_many c_ord v.1 v.2.1 v.2.2.1 v.2.2.2) v = some y5 → ∀ (H : Heap) (locs : List Loc) (ls : Array Slot), va_P G.1 classes (wM G a_m a_mfst a_msnd a_mlet a_mmany a_mval a_mord a_mfree a_mcode a_mnext a_mcom a_mmet c_sort c_cnt c_frees c_cur c_thr c_fst c_snd c_let c_many c_val c_ord c_free v.2.1 v.2.2.1 v.2.2.2 c_met) H → va_D A (wM G a_m a_mfst a_msnd a_mlet a_mmany a_mval a_mord a_mfree a_mcode a_mnext a_mcom a_mmet c_sort c_cnt c_frees c_cur c_thr c_fst c_snd c_let c_many c_val c_ord c_free v.2.1 v.2.2.1 v.2.2.2 c_met) → va_S A xs.heap H locs → lv_has ls 3 [(0, .ref a_m), (1, .int v.1)] → W xp l xe { frames := 1, cells := 0, slots := 0, locals := 27 } xs xm ([.ref a_m] : List Value).toArray xb xme xc H locs 0 0 Q (F0 xm 2 ls []) := by
    refine lp_walk _ (fun v x h hc he => ?_)
    obtain ⟨x1_1, c2, c3, c4⟩ := v
    intro H locs ls hP hD hS hl
    have h : s_Model_look_2 c_sort c_cnt c_fst c_snd c_let c_many c_ord x1_1 c2 c3 c4 = some x := h
    unfold s_Model_look_2 at h
    refine lv_iload_n hx hb d_Model_look_2 rfl (lv_at hl 1 rfl) ?_
    refine lv_iconst (v := 1) hx hb d_Model_look_3 (by decide) ?_
    refine lv_iadd hx hb d_Model_look_4 ?_
    refine lv_aload_n hx hb d_Model_look_5 rfl (lv_at hl 0 rfl) ?_
    refine va_get (D := G.1) (ci := 6) (v := .int c_cnt) (C := "BranchStoreModel") (T := F_Model) (N := 16) hx hb hts i_Model hown hK hP 0 rfl rfl 7 (by decide) (hts _ k_777) (fun _ h9 => h9) rfl d_Model_look_6 ?_
    refine lv_icmp_ge (tgt := 80) hx hb d_Model_look_9 (by decide) (fun q6 => ?_) (fun q6 => ?_)
    · have h := it h q6
      exact E2 c2 c3 c4 (he _ (Option.some.inj h).symm) H locs ls hP hD hS (lv_sub hl [] rfl)
    · have h := ie h q6
      refine lv_aload_n hx hb d_Model_look_12 rfl (lv_at hl 0 rfl) ?_
      refine lv_aload_n hx hb d_Model_look_13 rfl (lv_at hl 0 rfl) ?_
      refine va_get (D := G.1) (ci := 6) (v := .ref a_mcode) (C := "BranchStoreModel") (T := F_Model) (N := 16) hx hb hts i_Model hown hK hP 0 rfl rfl 12 (by decide) (hts _ k_782) (fun _ h9 => h9) rfl d_Model_look_14 ?_
      refine lv_aload_n hx hb d_Model_look_17 rfl (lv_at hl 0 rfl) ?_
      refine va_get (D := G.1) (ci := 6) (v := .ref a_mord) (C := "BranchStoreModel") (T := F_Model) (N := 16) hx hb hts i_Model hown hK hP 0 rfl rfl 6 (by decide) (hts _ k_776) (fun _ h9 => h9) rfl d_Model_look_18 ?_
      refine lv_iload_n hx hb d_Model_look_21 rfl (lv_at hl 1 rfl) ?_
      obtain ⟨h7, h⟩ := gi_k h
      refine va_iald hx hb hK hP 6 0 rfl rfl h7 d_Model_look_22 ?_
      obtain ⟨r8, hr8, h⟩ := ob h
      refine zcalli (wr := []) (w2 := fun _ => (wM G a_m a_mfst a_msnd a_mlet a_mmany a_mval a_mord a_mfree a_mcode a_mnext a_mcom a_mmet c_sort c_cnt c_frees c_cur c_thr c_fst c_snd c_let c_many c_val c_ord c_free r8.2 c3 c4 c_met)) (zrunV (As := [.ref a_mcode, .int (c_ord x1_1.toNatClampNeg)]) (rest := []) ⟨hx, hb, hml, hown, hts⟩ hN hK (c_Model_encodeC l G H.size a_m a_mfst a_msnd a_mlet a_mmany a_mval a_mord a_mfree a_mcode a_mnext a_mcom a_mmet c_sort c_cnt c_frees c_cur c_thr c_fst c_snd c_let c_many c_val c_ord c_free c2 c3 c4 c_met (c_ord x1_1.toNatClampNeg) r8 hr8) ⟨rfl, rfl⟩ kv_Model_120 ⟨Nat.le_of_ble_eq_true rfl, Nat.le_of_ble_eq_true rfl⟩ 0 rfl rfl rfl hl.1 (Nat.le_of_ble_eq_true rfl) d_Model_look_23 ⟨Nat.le_of_ble_eq_true rfl, Nat.le_of_ble_eq_true rfl⟩) hP hD hS hA [0, 1, 2, 3, 4, 5, 6, 7, 8, 9, 10, 11] [] [0, 1, 2, 3, 4, 5, 6, 7, 8, 9, 10, 11] rfl rfl rfl rfl (by decide) rfl (fun _ => rfl) (fun rr _ H locs hw hP hD hS => ?_)
      have hw := hw.symm
      subst hw
      refine lv_pop hx hb d_Model_look_26 rfl ?_
      refine lv_aload_n hx hb d_Model_look_27 rfl (lv_at hl 0 rfl) ?_
      refine lv_aload_n hx hb d_Model_look_28 rfl (lv_at hl 0 rfl) ?_
      refine va_get (D := G.1) (ci := 6) (v := .ref a_mnext) (C := "BranchStoreModel") (T := F_Model) (N := 16) hx hb hts i_Model hown hK hP 0 rfl rfl 13 (by decide) (hts _ k_783) (fun _ h9 => h9) rfl d_Model_look_29 ?_
      refine lv_aload_n hx hb d_Model_look_32 rfl (lv_at hl 0 rfl) ?_
      refine va_get (D := G.1) (ci := 6) (v := .ref a_mord) (C := "BranchStoreModel") (T := F_Model) (N := 16) hx hb hts i_Model hown hK hP 0 rfl rfl 6 (by decide) (hts _ k_776) (fun _ h9 => h9) rfl d_Model_look_33 ?_
      refine lv_iload_n hx hb d_Model_look_36 rfl (lv_at hl 1 rfl) ?_
      refine lv_iconst (v := 1) hx hb d_Model_look_37 (by decide) ?_
      refine lv_iadd hx hb d_Model_look_38 ?_
      obtain ⟨h9, h⟩ := gi_k h
      refine va_iald hx hb hK hP 6 0 rfl rfl h9 d_Model_look_39 ?_
      obtain ⟨r10, hr10, h⟩ := ob h
      refine zcalli (wr := []) (w2 := fun _ => (wM G a_m a_mfst a_msnd a_mlet a_mmany a_mval a_mord a_mfree a_mcode a_mnext a_mcom a_mmet c_sort c_cnt c_frees c_cur c_thr c_fst c_snd c_let c_many c_val c_ord c_free r8.2 r10.2 c4 c_met)) (zrunV (As := [.ref a_mnext, .int (c_ord (x1_1 + 1).toNatClampNeg)]) (rest := []) ⟨hx, hb, hml, hown, hts⟩ hN hK (c_Model_encodeN l G H.size a_m a_mfst a_msnd a_mlet a_mmany a_mval a_mord a_mfree a_mcode a_mnext a_mcom a_mmet c_sort c_cnt c_frees c_cur c_thr c_fst c_snd c_let c_many c_val c_ord c_free r8.2 c3 c4 c_met (c_ord (x1_1 + 1).toNatClampNeg) r10 hr10) ⟨rfl, rfl⟩ kv_Model_120 ⟨Nat.le_of_ble_eq_true rfl, Nat.le_of_ble_eq_true rfl⟩ 0 rfl rfl rfl hl.1 (Nat.le_of_ble_eq_true rfl) d_Model_look_40 ⟨Nat.le_of_ble_eq_true rfl, Nat.le_of_ble_eq_true rfl⟩) hP hD hS hA [0, 1, 2, 3, 4, 5, 6, 7, 8, 9, 10, 11] [] [0, 1, 2, 3, 4, 5, 6, 7, 8, 9, 10, 11] rfl rfl rfl rfl (by decide) rfl (fun _ => rfl) (fun rr _ H locs hw hP hD hS => ?_)
      have hw := hw.symm
      subst hw
      refine lv_pop hx hb d_Model_look_43 rfl ?_
      refine lv_iconst (v := 0) hx hb d_Model_look_44 (by decide) ?_
      refine lv_istore_n (lv' := [(2, .int 0), (0, .ref a_m), (1, .int x1_1)]) hx hb d_Model_look_45 rfl hl (by decide) rfl (fun ls hl => ?_)
      obtain ⟨y12, hy12, h⟩ := ob h
      have E46 : ∀ (z17 : Int32), z17 = y12 → ∀ (H : Heap) (locs : List Loc) (ls : Array Slot), va_P G.1 classes (wM G a_m a_mfst a_msnd a_mlet a_mmany a_mval a_mord a_mfree a_mcode a_mnext a_mcom a_mmet c_sort c_cnt c_frees c_cur c_thr c_fst c_snd c_let c_many c_val c_ord c_free r8.2 r10.2 c4 c_met) H → va_D A (wM G a_m a_mfst a_msnd a_mlet a_mmany a_mval a_mord a_mfree a_mcode a_mnext a_mcom a_mmet c_sort c_cnt c_frees c_cur c_thr c_fst c_snd c_let c_many c_val c_ord c_free r8.2 r10.2 c4 c_met) → va_S A xs.heap H locs → lv_has ls 3 [(0, .ref a_m), (1, .int x1_1), (2, .int z17)] → W xp l xe { frames := 1, cells := 0, slots := 0, locals := 27 } xs xm ([.ref a_m] : List Value).toArray xb xme xc H locs 0 0 Q (F0 xm 67 ls []) := by
        intro z17 ey H locs ls hP hD hS hl
        subst ey
        try dsimp only at h
        refine lv_aload_n hx hb d_Model_look_67 rfl (lv_at hl 0 rfl) ?_
        refine va_get (D := G.1) (ci := 6) (v := .ref a_mcom) (C := "BranchStoreModel") (T := F_Model) (N := 16) hx hb hts i_Model hown hK hP 0 rfl rfl 14 (by decide) (hts _ k_784) (fun _ h9 => h9) rfl d_Model_look_68 ?_
        refine lv_iload_n hx hb d_Model_look_71 rfl (lv_at hl 1 rfl) ?_
        refine lv_iload_n hx hb d_Model_look_72 rfl (lv_at hl 2 rfl) ?_
        obtain ⟨h19, h⟩ := gi_k h
        refine va_iast hx hb hK hP hD hS 10 0 rfl rfl h19 d_Model_look_73 (fun H locs hP hD hS => ?_)
        obtain ⟨c20, ec20⟩ : ∃ y, y = upd c4 x1_1.toNatClampNeg z17 := ⟨_, rfl⟩
        have h := nm_k h c20 ec20
        have hP : va_P G.1 classes (wM G a_m a_mfst a_msnd a_mlet a_mmany a_mval a_mord a_mfree a_mcode a_mnext a_mcom a_mmet c_sort c_cnt c_frees c_cur c_thr c_fst c_snd c_let c_many c_val c_ord c_free r8.2 r10.2 c20 c_met) H := by rw [ec20]; exact hP
        have hD : va_D A (wM G a_m a_mfst a_msnd a_mlet a_mmany a_mval a_mord a_mfree a_mcode a_mnext a_mcom a_mmet c_sort c_cnt c_frees c_cur c_thr c_fst c_snd c_let c_many c_val c_ord c_free r8.2 r10.2 c20 c_met) := by rw [ec20]; exact hD
        obtain ⟨v21, ev21⟩ : ∃ y : Int32, y = x1_1 + 1 := ⟨_, rfl⟩
        have h := nm_k h v21 ev21
        refine lv_iinc (v := v21) (lv' := [(1, .int v21), (0, .ref a_m), (2, .int z17)]) hx hb d_Model_look_74 hl (k := 1) rfl (by rw [ev21]; rfl) (by decide) rfl (fun ls hl => ?_)
        refine lv_goto (tgt := 2) hx hb d_Model_look_77 (by decide) ?_
        exact hc _ (Option.some.inj h).symm H locs ls hP hD hS (lv_sub hl [1, 0] rfl)
      have L46 : ∀ v : Int32, lp (fun v => s_Model_look_46 r8.2 r10.2 v) v = some y12 → ∀ (H : Heap) (locs : List Loc) (ls : Array Slot), va_P G.1 classes (wM G a_m a_mfst a_msnd a_mlet a_mmany a_mval a_mord a_mfree a_mcode a_mnext a_mcom a_mmet c_sort c_cnt c_frees c_cur c_thr c_fst c_snd c_let c_many c_val c_ord c_free r8.2 r10.2 c4 c_met) H → va_D A (wM G a_m a_mfst a_msnd a_mlet a_mmany a_mval a_mord a_mfree a_mcode a_mnext a_mcom a_mmet c_sort c_cnt c_frees c_cur c_thr c_fst c_snd c_let c_many c_val c_ord c_free r8.2 r10.2 c4 c_met) → va_S A xs.heap H locs → lv_has ls 3 [(0, .ref a_m), (1, .int x1_1), (2, .int v)] → W xp l xe { frames := 1, cells := 0, slots := 0, locals := 27 } xs xm ([.ref a_m] : List Value).toArray xb xme xc H locs 0 0 Q (F0 xm 46 ls []) := by
        refine lp_walk _ (fun v x h hc he => ?_)
        obtain ⟨x2_11, rfl⟩ : ∃ z, z = v := ⟨_, rfl⟩
        intro H locs ls hP hD hS hl
        have h : s_Model_look_46 r8.2 r10.2 x2_11 = some x := h
        unfold s_Model_look_46 at h
        refine lv_aload_n hx hb d_Model_look_46 rfl (lv_at hl 0 rfl) ?_
        refine va_get (D := G.1) (ci := 6) (v := .ref a_mcode) (C := "BranchStoreModel") (T := F_Model) (N := 16) hx hb hts i_Model hown hK hP 0 rfl rfl 12 (by decide) (hts _ k_782) (fun _ h9 => h9) rfl d_Model_look_47 ?_
        refine lv_iload_n hx hb d_Model_look_50 rfl (lv_at hl 2 rfl) ?_
        obtain ⟨h13, h⟩ := gi_k h
        refine va_iald hx hb hK hP 8 0 rfl rfl h13 d_Model_look_51 ?_
        refine lv_aload_n hx hb d_Model_look_52 rfl (lv_at hl 0 rfl) ?_
        refine va_get (D := G.1) (ci := 6) (v := .ref a_mnext) (C := "BranchStoreModel") (T := F_Model) (N := 16) hx hb hts i_Model hown hK hP 0 rfl rfl 13 (by decide) (hts _ k_783) (fun _ h9 => h9) rfl d_Model_look_53 ?_
        refine lv_iload_n hx hb d_Model_look_56 rfl (lv_at hl 2 rfl) ?_
        obtain ⟨h14, h⟩ := gi_k h
        refine va_iald hx hb hK hP 9 0 rfl rfl h14 d_Model_look_57 ?_
        refine lv_icmp_ne (tgt := 67) hx hb d_Model_look_58 (by decide) (fun q15 => ?_) (fun q15 => ?_)
        · have h := ie h q15
          exact E46 x2_11 (he _ (Option.some.inj h).symm) H locs ls hP hD hS (lv_sub hl [0, 1, 2] rfl)
        · have h := it h q15
          obtain ⟨v16, ev16⟩ : ∃ y : Int32, y = x2_11 + 1 := ⟨_, rfl⟩
          have h := nm_k h v16 ev16
          refine lv_iinc (v := v16) (lv' := [(2, .int v16), (0, .ref a_m), (1, .int x1_1)]) hx hb d_Model_look_61 hl (k := 2) rfl (by rw [ev16]; rfl) (by decide) rfl (fun ls hl => ?_)
          refine lv_goto (tgt := 46) hx hb d_Model_look_64 (by decide) ?_
          exact hc _ (Option.some.inj h).symm H locs ls hP hD hS (lv_sub hl [1, 2, 0] rfl)
      exact L46 _ hy12 _ _ ls hP hD hS (lv_sub hl [1, 2, 0] rfl)
  exact L2 _ hy5 _ _ ls hP hD hS (lv_sub hl [1, 0] rfl)

noncomputable def s_Model_isFirst_4 (c_com : (Nat → Int32)) (x1 : Int32) (x2 : Int32) : Option (Int32 ⊕ Int32) :=
if x2 < 0 then
(some (.inr 1))
else
(gi x2 1500 <|
gi x1 1500 <|
if (c_com x2.toNatClampNeg) < (c_com x1.toNatClampNeg) then
(some (.inr 1))
else
(gi x2 1500 <|
gi x1 1500 <|
if (c_com x2.toNatClampNeg) = (c_com x1.toNatClampNeg) then
(some (.inr 0))
else
(nm (x2 + (-1)) fun v11 =>
some (.inl v11))))
noncomputable def f_Model_isFirst (c_com : (Nat → Int32)) (p_1 : Int32) : Option Int32 :=
nm (p_1 - 1) fun v1 =>
lp (fun v => s_Model_isFirst_4 c_com p_1 v) v1
set_option maxHeartbeats 8000000 in
set_option maxRecDepth 100000 in
theorem c_Model_isFirst (l : Launch) (G : zG) (sz : Nat) (a_m a_mfst a_msnd a_mlet a_mmany a_mval a_mord a_mfree a_mcode a_mnext a_mcom a_mmet : Nat) (c_sort : Int32) (c_cnt : Int32) (c_frees : Int32) (c_cur : Int32) (c_thr : Int32) (c_fst : (Nat → Int64)) (c_snd : (Nat → Int64)) (c_let : (Nat → Int32)) (c_many : (Nat → Int32)) (c_val : (Nat → Int64)) (c_ord : (Nat → Int32)) (c_free : (Nat → Int32)) (c_code : (Nat → Int32)) (c_next : (Nat → Int32)) (c_com : (Nat → Int32)) (c_met : (Nat → Int32)) (p_1 : Int32) (r0 : Int32) (hf : f_Model_isFirst c_com p_1 = some r0) :
    Met l y_Model_isFirst (Cond.code y_Model_isFirst prog_9_method_39_code 3 (some .boolean) :: lw_ok) { frames := 0, cells := 0, slots := 0, locals := 0 } (zPc G sz [.ref a_m, .int p_1] (wM G a_m a_mfst a_msnd a_mlet a_mmany a_mval a_mord a_mfree a_mcode a_mnext a_mcom a_mmet c_sort c_cnt c_frees c_cur c_thr c_fst c_snd c_let c_many c_val c_ord c_free c_code c_next c_com c_met))
      ((fun (A : Nat → Prop) => va_Qi (fun (r : Int32) (_ : Unit) => r = r0 ∧ narrow .boolean (.int r) = .int r) (fun _ t => zB G A (wM G a_m a_mfst a_msnd a_mlet a_mmany a_mval a_mord a_mfree a_mcode a_mnext a_mcom a_mmet c_sort c_cnt c_frees c_cur c_thr c_fst c_snd c_let c_many c_val c_ord c_free c_code c_next c_com c_met) t) A) (va_A (wM G a_m a_mfst a_msnd a_mlet a_mmany a_mval a_mord a_mfree a_mcode a_mnext a_mcom a_mmet c_sort c_cnt c_frees c_cur c_thr c_fst c_snd c_let c_many c_val c_ord c_free c_code c_next c_com c_met) sz)) 0 0 (fun q => sz ≤ q) := by
  refine zMetR (Qc := fun (A : Nat → Prop) => va_Qi (fun (r : Int32) (_ : Unit) => r = r0 ∧ narrow .boolean (.int r) = .int r) (fun _ t => zB G A (wM G a_m a_mfst a_msnd a_mlet a_mmany a_mval a_mord a_mfree a_mcode a_mnext a_mcom a_mmet c_sort c_cnt c_frees c_cur c_thr c_fst c_snd c_let c_many c_val c_ord c_free c_code c_next c_com c_met) t) A) (by decide) (Nat.le_of_ble_eq_true rfl) (fun xp xe xs xm xb xme xc A ls Q H locs C hN hK hP hD hS hL hA hl hQ => ?_)
  obtain ⟨hx, hb, hr, hts, hown, hlocks, hml, hin⟩ := C
  have hl : lv_has ls 3 [(0, .ref a_m), (1, .int p_1)] := hl
  have h := hf
  unfold f_Model_isFirst at h
  refine lv_iload_n hx hb d_Model_isFirst_0 rfl (lv_at hl 1 rfl) ?_
  refine lv_iconst (v := 1) hx hb d_Model_isFirst_1 (by decide) ?_
  refine lv_isub hx hb d_Model_isFirst_2 ?_
  refine lv_topi (fun v1 ev1 => ?_)
  have h := nm_k h v1 ev1
  refine lv_istore_n (lv' := [(2, .int v1), (0, .ref a_m), (1, .int p_1)]) hx hb d_Model_isFirst_3 rfl hl (by decide) rfl (fun ls hl => ?_)
  have L4 : ∀ v : Int32, lp (fun v => s_Model_isFirst_4 c_com p_1 v) v = some r0 → ∀ (H : Heap) (locs : List Loc) (ls : Array Slot), va_P G.1 classes (wM G a_m a_mfst a_msnd a_mlet a_mmany a_mval a_mord a_mfree a_mcode a_mnext a_mcom a_mmet c_sort c_cnt c_frees c_cur c_thr c_fst c_snd c_let c_many c_val c_ord c_free c_code c_next c_com c_met) H → va_D A (wM G a_m a_mfst a_msnd a_mlet a_mmany a_mval a_mord a_mfree a_mcode a_mnext a_mcom a_mmet c_sort c_cnt c_frees c_cur c_thr c_fst c_snd c_let c_many c_val c_ord c_free c_code c_next c_com c_met) → va_S A xs.heap H locs → (∀ q ∈ locs, xs.heap.size ≤ q.base) → lv_has ls 3 [(0, .ref a_m), (1, .int p_1), (2, .int v)] → W xp l xe { frames := 0, cells := 0, slots := 0, locals := 0 } xs xm ([.ref a_m, .int p_1] : List Value).toArray xb xme xc H locs 0 0 Q (F0 xm 4 ls []) := by
    refine lp_walk _ (fun v x h hc he => ?_)
    obtain ⟨x2_2, rfl⟩ : ∃ z, z = v := ⟨_, rfl⟩
    intro H locs ls hP hD hS hL hl
    have h : s_Model_isFirst_4 c_com p_1 x2_2 = some x := h
    unfold s_Model_isFirst_4 at h
    refine lv_iload_n hx hb d_Model_isFirst_4 rfl (lv_at hl 2 rfl) ?_
    refine lv_if_lt (tgt := 46) hx hb d_Model_isFirst_5 (by decide) (fun q4 => ?_) (fun q4 => ?_)
    · have h := it h q4
      refine lv_iconst (v := 1) hx hb d_Model_isFirst_46 (by decide) ?_
      obtain rfl := he _ (Option.some.inj h).symm
      exact zretz () hQ hL hx hb hr hlocks hP hD hS ⟨rfl, rfl⟩ (Nat.le_refl _) (Nat.le_refl _) d_Model_isFirst_47 rfl
    · have h := ie h q4
      refine lv_aload_n hx hb d_Model_isFirst_8 rfl (lv_at hl 0 rfl) ?_
      refine va_get (D := G.1) (ci := 6) (v := .ref a_mcom) (C := "BranchStoreModel") (T := F_Model) (N := 16) hx hb hts i_Model hown hK hP 0 rfl rfl 14 (by decide) (hts _ k_784) (fun _ h9 => h9) rfl d_Model_isFirst_9 ?_
      refine lv_iload_n hx hb d_Model_isFirst_12 rfl (lv_at hl 2 rfl) ?_
      obtain ⟨h5, h⟩ := gi_k h
      refine va_iald hx hb hK hP 10 0 rfl rfl h5 d_Model_isFirst_13 ?_
      refine lv_aload_n hx hb d_Model_isFirst_14 rfl (lv_at hl 0 rfl) ?_
      refine va_get (D := G.1) (ci := 6) (v := .ref a_mcom) (C := "BranchStoreModel") (T := F_Model) (N := 16) hx hb hts i_Model hown hK hP 0 rfl rfl 14 (by decide) (hts _ k_784) (fun _ h9 => h9) rfl d_Model_isFirst_15 ?_
      refine lv_iload_n hx hb d_Model_isFirst_18 rfl (lv_at hl 1 rfl) ?_
      obtain ⟨h6, h⟩ := gi_k h
      refine va_iald hx hb hK hP 10 0 rfl rfl h6 d_Model_isFirst_19 ?_
      refine lv_icmp_lt (tgt := 46) hx hb d_Model_isFirst_20 (by decide) (fun q7 => ?_) (fun q7 => ?_)
      · have h := it h q7
        refine lv_iconst (v := 1) hx hb d_Model_isFirst_46 (by decide) ?_
        obtain rfl := he _ (Option.some.inj h).symm
        exact zretz () hQ hL hx hb hr hlocks hP hD hS ⟨rfl, rfl⟩ (Nat.le_refl _) (Nat.le_refl _) d_Model_isFirst_47 rfl
      · have h := ie h q7
        refine lv_aload_n hx hb d_Model_isFirst_23 rfl (lv_at hl 0 rfl) ?_
        refine va_get (D := G.1) (ci := 6) (v := .ref a_mcom) (C := "BranchStoreModel") (T := F_Model) (N := 16) hx hb hts i_Model hown hK hP 0 rfl rfl 14 (by decide) (hts _ k_784) (fun _ h9 => h9) rfl d_Model_isFirst_24 ?_
        refine lv_iload_n hx hb d_Model_isFirst_27 rfl (lv_at hl 2 rfl) ?_
        obtain ⟨h8, h⟩ := gi_k h
        refine va_iald hx hb hK hP 10 0 rfl rfl h8 d_Model_isFirst_28 ?_
        refine lv_aload_n hx hb d_Model_isFirst_29 rfl (lv_at hl 0 rfl) ?_
        refine va_get (D := G.1) (ci := 6) (v := .ref a_mcom) (C := "BranchStoreModel") (T := F_Model) (N := 16) hx hb hts i_Model hown hK hP 0 rfl rfl 14 (by decide) (hts _ k_784) (fun _ h9 => h9) rfl d_Model_isFirst_30 ?_
        refine lv_iload_n hx hb d_Model_isFirst_33 rfl (lv_at hl 1 rfl) ?_
        obtain ⟨h9, h⟩ := gi_k h
        refine va_iald hx hb hK hP 10 0 rfl rfl h9 d_Model_isFirst_34 ?_
        refine lv_icmp_ne (tgt := 40) hx hb d_Model_isFirst_35 (by decide) (fun q10 => ?_) (fun q10 => ?_)
        · have h := ie h q10
          obtain ⟨v11, ev11⟩ : ∃ y : Int32, y = x2_2 + (-1) := ⟨_, rfl⟩
          have h := nm_k h v11 ev11
          refine lv_iinc (v := v11) (lv' := [(2, .int v11), (0, .ref a_m), (1, .int p_1)]) hx hb d_Model_isFirst_40 hl (k := 2) rfl (by rw [ev11]; rfl) (by decide) rfl (fun ls hl => ?_)
          refine lv_goto (tgt := 4) hx hb d_Model_isFirst_43 (by decide) ?_
          exact hc _ (Option.some.inj h).symm H locs ls hP hD hS hL (lv_sub hl [1, 2, 0] rfl)
        · have h := it h q10
          refine lv_iconst (v := 0) hx hb d_Model_isFirst_38 (by decide) ?_
          obtain rfl := he _ (Option.some.inj h).symm
          exact zretz () hQ hL hx hb hr hlocks hP hD hS ⟨rfl, rfl⟩ (Nat.le_refl _) (Nat.le_refl _) d_Model_isFirst_39 rfl
  exact L4 _ h _ _ ls hP hD hS hL (lv_sub hl [1, 2, 0] rfl)

noncomputable def s_Model_children_6 (c_cnt : Int32) (c_com : (Nat → Int32)) (x1 : Int32) (x2 : Int32) (x3 : Int32) : Option ((Int32 × Int32) ⊕ Int32) :=
if c_cnt ≤ (x3 + 1) then
(some (.inr x2))
else
(gi x3 1500 <|
gi x1 1500 <|
if (c_com x3.toNatClampNeg) < (c_com x1.toNatClampNeg) then
(some (.inr x2))
else
(gi x3 1500 <|
gi x1 1500 <|
(if (c_com x3.toNatClampNeg) = (c_com x1.toNatClampNeg) then
(some 1)
else
(some 0)).bind fun y14 =>
nm (x2 + y14) fun v16 =>
nm (x3 + 1) fun v17 =>
some (.inl (v16, v17))))
noncomputable def f_Model_children (c_cnt : Int32) (c_com : (Nat → Int32)) (p_1 : Int32) : Option Int32 :=
nm (p_1 + 1) fun v1 =>
(lp (fun v => s_Model_children_6 c_cnt c_com p_1 v.1 v.2) (2, v1)).bind fun y19 =>
some y19
set_option maxHeartbeats 8000000 in
set_option maxRecDepth 100000 in
theorem c_Model_children (l : Launch) (G : zG) (sz : Nat) (a_m a_mfst a_msnd a_mlet a_mmany a_mval a_mord a_mfree a_mcode a_mnext a_mcom a_mmet : Nat) (c_sort : Int32) (c_cnt : Int32) (c_frees : Int32) (c_cur : Int32) (c_thr : Int32) (c_fst : (Nat → Int64)) (c_snd : (Nat → Int64)) (c_let : (Nat → Int32)) (c_many : (Nat → Int32)) (c_val : (Nat → Int64)) (c_ord : (Nat → Int32)) (c_free : (Nat → Int32)) (c_code : (Nat → Int32)) (c_next : (Nat → Int32)) (c_com : (Nat → Int32)) (c_met : (Nat → Int32)) (p_1 : Int32) (r0 : Int32) (hf : f_Model_children c_cnt c_com p_1 = some r0) :
    Met l y_Model_children (Cond.code y_Model_children prog_9_method_40_code 4 (some .int) :: lw_ok) { frames := 0, cells := 0, slots := 0, locals := 0 } (zPc G sz [.ref a_m, .int p_1] (wM G a_m a_mfst a_msnd a_mlet a_mmany a_mval a_mord a_mfree a_mcode a_mnext a_mcom a_mmet c_sort c_cnt c_frees c_cur c_thr c_fst c_snd c_let c_many c_val c_ord c_free c_code c_next c_com c_met))
      ((fun (A : Nat → Prop) => va_Qi (fun (r : Int32) (_ : Unit) => r = r0) (fun _ t => zB G A (wM G a_m a_mfst a_msnd a_mlet a_mmany a_mval a_mord a_mfree a_mcode a_mnext a_mcom a_mmet c_sort c_cnt c_frees c_cur c_thr c_fst c_snd c_let c_many c_val c_ord c_free c_code c_next c_com c_met) t) A) (va_A (wM G a_m a_mfst a_msnd a_mlet a_mmany a_mval a_mord a_mfree a_mcode a_mnext a_mcom a_mmet c_sort c_cnt c_frees c_cur c_thr c_fst c_snd c_let c_many c_val c_ord c_free c_code c_next c_com c_met) sz)) 0 0 (fun q => sz ≤ q) := by
  refine zMetR (Qc := fun (A : Nat → Prop) => va_Qi (fun (r : Int32) (_ : Unit) => r = r0) (fun _ t => zB G A (wM G a_m a_mfst a_msnd a_mlet a_mmany a_mval a_mord a_mfree a_mcode a_mnext a_mcom a_mmet c_sort c_cnt c_frees c_cur c_thr c_fst c_snd c_let c_many c_val c_ord c_free c_code c_next c_com c_met) t) A) (by decide) (Nat.le_of_ble_eq_true rfl) (fun xp xe xs xm xb xme xc A ls Q H locs C hN hK hP hD hS hL hA hl hQ => ?_)
  obtain ⟨hx, hb, hr, hts, hown, hlocks, hml, hin⟩ := C
  have hl : lv_has ls 4 [(0, .ref a_m), (1, .int p_1)] := hl
  have h := hf
  unfold f_Model_children at h
  refine lv_iconst (v := 2) hx hb d_Model_children_0 (by decide) ?_
  refine lv_istore_n (lv' := [(2, .int 2), (0, .ref a_m), (1, .int p_1)]) hx hb d_Model_children_1 rfl hl (by decide) rfl (fun ls hl => ?_)
  refine lv_iload_n hx hb d_Model_children_2 rfl (lv_at hl 2 rfl) ?_
  refine lv_iconst (v := 1) hx hb d_Model_children_3 (by decide) ?_
  refine lv_iadd hx hb d_Model_children_4 ?_
  refine lv_topi (fun v1 ev1 => ?_)
  have h := nm_k h v1 ev1
  refine lv_istore_n (lv' := [(3, .int v1), (2, .int 2), (0, .ref a_m), (1, .int p_1)]) hx hb d_Model_children_5 rfl hl (by decide) rfl (fun ls hl => ?_)
  obtain ⟨y4, hy4, h⟩ := ob h
  have E6 : ∀ (z18 : Int32), z18 = y4 → ∀ (H : Heap) (locs : List Loc) (ls : Array Slot), va_P G.1 classes (wM G a_m a_mfst a_msnd a_mlet a_mmany a_mval a_mord a_mfree a_mcode a_mnext a_mcom a_mmet c_sort c_cnt c_frees c_cur c_thr c_fst c_snd c_let c_many c_val c_ord c_free c_code c_next c_com c_met) H → va_D A (wM G a_m a_mfst a_msnd a_mlet a_mmany a_mval a_mord a_mfree a_mcode a_mnext a_mcom a_mmet c_sort c_cnt c_frees c_cur c_thr c_fst c_snd c_let c_many c_val c_ord c_free c_code c_next c_com c_met) → va_S A xs.heap H locs → (∀ q ∈ locs, xs.heap.size ≤ q.base) → lv_has ls 4 [(2, .int z18)] → W xp l xe { frames := 0, cells := 0, slots := 0, locals := 0 } xs xm ([.ref a_m, .int p_1] : List Value).toArray xb xme xc H locs 0 0 Q (F0 xm 60 ls []) := by
    intro z18 ey H locs ls hP hD hS hL hl
    subst ey
    try dsimp only at h
    refine lv_iload_n hx hb d_Model_children_60 rfl (lv_at hl 0 rfl) ?_
    obtain rfl := Option.some.inj h
    exact zreti () hQ hL hx hb hr hlocks hP hD hS rfl (Nat.le_refl _) (Nat.le_refl _) d_Model_children_61
  have L6 : ∀ v : (Int32 × Int32), lp (fun v => s_Model_children_6 c_cnt c_com p_1 v.1 v.2) v = some y4 → ∀ (H : Heap) (locs : List Loc) (ls : Array Slot), va_P G.1 classes (wM G a_m a_mfst a_msnd a_mlet a_mmany a_mval a_mord a_mfree a_mcode a_mnext a_mcom a_mmet c_sort c_cnt c_frees c_cur c_thr c_fst c_snd c_let c_many c_val c_ord c_free c_code c_next c_com c_met) H → va_D A (wM G a_m a_mfst a_msnd a_mlet a_mmany a_mval a_mord a_mfree a_mcode a_mnext a_mcom a_mmet c_sort c_cnt c_frees c_cur c_thr c_fst c_snd c_let c_many c_val c_ord c_free c_code c_next c_com c_met) → va_S A xs.heap H locs → (∀ q ∈ locs, xs.heap.size ≤ q.base) → lv_has ls 4 [(0, .ref a_m), (1, .int p_1), (2, .int v.1), (3, .int v.2)] → W xp l xe { frames := 0, cells := 0, slots := 0, locals := 0 } xs xm ([.ref a_m, .int p_1] : List Value).toArray xb xme xc H locs 0 0 Q (F0 xm 6 ls []) := by
    refine lp_walk _ (fun v x h hc he => ?_)
    obtain ⟨x2_2, x3_3⟩ := v
    intro H locs ls hP hD hS hL hl
    have h : s_Model_children_6 c_cnt c_com p_1 x2_2 x3_3 = some x := h
    unfold s_Model_children_6 at h
    refine lv_iload_n hx hb d_Model_children_6 rfl (lv_at hl 3 rfl) ?_
    refine lv_iconst (v := 1) hx hb d_Model_children_7 (by decide) ?_
    refine lv_iadd hx hb d_Model_children_8 ?_
    refine lv_aload_n hx hb d_Model_children_9 rfl (lv_at hl 0 rfl) ?_
    refine va_get (D := G.1) (ci := 6) (v := .int c_cnt) (C := "BranchStoreModel") (T := F_Model) (N := 16) hx hb hts i_Model hown hK hP 0 rfl rfl 7 (by decide) (hts _ k_777) (fun _ h9 => h9) rfl d_Model_children_10 ?_
    refine lv_icmp_ge (tgt := 60) hx hb d_Model_children_13 (by decide) (fun q5 => ?_) (fun q5 => ?_)
    · have h := it h q5
      exact E6 x2_2 (he _ (Option.some.inj h).symm) H locs ls hP hD hS hL (lv_sub hl [2] rfl)
    · have h := ie h q5
      refine lv_aload_n hx hb d_Model_children_16 rfl (lv_at hl 0 rfl) ?_
      refine va_get (D := G.1) (ci := 6) (v := .ref a_mcom) (C := "BranchStoreModel") (T := F_Model) (N := 16) hx hb hts i_Model hown hK hP 0 rfl rfl 14 (by decide) (hts _ k_784) (fun _ h9 => h9) rfl d_Model_children_17 ?_
      refine lv_iload_n hx hb d_Model_children_20 rfl (lv_at hl 3 rfl) ?_
      obtain ⟨h6, h⟩ := gi_k h
      refine va_iald hx hb hK hP 10 0 rfl rfl h6 d_Model_children_21 ?_
      refine lv_aload_n hx hb d_Model_children_22 rfl (lv_at hl 0 rfl) ?_
      refine va_get (D := G.1) (ci := 6) (v := .ref a_mcom) (C := "BranchStoreModel") (T := F_Model) (N := 16) hx hb hts i_Model hown hK hP 0 rfl rfl 14 (by decide) (hts _ k_784) (fun _ h9 => h9) rfl d_Model_children_23 ?_
      refine lv_iload_n hx hb d_Model_children_26 rfl (lv_at hl 1 rfl) ?_
      obtain ⟨h7, h⟩ := gi_k h
      refine va_iald hx hb hK hP 10 0 rfl rfl h7 d_Model_children_27 ?_
      refine lv_icmp_lt (tgt := 60) hx hb d_Model_children_28 (by decide) (fun q8 => ?_) (fun q8 => ?_)
      · have h := it h q8
        exact E6 x2_2 (he _ (Option.some.inj h).symm) H locs ls hP hD hS hL (lv_sub hl [2] rfl)
      · have h := ie h q8
        refine lv_iload_n hx hb d_Model_children_31 rfl (lv_at hl 2 rfl) ?_
        refine lv_aload_n hx hb d_Model_children_32 rfl (lv_at hl 0 rfl) ?_
        refine va_get (D := G.1) (ci := 6) (v := .ref a_mcom) (C := "BranchStoreModel") (T := F_Model) (N := 16) hx hb hts i_Model hown hK hP 0 rfl rfl 14 (by decide) (hts _ k_784) (fun _ h9 => h9) rfl d_Model_children_33 ?_
        refine lv_iload_n hx hb d_Model_children_36 rfl (lv_at hl 3 rfl) ?_
        obtain ⟨h9, h⟩ := gi_k h
        refine va_iald hx hb hK hP 10 0 rfl rfl h9 d_Model_children_37 ?_
        refine lv_aload_n hx hb d_Model_children_38 rfl (lv_at hl 0 rfl) ?_
        refine va_get (D := G.1) (ci := 6) (v := .ref a_mcom) (C := "BranchStoreModel") (T := F_Model) (N := 16) hx hb hts i_Model hown hK hP 0 rfl rfl 14 (by decide) (hts _ k_784) (fun _ h9 => h9) rfl d_Model_children_39 ?_
        refine lv_iload_n hx hb d_Model_children_42 rfl (lv_at hl 1 rfl) ?_
        obtain ⟨h10, h⟩ := gi_k h
        refine va_iald hx hb hK hP 10 0 rfl rfl h10 d_Model_children_43 ?_
        obtain ⟨y13, hy13, h⟩ := ob h
        have J52 : ∀ (z15 : Int32), narrow .boolean (.int z15) = .int z15 → z15 = y13 → ∀ (H : Heap) (locs : List Loc) (ls : Array Slot), va_P G.1 classes (wM G a_m a_mfst a_msnd a_mlet a_mmany a_mval a_mord a_mfree a_mcode a_mnext a_mcom a_mmet c_sort c_cnt c_frees c_cur c_thr c_fst c_snd c_let c_many c_val c_ord c_free c_code c_next c_com c_met) H → va_D A (wM G a_m a_mfst a_msnd a_mlet a_mmany a_mval a_mord a_mfree a_mcode a_mnext a_mcom a_mmet c_sort c_cnt c_frees c_cur c_thr c_fst c_snd c_let c_many c_val c_ord c_free c_code c_next c_com c_met) → va_S A xs.heap H locs → (∀ q ∈ locs, xs.heap.size ≤ q.base) → lv_has ls 4 [(0, .ref a_m), (1, .int p_1), (3, .int x3_3)] → W xp l xe { frames := 0, cells := 0, slots := 0, locals := 0 } xs xm ([.ref a_m, .int p_1] : List Value).toArray xb xme xc H locs 0 0 Q (F0 xm 52 ls [.int z15, .int x2_2]) := by
          intro z15 hzz15 ey H locs ls hP hD hS hL hl
          subst ey
          try dsimp only at h
          refine lv_iadd hx hb d_Model_children_52 ?_
          refine lv_topi (fun v16 ev16 => ?_)
          have h := nm_k h v16 ev16
          refine lv_istore_n (lv' := [(2, .int v16), (0, .ref a_m), (1, .int p_1), (3, .int x3_3)]) hx hb d_Model_children_53 rfl hl (by decide) rfl (fun ls hl => ?_)
          obtain ⟨v17, ev17⟩ : ∃ y : Int32, y = x3_3 + 1 := ⟨_, rfl⟩
          have h := nm_k h v17 ev17
          refine lv_iinc (v := v17) (lv' := [(3, .int v17), (2, .int v16), (0, .ref a_m), (1, .int p_1)]) hx hb d_Model_children_54 hl (k := 3) rfl (by rw [ev17]; rfl) (by decide) rfl (fun ls hl => ?_)
          refine lv_goto (tgt := 6) hx hb d_Model_children_57 (by decide) ?_
          exact hc _ (Option.some.inj h).symm H locs ls hP hD hS hL (lv_sub hl [2, 3, 1, 0] rfl)
        have h := hy13
        refine lv_icmp_ne (tgt := 51) hx hb d_Model_children_44 (by decide) (fun q12 => ?_) (fun q12 => ?_)
        · have h := ie h q12
          refine lv_iconst (v := 0) hx hb d_Model_children_51 (by decide) ?_
          exact J52 0 rfl (Option.some.inj h) H locs ls hP hD hS hL (lv_sub hl [0, 1, 3] rfl)
        · have h := it h q12
          refine lv_iconst (v := 1) hx hb d_Model_children_47 (by decide) ?_
          refine lv_goto (tgt := 52) hx hb d_Model_children_48 (by decide) ?_
          exact J52 1 rfl (Option.some.inj h) H locs ls hP hD hS hL (lv_sub hl [0, 1, 3] rfl)
  exact L6 _ hy4 _ _ ls hP hD hS hL (lv_sub hl [2, 3, 1, 0] rfl)

noncomputable def f_Model_sizeOf  (p_0 : Int32) : Option Int32 :=
if 5 ≤ p_0 then
(if 17 ≤ p_0 then
(if 49 ≤ p_0 then
(some 3)
else
(some 2))
else
(some 1))
else
(some 0)
set_option maxHeartbeats 8000000 in
set_option maxRecDepth 100000 in
theorem c_Model_sizeOf (l : Launch) (G : zG) (sz : Nat) (p_0 : Int32) (r0 : Int32) (hf : f_Model_sizeOf p_0 = some r0) :
    Met l y_Model_sizeOf (Cond.code y_Model_sizeOf prog_9_method_41_code 1 (some .int) :: lw_ok) { frames := 0, cells := 0, slots := 0, locals := 0 } (zPc G sz [.int p_0] ([] : va_W))
      ((fun (A : Nat → Prop) => va_Qi (fun (r : Int32) (_ : Unit) => r = r0) (fun _ t => zB G A ([] : va_W) t) A) (va_A ([] : va_W) sz)) 0 0 (fun q => sz ≤ q) := by
  refine zMetR (Qc := fun (A : Nat → Prop) => va_Qi (fun (r : Int32) (_ : Unit) => r = r0) (fun _ t => zB G A ([] : va_W) t) A) (by decide) (Nat.le_of_ble_eq_true rfl) (fun xp xe xs xm xb xme xc A ls Q H locs C hN hK hP hD hS hL hA hl hQ => ?_)
  obtain ⟨hx, hb, hr, hts, hown, hlocks, hml, hin⟩ := C
  have hl : lv_has ls 1 [(0, .int p_0)] := hl
  have h := hf
  unfold f_Model_sizeOf at h
  refine lv_iload_n hx hb d_Model_sizeOf_0 rfl (lv_at hl 0 rfl) ?_
  refine lv_iconst (v := 5) hx hb d_Model_sizeOf_1 (by decide) ?_
  refine lv_icmp_ge (tgt := 9) hx hb d_Model_sizeOf_2 (by decide) (fun q1 => ?_) (fun q1 => ?_)
  · have h := it h q1
    refine lv_iload_n hx hb d_Model_sizeOf_9 rfl (lv_at hl 0 rfl) ?_
    refine lv_bipush (v := 17) hx hb d_Model_sizeOf_10 (by decide) ?_
    refine lv_icmp_ge (tgt := 19) hx hb d_Model_sizeOf_12 (by decide) (fun q2 => ?_) (fun q2 => ?_)
    · have h := it h q2
      refine lv_iload_n hx hb d_Model_sizeOf_19 rfl (lv_at hl 0 rfl) ?_
      refine lv_bipush (v := 49) hx hb d_Model_sizeOf_20 (by decide) ?_
      refine lv_icmp_ge (tgt := 29) hx hb d_Model_sizeOf_22 (by decide) (fun q3 => ?_) (fun q3 => ?_)
      · have h := it h q3
        refine lv_iconst (v := 3) hx hb d_Model_sizeOf_29 (by decide) ?_
        obtain rfl := Option.some.inj h
        exact zreti () hQ hL hx hb hr hlocks hP hD hS rfl (Nat.le_refl _) (Nat.le_refl _) d_Model_sizeOf_30
      · have h := ie h q3
        refine lv_iconst (v := 2) hx hb d_Model_sizeOf_25 (by decide) ?_
        refine lv_goto (tgt := 30) hx hb d_Model_sizeOf_26 (by decide) ?_
        obtain rfl := Option.some.inj h
        exact zreti () hQ hL hx hb hr hlocks hP hD hS rfl (Nat.le_refl _) (Nat.le_refl _) d_Model_sizeOf_30
    · have h := ie h q2
      refine lv_iconst (v := 1) hx hb d_Model_sizeOf_15 (by decide) ?_
      refine lv_goto (tgt := 30) hx hb d_Model_sizeOf_16 (by decide) ?_
      obtain rfl := Option.some.inj h
      exact zreti () hQ hL hx hb hr hlocks hP hD hS rfl (Nat.le_refl _) (Nat.le_refl _) d_Model_sizeOf_30
  · have h := ie h q1
    refine lv_iconst (v := 0) hx hb d_Model_sizeOf_5 (by decide) ?_
    refine lv_goto (tgt := 30) hx hb d_Model_sizeOf_6 (by decide) ?_
    obtain rfl := Option.some.inj h
    exact zreti () hQ hL hx hb hr hlocks hP hD hS rfl (Nat.le_refl _) (Nat.le_refl _) d_Model_sizeOf_30

noncomputable def s_Model_depth_2 (x2 : Int32) (c_met : (Nat → Int32)) : Option ((Int32 × (Nat → Int32)) ⊕ (Nat → Int32)) :=
if 50 ≤ x2 then
(some (.inr c_met))
else
(gi x2 50 <|
nm (upd c_met x2.toNatClampNeg 0) fun c6 =>
nm (x2 + 1) fun v7 =>
some (.inl (v7, c6)))
noncomputable def s_Model_depth_26 (c_cnt : Int32) (c_com : (Nat → Int32)) (x2 : Int32) (x3 : Int32) (c_met : (Nat → Int32)) : Option ((Int32 × Int32 × (Nat → Int32)) ⊕ (Nat → Int32)) :=
if c_cnt ≤ (x3 + 1) then
(some (.inr c_met))
else
(if x2 ≤ 0 then
(some (.inr c_met))
else
(gi x3 1500 <|
(if x2 ≤ (c_com x3.toNatClampNeg) then
(some x2)
else
(gi x3 1500 <|
some (c_com x3.toNatClampNeg))).bind fun y21 =>
gi y21 50 <|
nm (upd c_met y21.toNatClampNeg 1) fun c24 =>
nm (x3 + 1) fun v25 =>
some (.inl (y21, v25, c24))))
noncomputable def s_Model_depth_81 (c_com : (Nat → Int32)) (x2 : Int32) (x3 : Int32) (c_met : (Nat → Int32)) : Option ((Int32 × Int32 × (Nat → Int32)) ⊕ (Nat → Int32)) :=
if x3 < 0 then
(some (.inr c_met))
else
(if x2 ≤ 0 then
(some (.inr c_met))
else
(gi x3 1500 <|
(if x2 ≤ (c_com x3.toNatClampNeg) then
(some x2)
else
(gi x3 1500 <|
some (c_com x3.toNatClampNeg))).bind fun y40 =>
gi y40 50 <|
nm (upd c_met y40.toNatClampNeg 1) fun c43 =>
nm (x3 + (-1)) fun v44 =>
some (.inl (y40, v44, c43))))
noncomputable def s_Model_depth_128 (c_met : (Nat → Int32)) (x3 : Int32) (x4 : Int32) : Option ((Int32 × Int32) ⊕ Int32) :=
if 50 ≤ x4 then
(some (.inr x3))
else
(gi x4 50 <|
nm (x3 + (c_met x4.toNatClampNeg)) fun v52 =>
nm (x4 + 1) fun v53 =>
some (.inl (v52, v53)))
noncomputable def f_Model_depth (c_cnt : Int32) (c_com : (Nat → Int32)) (c_met : (Nat → Int32)) (p_1 : Int32) : Option (Int32 × (Nat → Int32)) :=
(lp (fun v => s_Model_depth_2 v.1 v.2) (0, c_met)).bind fun y9 =>
(lp (fun v => s_Model_depth_26 c_cnt c_com v.1 v.2.1 v.2.2) (50, p_1, y9)).bind fun y27 =>
nm (p_1 - 1) fun v28 =>
(lp (fun v => s_Model_depth_81 c_com v.1 v.2.1 v.2.2) (50, v28, y27)).bind fun y46 =>
(lp (fun v => s_Model_depth_128 y46 v.1 v.2) (0, 0)).bind fun y55 =>
some (y55, y46)
set_option maxHeartbeats 8000000 in
set_option maxRecDepth 100000 in
theorem c_Model_depth (l : Launch) (G : zG) (sz : Nat) (a_m a_mfst a_msnd a_mlet a_mmany a_mval a_mord a_mfree a_mcode a_mnext a_mcom a_mmet : Nat) (c_sort : Int32) (c_cnt : Int32) (c_frees : Int32) (c_cur : Int32) (c_thr : Int32) (c_fst : (Nat → Int64)) (c_snd : (Nat → Int64)) (c_let : (Nat → Int32)) (c_many : (Nat → Int32)) (c_val : (Nat → Int64)) (c_ord : (Nat → Int32)) (c_free : (Nat → Int32)) (c_code : (Nat → Int32)) (c_next : (Nat → Int32)) (c_com : (Nat → Int32)) (c_met : (Nat → Int32)) (p_1 : Int32) (r0 : (Int32 × (Nat → Int32))) (hf : f_Model_depth c_cnt c_com c_met p_1 = some r0) :
    Met l y_Model_depth (Cond.code y_Model_depth prog_9_method_42_code 5 (some .int) :: lw_ok) { frames := 0, cells := 0, slots := 0, locals := 0 } (zPc G sz [.ref a_m, .int p_1] (wM G a_m a_mfst a_msnd a_mlet a_mmany a_mval a_mord a_mfree a_mcode a_mnext a_mcom a_mmet c_sort c_cnt c_frees c_cur c_thr c_fst c_snd c_let c_many c_val c_ord c_free c_code c_next c_com c_met))
      ((fun (A : Nat → Prop) => va_Qi (fun (r : Int32) (_ : Unit) => r = r0.1) (fun _ t => zB G A (wM G a_m a_mfst a_msnd a_mlet a_mmany a_mval a_mord a_mfree a_mcode a_mnext a_mcom a_mmet c_sort c_cnt c_frees c_cur c_thr c_fst c_snd c_let c_many c_val c_ord c_free c_code c_next c_com r0.2) t) A) (va_A (wM G a_m a_mfst a_msnd a_mlet a_mmany a_mval a_mord a_mfree a_mcode a_mnext a_mcom a_mmet c_sort c_cnt c_frees c_cur c_thr c_fst c_snd c_let c_many c_val c_ord c_free c_code c_next c_com c_met) sz)) 0 0 (va_A (wM G a_m a_mfst a_msnd a_mlet a_mmany a_mval a_mord a_mfree a_mcode a_mnext a_mcom a_mmet c_sort c_cnt c_frees c_cur c_thr c_fst c_snd c_let c_many c_val c_ord c_free c_code c_next c_com c_met) sz) := by
  refine zMet (Qc := fun (A : Nat → Prop) => va_Qi (fun (r : Int32) (_ : Unit) => r = r0.1) (fun _ t => zB G A (wM G a_m a_mfst a_msnd a_mlet a_mmany a_mval a_mord a_mfree a_mcode a_mnext a_mcom a_mmet c_sort c_cnt c_frees c_cur c_thr c_fst c_snd c_let c_many c_val c_ord c_free c_code c_next c_com r0.2) t) A) (by decide) (Nat.le_of_ble_eq_true rfl) (fun xp xe xs xm xb xme xc A ls Q H locs C hN hK hP hD hS hA hl hQ => ?_)
  obtain ⟨hx, hb, hr, hts, hown, hlocks, hml, hin⟩ := C
  have hl : lv_has ls 5 [(0, .ref a_m), (1, .int p_1)] := hl
  have h := hf
  unfold f_Model_depth at h
  refine lv_iconst (v := 0) hx hb d_Model_depth_0 (by decide) ?_
  refine lv_istore_n (lv' := [(2, .int 0), (0, .ref a_m), (1, .int p_1)]) hx hb d_Model_depth_1 rfl hl (by decide) rfl (fun ls hl => ?_)
  obtain ⟨y3, hy3, h⟩ := ob h
  have E2 : ∀ (z8 : (Nat → Int32)), z8 = y3 → ∀ (H : Heap) (locs : List Loc) (ls : Array Slot), va_P G.1 classes (wM G a_m a_mfst a_msnd a_mlet a_mmany a_mval a_mord a_mfree a_mcode a_mnext a_mcom a_mmet c_sort c_cnt c_frees c_cur c_thr c_fst c_snd c_let c_many c_val c_ord c_free c_code c_next c_com z8) H → va_D A (wM G a_m a_mfst a_msnd a_mlet a_mmany a_mval a_mord a_mfree a_mcode a_mnext a_mcom a_mmet c_sort c_cnt c_frees c_cur c_thr c_fst c_snd c_let c_many c_val c_ord c_free c_code c_next c_com z8) → va_S A xs.heap H locs → lv_has ls 5 [(0, .ref a_m), (1, .int p_1)] → W xp l xe { frames := 0, cells := 0, slots := 0, locals := 0 } xs xm ([.ref a_m, .int p_1] : List Value).toArray xb xme xc H locs 0 0 Q (F0 xm 21 ls []) := by
    intro z8 ey H locs ls hP hD hS hl
    subst ey
    try dsimp only at h
    refine lv_bipush (v := 50) hx hb d_Model_depth_21 (by decide) ?_
    refine lv_istore_n (lv' := [(2, .int 50), (0, .ref a_m), (1, .int p_1)]) hx hb d_Model_depth_23 rfl hl (by decide) rfl (fun ls hl => ?_)
    refine lv_iload_n hx hb d_Model_depth_24 rfl (lv_at hl 2 rfl) ?_
    refine lv_istore_n (lv' := [(3, .int p_1), (2, .int 50), (0, .ref a_m), (1, .int p_1)]) hx hb d_Model_depth_25 rfl hl (by decide) rfl (fun ls hl => ?_)
    obtain ⟨y13, hy13, h⟩ := ob h
    have E26 : ∀ (z26 : (Nat → Int32)), z26 = y13 → ∀ (H : Heap) (locs : List Loc) (ls : Array Slot), va_P G.1 classes (wM G a_m a_mfst a_msnd a_mlet a_mmany a_mval a_mord a_mfree a_mcode a_mnext a_mcom a_mmet c_sort c_cnt c_frees c_cur c_thr c_fst c_snd c_let c_many c_val c_ord c_free c_code c_next c_com z26) H → va_D A (wM G a_m a_mfst a_msnd a_mlet a_mmany a_mval a_mord a_mfree a_mcode a_mnext a_mcom a_mmet c_sort c_cnt c_frees c_cur c_thr c_fst c_snd c_let c_many c_val c_ord c_free c_code c_next c_com z26) → va_S A xs.heap H locs → lv_has ls 5 [(0, .ref a_m), (1, .int p_1)] → W xp l xe { frames := 0, cells := 0, slots := 0, locals := 0 } xs xm ([.ref a_m, .int p_1] : List Value).toArray xb xme xc H locs 0 0 Q (F0 xm 74 ls []) := by
      intro z26 ey H locs ls hP hD hS hl
      subst ey
      try dsimp only at h
      refine lv_bipush (v := 50) hx hb d_Model_depth_74 (by decide) ?_
      refine lv_istore_n (lv' := [(2, .int 50), (0, .ref a_m), (1, .int p_1)]) hx hb d_Model_depth_76 rfl hl (by decide) rfl (fun ls hl => ?_)
      refine lv_iload_n hx hb d_Model_depth_77 rfl (lv_at hl 2 rfl) ?_
      refine lv_iconst (v := 1) hx hb d_Model_depth_78 (by decide) ?_
      refine lv_isub hx hb d_Model_depth_79 ?_
      refine lv_topi (fun v28 ev28 => ?_)
      have h := nm_k h v28 ev28
      refine lv_istore_n (lv' := [(3, .int v28), (2, .int 50), (0, .ref a_m), (1, .int p_1)]) hx hb d_Model_depth_80 rfl hl (by decide) rfl (fun ls hl => ?_)
      obtain ⟨y32, hy32, h⟩ := ob h
      have E81 : ∀ (z45 : (Nat → Int32)), z45 = y32 → ∀ (H : Heap) (locs : List Loc) (ls : Array Slot), va_P G.1 classes (wM G a_m a_mfst a_msnd a_mlet a_mmany a_mval a_mord a_mfree a_mcode a_mnext a_mcom a_mmet c_sort c_cnt c_frees c_cur c_thr c_fst c_snd c_let c_many c_val c_ord c_free c_code c_next c_com z45) H → va_D A (wM G a_m a_mfst a_msnd a_mlet a_mmany a_mval a_mord a_mfree a_mcode a_mnext a_mcom a_mmet c_sort c_cnt c_frees c_cur c_thr c_fst c_snd c_let c_many c_val c_ord c_free c_code c_next c_com z45) → va_S A xs.heap H locs → lv_has ls 5 [(0, .ref a_m)] → W xp l xe { frames := 0, cells := 0, slots := 0, locals := 0 } xs xm ([.ref a_m, .int p_1] : List Value).toArray xb xme xc H locs 0 0 Q (F0 xm 123 ls []) := by
        intro z45 ey H locs ls hP hD hS hl
        subst ey
        try dsimp only at h
        refine lv_iconst (v := 0) hx hb d_Model_depth_123 (by decide) ?_
        refine lv_istore_n (lv' := [(3, .int 0), (0, .ref a_m)]) hx hb d_Model_depth_124 rfl hl (by decide) rfl (fun ls hl => ?_)
        refine lv_iconst (v := 0) hx hb d_Model_depth_125 (by decide) ?_
        refine lv_istore (lv' := [(4, .int 0), (3, .int 0), (0, .ref a_m)]) hx hb d_Model_depth_126 hl (by decide) rfl (fun ls hl => ?_)
        obtain ⟨y49, hy49, h⟩ := ob h
        have E128 : ∀ (z54 : Int32), z54 = y49 → ∀ (H : Heap) (locs : List Loc) (ls : Array Slot), va_P G.1 classes (wM G a_m a_mfst a_msnd a_mlet a_mmany a_mval a_mord a_mfree a_mcode a_mnext a_mcom a_mmet c_sort c_cnt c_frees c_cur c_thr c_fst c_snd c_let c_many c_val c_ord c_free c_code c_next c_com z45) H → va_D A (wM G a_m a_mfst a_msnd a_mlet a_mmany a_mval a_mord a_mfree a_mcode a_mnext a_mcom a_mmet c_sort c_cnt c_frees c_cur c_thr c_fst c_snd c_let c_many c_val c_ord c_free c_code c_next c_com z45) → va_S A xs.heap H locs → lv_has ls 5 [(3, .int z54)] → W xp l xe { frames := 0, cells := 0, slots := 0, locals := 0 } xs xm ([.ref a_m, .int p_1] : List Value).toArray xb xme xc H locs 0 0 Q (F0 xm 151 ls []) := by
          intro z54 ey H locs ls hP hD hS hl
          subst ey
          try dsimp only at h
          refine lv_iload_n hx hb d_Model_depth_151 rfl (lv_at hl 0 rfl) ?_
          obtain rfl := Option.some.inj h
          exact zreti () hQ hS.2.2 hx hb hr hlocks hP hD hS rfl (Nat.le_refl _) (Nat.le_refl _) d_Model_depth_152
        have L128 : ∀ v : (Int32 × Int32), lp (fun v => s_Model_depth_128 z45 v.1 v.2) v = some y49 → ∀ (H : Heap) (locs : List Loc) (ls : Array Slot), va_P G.1 classes (wM G a_m a_mfst a_msnd a_mlet a_mmany a_mval a_mord a_mfree a_mcode a_mnext a_mcom a_mmet c_sort c_cnt c_frees c_cur c_thr c_fst c_snd c_let c_many c_val c_ord c_free c_code c_next c_com z45) H → va_D A (wM G a_m a_mfst a_msnd a_mlet a_mmany a_mval a_mord a_mfree a_mcode a_mnext a_mcom a_mmet c_sort c_cnt c_frees c_cur c_thr c_fst c_snd c_let c_many c_val c_ord c_free c_code c_next c_com z45) → va_S A xs.heap H locs → lv_has ls 5 [(0, .ref a_m), (3, .int v.1), (4, .int v.2)] → W xp l xe { frames := 0, cells := 0, slots := 0, locals := 0 } xs xm ([.ref a_m, .int p_1] : List Value).toArray xb xme xc H locs 0 0 Q (F0 xm 128 ls []) := by
          refine lp_walk _ (fun v x h hc he => ?_)
          obtain ⟨x3_47, x4_48⟩ := v
          intro H locs ls hP hD hS hl
          have h : s_Model_depth_128 z45 x3_47 x4_48 = some x := h
          unfold s_Model_depth_128 at h
          refine lv_iload hx hb d_Model_depth_128 (lv_at hl 2 rfl) ?_
          refine lv_bipush (v := 50) hx hb d_Model_depth_130 (by decide) ?_
          refine lv_icmp_ge (tgt := 151) hx hb d_Model_depth_132 (by decide) (fun q50 => ?_) (fun q50 => ?_)
          · have h := it h q50
            exact E128 x3_47 (he _ (Option.some.inj h).symm) H locs ls hP hD hS (lv_sub hl [1] rfl)
          · have h := ie h q50
            refine lv_iload_n hx hb d_Model_depth_135 rfl (lv_at hl 1 rfl) ?_
            refine lv_aload_n hx hb d_Model_depth_136 rfl (lv_at hl 0 rfl) ?_
            refine va_get (D := G.1) (ci := 6) (v := .ref a_mmet) (C := "BranchStoreModel") (T := F_Model) (N := 16) hx hb hts i_Model hown hK hP 0 rfl rfl 15 (by decide) (hts _ k_785) (fun _ h9 => h9) rfl d_Model_depth_137 ?_
            refine lv_iload hx hb d_Model_depth_140 (lv_at hl 2 rfl) ?_
            obtain ⟨h51, h⟩ := gi_k h
            refine va_iald hx hb hK hP 11 0 rfl rfl h51 d_Model_depth_142 ?_
            refine lv_iadd hx hb d_Model_depth_143 ?_
            refine lv_topi (fun v52 ev52 => ?_)
            have h := nm_k h v52 ev52
            refine lv_istore_n (lv' := [(3, .int v52), (0, .ref a_m), (4, .int x4_48)]) hx hb d_Model_depth_144 rfl hl (by decide) rfl (fun ls hl => ?_)
            obtain ⟨v53, ev53⟩ : ∃ y : Int32, y = x4_48 + 1 := ⟨_, rfl⟩
            have h := nm_k h v53 ev53
            refine lv_iinc (v := v53) (lv' := [(4, .int v53), (3, .int v52), (0, .ref a_m)]) hx hb d_Model_depth_145 hl (k := 2) rfl (by rw [ev53]; rfl) (by decide) rfl (fun ls hl => ?_)
            refine lv_goto (tgt := 128) hx hb d_Model_depth_148 (by decide) ?_
            exact hc _ (Option.some.inj h).symm H locs ls hP hD hS (lv_sub hl [2, 1, 0] rfl)
        exact L128 _ hy49 _ _ ls hP hD hS (lv_sub hl [2, 1, 0] rfl)
      have L81 : ∀ v : (Int32 × Int32 × (Nat → Int32)), lp (fun v => s_Model_depth_81 c_com v.1 v.2.1 v.2.2) v = some y32 → ∀ (H : Heap) (locs : List Loc) (ls : Array Slot), va_P G.1 classes (wM G a_m a_mfst a_msnd a_mlet a_mmany a_mval a_mord a_mfree a_mcode a_mnext a_mcom a_mmet c_sort c_cnt c_frees c_cur c_thr c_fst c_snd c_let c_many c_val c_ord c_free c_code c_next c_com v.2.2) H → va_D A (wM G a_m a_mfst a_msnd a_mlet a_mmany a_mval a_mord a_mfree a_mcode a_mnext a_mcom a_mmet c_sort c_cnt c_frees c_cur c_thr c_fst c_snd c_let c_many c_val c_ord c_free c_code c_next c_com v.2.2) → va_S A xs.heap H locs → lv_has ls 5 [(0, .ref a_m), (2, .int v.1), (3, .int v.2.1)] → W xp l xe { frames := 0, cells := 0, slots := 0, locals := 0 } xs xm ([.ref a_m, .int p_1] : List Value).toArray xb xme xc H locs 0 0 Q (F0 xm 81 ls []) := by
        refine lp_walk _ (fun v x h hc he => ?_)
        obtain ⟨x2_29, x3_30, c31⟩ := v
        intro H locs ls hP hD hS hl
        have h : s_Model_depth_81 c_com x2_29 x3_30 c31 = some x := h
        unfold s_Model_depth_81 at h
        refine lv_iload_n hx hb d_Model_depth_81 rfl (lv_at hl 2 rfl) ?_
        refine lv_if_lt (tgt := 123) hx hb d_Model_depth_82 (by decide) (fun q33 => ?_) (fun q33 => ?_)
        · have h := it h q33
          exact E81 c31 (he _ (Option.some.inj h).symm) H locs ls hP hD hS (lv_sub hl [0] rfl)
        · have h := ie h q33
          refine lv_iload_n hx hb d_Model_depth_85 rfl (lv_at hl 1 rfl) ?_
          refine lv_if_le (tgt := 123) hx hb d_Model_depth_86 (by decide) (fun q34 => ?_) (fun q34 => ?_)
          · have h := it h q34
            exact E81 c31 (he _ (Option.some.inj h).symm) H locs ls hP hD hS (lv_sub hl [0] rfl)
          · have h := ie h q34
            refine lv_aload_n hx hb d_Model_depth_89 rfl (lv_at hl 0 rfl) ?_
            refine va_get (D := G.1) (ci := 6) (v := .ref a_mcom) (C := "BranchStoreModel") (T := F_Model) (N := 16) hx hb hts i_Model hown hK hP 0 rfl rfl 14 (by decide) (hts _ k_784) (fun _ h9 => h9) rfl d_Model_depth_90 ?_
            refine lv_iload_n hx hb d_Model_depth_93 rfl (lv_at hl 2 rfl) ?_
            obtain ⟨h35, h⟩ := gi_k h
            refine va_iald hx hb hK hP 10 0 rfl rfl h35 d_Model_depth_94 ?_
            refine lv_iload_n hx hb d_Model_depth_95 rfl (lv_at hl 1 rfl) ?_
            obtain ⟨y39, hy39, h⟩ := ob h
            have J109 : ∀ (z41 : Int32), z41 = y39 → ∀ (H : Heap) (locs : List Loc) (ls : Array Slot), va_P G.1 classes (wM G a_m a_mfst a_msnd a_mlet a_mmany a_mval a_mord a_mfree a_mcode a_mnext a_mcom a_mmet c_sort c_cnt c_frees c_cur c_thr c_fst c_snd c_let c_many c_val c_ord c_free c_code c_next c_com c31) H → va_D A (wM G a_m a_mfst a_msnd a_mlet a_mmany a_mval a_mord a_mfree a_mcode a_mnext a_mcom a_mmet c_sort c_cnt c_frees c_cur c_thr c_fst c_snd c_let c_many c_val c_ord c_free c_code c_next c_com c31) → va_S A xs.heap H locs → lv_has ls 5 [(0, .ref a_m), (3, .int x3_30)] → W xp l xe { frames := 0, cells := 0, slots := 0, locals := 0 } xs xm ([.ref a_m, .int p_1] : List Value).toArray xb xme xc H locs 0 0 Q (F0 xm 109 ls [.int z41]) := by
              intro z41 ey H locs ls hP hD hS hl
              subst ey
              try dsimp only at h
              refine lv_istore_n (lv' := [(2, .int z41), (0, .ref a_m), (3, .int x3_30)]) hx hb d_Model_depth_109 rfl hl (by decide) rfl (fun ls hl => ?_)
              refine lv_aload_n hx hb d_Model_depth_110 rfl (lv_at hl 1 rfl) ?_
              refine va_get (D := G.1) (ci := 6) (v := .ref a_mmet) (C := "BranchStoreModel") (T := F_Model) (N := 16) hx hb hts i_Model hown hK hP 0 rfl rfl 15 (by decide) (hts _ k_785) (fun _ h9 => h9) rfl d_Model_depth_111 ?_
              refine lv_iload_n hx hb d_Model_depth_114 rfl (lv_at hl 0 rfl) ?_
              refine lv_iconst (v := 1) hx hb d_Model_depth_115 (by decide) ?_
              obtain ⟨h42, h⟩ := gi_k h
              refine va_iast hx hb hK hP hD hS 11 0 rfl rfl h42 d_Model_depth_116 (fun H locs hP hD hS => ?_)
              obtain ⟨c43, ec43⟩ : ∃ y, y = upd c31 z41.toNatClampNeg 1 := ⟨_, rfl⟩
              have h := nm_k h c43 ec43
              have hP : va_P G.1 classes (wM G a_m a_mfst a_msnd a_mlet a_mmany a_mval a_mord a_mfree a_mcode a_mnext a_mcom a_mmet c_sort c_cnt c_frees c_cur c_thr c_fst c_snd c_let c_many c_val c_ord c_free c_code c_next c_com c43) H := by rw [ec43]; exact hP
              have hD : va_D A (wM G a_m a_mfst a_msnd a_mlet a_mmany a_mval a_mord a_mfree a_mcode a_mnext a_mcom a_mmet c_sort c_cnt c_frees c_cur c_thr c_fst c_snd c_let c_many c_val c_ord c_free c_code c_next c_com c43) := by rw [ec43]; exact hD
              obtain ⟨v44, ev44⟩ : ∃ y : Int32, y = x3_30 + (-1) := ⟨_, rfl⟩
              have h := nm_k h v44 ev44
              refine lv_iinc (v := v44) (lv' := [(3, .int v44), (2, .int z41), (0, .ref a_m)]) hx hb d_Model_depth_117 hl (k := 2) rfl (by rw [ev44]; rfl) (by decide) rfl (fun ls hl => ?_)
              refine lv_goto (tgt := 81) hx hb d_Model_depth_120 (by decide) ?_
              exact hc _ (Option.some.inj h).symm H locs ls hP hD hS (lv_sub hl [2, 1, 0] rfl)
            have h := hy39
            refine lv_icmp_ge (tgt := 108) hx hb d_Model_depth_96 (by decide) (fun q37 => ?_) (fun q37 => ?_)
            · have h := it h q37
              refine lv_iload_n hx hb d_Model_depth_108 rfl (lv_at hl 1 rfl) ?_
              exact J109 x2_29 (Option.some.inj h) H locs ls hP hD hS (lv_sub hl [0, 2] rfl)
            · have h := ie h q37
              refine lv_aload_n hx hb d_Model_depth_99 rfl (lv_at hl 0 rfl) ?_
              refine va_get (D := G.1) (ci := 6) (v := .ref a_mcom) (C := "BranchStoreModel") (T := F_Model) (N := 16) hx hb hts i_Model hown hK hP 0 rfl rfl 14 (by decide) (hts _ k_784) (fun _ h9 => h9) rfl d_Model_depth_100 ?_
              refine lv_iload_n hx hb d_Model_depth_103 rfl (lv_at hl 2 rfl) ?_
              obtain ⟨h38, h⟩ := gi_k h
              refine va_iald hx hb hK hP 10 0 rfl rfl h38 d_Model_depth_104 ?_
              refine lv_goto (tgt := 109) hx hb d_Model_depth_105 (by decide) ?_
              exact J109 (c_com x3_30.toNatClampNeg) (Option.some.inj h) H locs ls hP hD hS (lv_sub hl [0, 2] rfl)
      exact L81 _ hy32 _ _ ls hP hD hS (lv_sub hl [2, 1, 0] rfl)
    have L26 : ∀ v : (Int32 × Int32 × (Nat → Int32)), lp (fun v => s_Model_depth_26 c_cnt c_com v.1 v.2.1 v.2.2) v = some y13 → ∀ (H : Heap) (locs : List Loc) (ls : Array Slot), va_P G.1 classes (wM G a_m a_mfst a_msnd a_mlet a_mmany a_mval a_mord a_mfree a_mcode a_mnext a_mcom a_mmet c_sort c_cnt c_frees c_cur c_thr c_fst c_snd c_let c_many c_val c_ord c_free c_code c_next c_com v.2.2) H → va_D A (wM G a_m a_mfst a_msnd a_mlet a_mmany a_mval a_mord a_mfree a_mcode a_mnext a_mcom a_mmet c_sort c_cnt c_frees c_cur c_thr c_fst c_snd c_let c_many c_val c_ord c_free c_code c_next c_com v.2.2) → va_S A xs.heap H locs → lv_has ls 5 [(0, .ref a_m), (1, .int p_1), (2, .int v.1), (3, .int v.2.1)] → W xp l xe { frames := 0, cells := 0, slots := 0, locals := 0 } xs xm ([.ref a_m, .int p_1] : List Value).toArray xb xme xc H locs 0 0 Q (F0 xm 26 ls []) := by
      refine lp_walk _ (fun v x h hc he => ?_)
      obtain ⟨x2_10, x3_11, c12⟩ := v
      intro H locs ls hP hD hS hl
      have h : s_Model_depth_26 c_cnt c_com x2_10 x3_11 c12 = some x := h
      unfold s_Model_depth_26 at h
      refine lv_iload_n hx hb d_Model_depth_26 rfl (lv_at hl 3 rfl) ?_
      refine lv_iconst (v := 1) hx hb d_Model_depth_27 (by decide) ?_
      refine lv_iadd hx hb d_Model_depth_28 ?_
      refine lv_aload_n hx hb d_Model_depth_29 rfl (lv_at hl 0 rfl) ?_
      refine va_get (D := G.1) (ci := 6) (v := .int c_cnt) (C := "BranchStoreModel") (T := F_Model) (N := 16) hx hb hts i_Model hown hK hP 0 rfl rfl 7 (by decide) (hts _ k_777) (fun _ h9 => h9) rfl d_Model_depth_30 ?_
      refine lv_icmp_ge (tgt := 74) hx hb d_Model_depth_33 (by decide) (fun q14 => ?_) (fun q14 => ?_)
      · have h := it h q14
        exact E26 c12 (he _ (Option.some.inj h).symm) H locs ls hP hD hS (lv_sub hl [0, 1] rfl)
      · have h := ie h q14
        refine lv_iload_n hx hb d_Model_depth_36 rfl (lv_at hl 2 rfl) ?_
        refine lv_if_le (tgt := 74) hx hb d_Model_depth_37 (by decide) (fun q15 => ?_) (fun q15 => ?_)
        · have h := it h q15
          exact E26 c12 (he _ (Option.some.inj h).symm) H locs ls hP hD hS (lv_sub hl [0, 1] rfl)
        · have h := ie h q15
          refine lv_aload_n hx hb d_Model_depth_40 rfl (lv_at hl 0 rfl) ?_
          refine va_get (D := G.1) (ci := 6) (v := .ref a_mcom) (C := "BranchStoreModel") (T := F_Model) (N := 16) hx hb hts i_Model hown hK hP 0 rfl rfl 14 (by decide) (hts _ k_784) (fun _ h9 => h9) rfl d_Model_depth_41 ?_
          refine lv_iload_n hx hb d_Model_depth_44 rfl (lv_at hl 3 rfl) ?_
          obtain ⟨h16, h⟩ := gi_k h
          refine va_iald hx hb hK hP 10 0 rfl rfl h16 d_Model_depth_45 ?_
          refine lv_iload_n hx hb d_Model_depth_46 rfl (lv_at hl 2 rfl) ?_
          obtain ⟨y20, hy20, h⟩ := ob h
          have J60 : ∀ (z22 : Int32), z22 = y20 → ∀ (H : Heap) (locs : List Loc) (ls : Array Slot), va_P G.1 classes (wM G a_m a_mfst a_msnd a_mlet a_mmany a_mval a_mord a_mfree a_mcode a_mnext a_mcom a_mmet c_sort c_cnt c_frees c_cur c_thr c_fst c_snd c_let c_many c_val c_ord c_free c_code c_next c_com c12) H → va_D A (wM G a_m a_mfst a_msnd a_mlet a_mmany a_mval a_mord a_mfree a_mcode a_mnext a_mcom a_mmet c_sort c_cnt c_frees c_cur c_thr c_fst c_snd c_let c_many c_val c_ord c_free c_code c_next c_com c12) → va_S A xs.heap H locs → lv_has ls 5 [(0, .ref a_m), (1, .int p_1), (3, .int x3_11)] → W xp l xe { frames := 0, cells := 0, slots := 0, locals := 0 } xs xm ([.ref a_m, .int p_1] : List Value).toArray xb xme xc H locs 0 0 Q (F0 xm 60 ls [.int z22]) := by
            intro z22 ey H locs ls hP hD hS hl
            subst ey
            try dsimp only at h
            refine lv_istore_n (lv' := [(2, .int z22), (0, .ref a_m), (1, .int p_1), (3, .int x3_11)]) hx hb d_Model_depth_60 rfl hl (by decide) rfl (fun ls hl => ?_)
            refine lv_aload_n hx hb d_Model_depth_61 rfl (lv_at hl 1 rfl) ?_
            refine va_get (D := G.1) (ci := 6) (v := .ref a_mmet) (C := "BranchStoreModel") (T := F_Model) (N := 16) hx hb hts i_Model hown hK hP 0 rfl rfl 15 (by decide) (hts _ k_785) (fun _ h9 => h9) rfl d_Model_depth_62 ?_
            refine lv_iload_n hx hb d_Model_depth_65 rfl (lv_at hl 0 rfl) ?_
            refine lv_iconst (v := 1) hx hb d_Model_depth_66 (by decide) ?_
            obtain ⟨h23, h⟩ := gi_k h
            refine va_iast hx hb hK hP hD hS 11 0 rfl rfl h23 d_Model_depth_67 (fun H locs hP hD hS => ?_)
            obtain ⟨c24, ec24⟩ : ∃ y, y = upd c12 z22.toNatClampNeg 1 := ⟨_, rfl⟩
            have h := nm_k h c24 ec24
            have hP : va_P G.1 classes (wM G a_m a_mfst a_msnd a_mlet a_mmany a_mval a_mord a_mfree a_mcode a_mnext a_mcom a_mmet c_sort c_cnt c_frees c_cur c_thr c_fst c_snd c_let c_many c_val c_ord c_free c_code c_next c_com c24) H := by rw [ec24]; exact hP
            have hD : va_D A (wM G a_m a_mfst a_msnd a_mlet a_mmany a_mval a_mord a_mfree a_mcode a_mnext a_mcom a_mmet c_sort c_cnt c_frees c_cur c_thr c_fst c_snd c_let c_many c_val c_ord c_free c_code c_next c_com c24) := by rw [ec24]; exact hD
            obtain ⟨v25, ev25⟩ : ∃ y : Int32, y = x3_11 + 1 := ⟨_, rfl⟩
            have h := nm_k h v25 ev25
            refine lv_iinc (v := v25) (lv' := [(3, .int v25), (2, .int z22), (0, .ref a_m), (1, .int p_1)]) hx hb d_Model_depth_68 hl (k := 3) rfl (by rw [ev25]; rfl) (by decide) rfl (fun ls hl => ?_)
            refine lv_goto (tgt := 26) hx hb d_Model_depth_71 (by decide) ?_
            exact hc _ (Option.some.inj h).symm H locs ls hP hD hS (lv_sub hl [2, 3, 1, 0] rfl)
          have h := hy20
          refine lv_icmp_ge (tgt := 59) hx hb d_Model_depth_47 (by decide) (fun q18 => ?_) (fun q18 => ?_)
          · have h := it h q18
            refine lv_iload_n hx hb d_Model_depth_59 rfl (lv_at hl 2 rfl) ?_
            exact J60 x2_10 (Option.some.inj h) H locs ls hP hD hS (lv_sub hl [0, 1, 3] rfl)
          · have h := ie h q18
            refine lv_aload_n hx hb d_Model_depth_50 rfl (lv_at hl 0 rfl) ?_
            refine va_get (D := G.1) (ci := 6) (v := .ref a_mcom) (C := "BranchStoreModel") (T := F_Model) (N := 16) hx hb hts i_Model hown hK hP 0 rfl rfl 14 (by decide) (hts _ k_784) (fun _ h9 => h9) rfl d_Model_depth_51 ?_
            refine lv_iload_n hx hb d_Model_depth_54 rfl (lv_at hl 3 rfl) ?_
            obtain ⟨h19, h⟩ := gi_k h
            refine va_iald hx hb hK hP 10 0 rfl rfl h19 d_Model_depth_55 ?_
            refine lv_goto (tgt := 60) hx hb d_Model_depth_56 (by decide) ?_
            exact J60 (c_com x3_11.toNatClampNeg) (Option.some.inj h) H locs ls hP hD hS (lv_sub hl [0, 1, 3] rfl)
    exact L26 _ hy13 _ _ ls hP hD hS (lv_sub hl [2, 3, 1, 0] rfl)
  have L2 : ∀ v : (Int32 × (Nat → Int32)), lp (fun v => s_Model_depth_2 v.1 v.2) v = some y3 → ∀ (H : Heap) (locs : List Loc) (ls : Array Slot), va_P G.1 classes (wM G a_m a_mfst a_msnd a_mlet a_mmany a_mval a_mord a_mfree a_mcode a_mnext a_mcom a_mmet c_sort c_cnt c_frees c_cur c_thr c_fst c_snd c_let c_many c_val c_ord c_free c_code c_next c_com v.2) H → va_D A (wM G a_m a_mfst a_msnd a_mlet a_mmany a_mval a_mord a_mfree a_mcode a_mnext a_mcom a_mmet c_sort c_cnt c_frees c_cur c_thr c_fst c_snd c_let c_many c_val c_ord c_free c_code c_next c_com v.2) → va_S A xs.heap H locs → lv_has ls 5 [(0, .ref a_m), (1, .int p_1), (2, .int v.1)] → W xp l xe { frames := 0, cells := 0, slots := 0, locals := 0 } xs xm ([.ref a_m, .int p_1] : List Value).toArray xb xme xc H locs 0 0 Q (F0 xm 2 ls []) := by
    refine lp_walk _ (fun v x h hc he => ?_)
    obtain ⟨x2_1, c2⟩ := v
    intro H locs ls hP hD hS hl
    have h : s_Model_depth_2 x2_1 c2 = some x := h
    unfold s_Model_depth_2 at h
    refine lv_iload_n hx hb d_Model_depth_2 rfl (lv_at hl 2 rfl) ?_
    refine lv_bipush (v := 50) hx hb d_Model_depth_3 (by decide) ?_
    refine lv_icmp_ge (tgt := 21) hx hb d_Model_depth_5 (by decide) (fun q4 => ?_) (fun q4 => ?_)
    · have h := it h q4
      exact E2 c2 (he _ (Option.some.inj h).symm) H locs ls hP hD hS (lv_sub hl [0, 1] rfl)
    · have h := ie h q4
      refine lv_aload_n hx hb d_Model_depth_8 rfl (lv_at hl 0 rfl) ?_
      refine va_get (D := G.1) (ci := 6) (v := .ref a_mmet) (C := "BranchStoreModel") (T := F_Model) (N := 16) hx hb hts i_Model hown hK hP 0 rfl rfl 15 (by decide) (hts _ k_785) (fun _ h9 => h9) rfl d_Model_depth_9 ?_
      refine lv_iload_n hx hb d_Model_depth_12 rfl (lv_at hl 2 rfl) ?_
      refine lv_iconst (v := 0) hx hb d_Model_depth_13 (by decide) ?_
      obtain ⟨h5, h⟩ := gi_k h
      refine va_iast hx hb hK hP hD hS 11 0 rfl rfl h5 d_Model_depth_14 (fun H locs hP hD hS => ?_)
      obtain ⟨c6, ec6⟩ : ∃ y, y = upd c2 x2_1.toNatClampNeg 0 := ⟨_, rfl⟩
      have h := nm_k h c6 ec6
      have hP : va_P G.1 classes (wM G a_m a_mfst a_msnd a_mlet a_mmany a_mval a_mord a_mfree a_mcode a_mnext a_mcom a_mmet c_sort c_cnt c_frees c_cur c_thr c_fst c_snd c_let c_many c_val c_ord c_free c_code c_next c_com c6) H := by rw [ec6]; exact hP
      have hD : va_D A (wM G a_m a_mfst a_msnd a_mlet a_mmany a_mval a_mord a_mfree a_mcode a_mnext a_mcom a_mmet c_sort c_cnt c_frees c_cur c_thr c_fst c_snd c_let c_many c_val c_ord c_free c_code c_next c_com c6) := by rw [ec6]; exact hD
      obtain ⟨v7, ev7⟩ : ∃ y : Int32, y = x2_1 + 1 := ⟨_, rfl⟩
      have h := nm_k h v7 ev7
      refine lv_iinc (v := v7) (lv' := [(2, .int v7), (0, .ref a_m), (1, .int p_1)]) hx hb d_Model_depth_15 hl (k := 2) rfl (by rw [ev7]; rfl) (by decide) rfl (fun ls hl => ?_)
      refine lv_goto (tgt := 2) hx hb d_Model_depth_18 (by decide) ?_
      exact hc _ (Option.some.inj h).symm H locs ls hP hD hS (lv_sub hl [1, 2, 0] rfl)
  exact L2 _ hy3 _ _ ls hP hD hS (lv_sub hl [1, 2, 0] rfl)

theorem kv_Model_124 : zKV "BranchStoreModel" 124 y_Model_look prog_9_method_38_code 3 none 0 := ⟨k_967, k_969, kp_37, k_8, k_970, by decide +kernel⟩
theorem kv_Model_127 : zKV "BranchStoreModel" 127 y_Model_isFirst prog_9_method_39_code 3 (some .boolean) 1 := ⟨k_976, k_978, kp_39, k_8, k_979, by decide +kernel⟩
theorem kv_Model_130 : zKV "BranchStoreModel" 130 y_Model_children prog_9_method_40_code 4 (some .int) 1 := ⟨k_980, k_982, kp_40, k_8, k_983, by decide +kernel⟩
theorem kv_Model_133 : zKS "BranchStoreModel" 133 y_Model_sizeOf prog_9_method_41_code 1 (some .int) 1 := ⟨k_984, k_985, k_8, k_986, by decide +kernel⟩
noncomputable def s_Model_compact_13 (c_sort : Int32) (c_cnt : Int32) (c_fst : (Nat → Int64)) (c_snd : (Nat → Int64)) (c_let : (Nat → Int32)) (c_many : (Nat → Int32)) (c_ord : (Nat → Int32)) (c_com : (Nat → Int32)) (x1 : Int32) (x2 : Int32) (c_code : (Nat → Int32)) : Option ((Int32 × Int32 × (Nat → Int32)) ⊕ (Int32 × (Nat → Int32))) :=
if c_cnt ≤ x2 then
(some (.inr (x1, c_code)))
else
(gi x2 1500 <|
(f_Model_encode c_sort c_fst c_snd c_let c_many c_code (c_ord x2.toNatClampNeg)).bind fun r8 =>
nm (x1 + (4 + ((r8.1 + 3) / 4))) fun v9 =>
if (x2 + 1) = c_cnt then
(nm (x2 + 1) fun v11 =>
some (.inl (v9, v11, r8.2)))
else
((f_Model_isFirst c_com x2).bind fun r12 =>
if r12 = 0 then
(nm (x2 + 1) fun v26 =>
some (.inl (v9, v26, r8.2)))
else
((f_Model_children c_cnt c_com x2).bind fun r15 =>
(f_Model_sizeOf r15).bind fun r16 =>
(if r16 = 0 then
(some 9)
else
(if r16 = 1 then
(some 24)
else
(if r16 = 2 then
(some 116)
else
(some 260)))).bind fun y22 =>
nm (v9 + y22) fun v24 =>
nm (x2 + 1) fun v25 =>
some (.inl (v24, v25, r8.2)))))
noncomputable def f_Model_compact (c_sort : Int32) (c_cnt : Int32) (c_thr : Int32) (c_fst : (Nat → Int64)) (c_snd : (Nat → Int64)) (c_let : (Nat → Int32)) (c_many : (Nat → Int32)) (c_ord : (Nat → Int32)) (c_code : (Nat → Int32)) (c_next : (Nat → Int32)) (c_com : (Nat → Int32))  : Option (Int32 × Int32 × (Nat → Int32) × (Nat → Int32) × (Nat → Int32)) :=
(f_Model_look c_sort c_cnt c_fst c_snd c_let c_many c_ord c_code c_next c_com).bind fun r1 =>
(lp (fun v => s_Model_compact_13 c_sort c_cnt c_fst c_snd c_let c_many c_ord r1.2.2 v.1 v.2.1 v.2.2) (0, 0, r1.1)).bind fun y29 =>
some (y29.1, 0, y29.2, r1.2.1, r1.2.2)
set_option maxHeartbeats 8000000 in
set_option maxRecDepth 100000 in
theorem c_Model_compact (l : Launch) (G : zG) (sz : Nat) (a_m a_mfst a_msnd a_mlet a_mmany a_mval a_mord a_mfree a_mcode a_mnext a_mcom a_mmet : Nat) (c_sort : Int32) (c_cnt : Int32) (c_frees : Int32) (c_cur : Int32) (c_thr : Int32) (c_fst : (Nat → Int64)) (c_snd : (Nat → Int64)) (c_let : (Nat → Int32)) (c_many : (Nat → Int32)) (c_val : (Nat → Int64)) (c_ord : (Nat → Int32)) (c_free : (Nat → Int32)) (c_code : (Nat → Int32)) (c_next : (Nat → Int32)) (c_com : (Nat → Int32)) (c_met : (Nat → Int32)) (r0 : (Int32 × Int32 × (Nat → Int32) × (Nat → Int32) × (Nat → Int32))) (hf : f_Model_compact c_sort c_cnt c_thr c_fst c_snd c_let c_many c_ord c_code c_next c_com = some r0) :
    Met l y_Model_compact (Cond.code y_Model_compact prog_9_method_43_code 4 (some .int) :: lw_ok) { frames := 2, cells := 0, slots := 0, locals := 49 } (zPc G sz [.ref a_m] (wM G a_m a_mfst a_msnd a_mlet a_mmany a_mval a_mord a_mfree a_mcode a_mnext a_mcom a_mmet c_sort c_cnt c_frees c_cur c_thr c_fst c_snd c_let c_many c_val c_ord c_free c_code c_next c_com c_met))
      ((fun (A : Nat → Prop) => va_Qi (fun (r : Int32) (_ : Unit) => r = r0.1) (fun _ t => zB G A (wM G a_m a_mfst a_msnd a_mlet a_mmany a_mval a_mord a_mfree a_mcode a_mnext a_mcom a_mmet c_sort c_cnt c_frees c_cur r0.2.1 c_fst c_snd c_let c_many c_val c_ord c_free r0.2.2.1 r0.2.2.2.1 r0.2.2.2.2 c_met) t) A) (va_A (wM G a_m a_mfst a_msnd a_mlet a_mmany a_mval a_mord a_mfree a_mcode a_mnext a_mcom a_mmet c_sort c_cnt c_frees c_cur c_thr c_fst c_snd c_let c_many c_val c_ord c_free c_code c_next c_com c_met) sz)) 0 0 (va_A (wM G a_m a_mfst a_msnd a_mlet a_mmany a_mval a_mord a_mfree a_mcode a_mnext a_mcom a_mmet c_sort c_cnt c_frees c_cur c_thr c_fst c_snd c_let c_many c_val c_ord c_free c_code c_next c_com c_met) sz) := by
  refine zMet (Qc := fun (A : Nat → Prop) => va_Qi (fun (r : Int32) (_ : Unit) => r = r0.1) (fun _ t => zB G A (wM G a_m a_mfst a_msnd a_mlet a_mmany a_mval a_mord a_mfree a_mcode a_mnext a_mcom a_mmet c_sort c_cnt c_frees c_cur r0.2.1 c_fst c_snd c_let c_many c_val c_ord c_free r0.2.2.1 r0.2.2.2.1 r0.2.2.2.2 c_met) t) A) (by decide) (Nat.le_of_ble_eq_true rfl) (fun xp xe xs xm xb xme xc A ls Q H locs C hN hK hP hD hS hA hl hQ => ?_)
  obtain ⟨hx, hb, hr, hts, hown, hlocks, hml, hin⟩ := C
  have hl : lv_has ls 4 [(0, .ref a_m)] := hl
  have h := hf
  unfold f_Model_compact at h
  refine lv_aload_n hx hb d_Model_compact_0 rfl (lv_at hl 0 rfl) ?_
  refine lv_iconst (v := 0) hx hb d_Model_compact_1 (by decide) ?_
  refine va_put (D := G.1) (ci := 6) (v := .int 0) (ty := .int) (C := "BranchStoreModel") (T := F_Model) (N := 16) hx hb hts i_Model t_Model t_Model_ok n_Model hown hK hP hD hS 0 rfl rfl 11 (by decide) (hts _ k_781) (fun _ h9 => h9) rfl (by decide +kernel) rfl rfl (Nat.le_of_ble_eq_true rfl) d_Model_compact_2 (fun H locs hP hD hS => ?_)
  have hP : va_P G.1 classes (wM G a_m a_mfst a_msnd a_mlet a_mmany a_mval a_mord a_mfree a_mcode a_mnext a_mcom a_mmet c_sort c_cnt c_frees c_cur 0 c_fst c_snd c_let c_many c_val c_ord c_free c_code c_next c_com c_met) H := hP
  have hD : va_D A (wM G a_m a_mfst a_msnd a_mlet a_mmany a_mval a_mord a_mfree a_mcode a_mnext a_mcom a_mmet c_sort c_cnt c_frees c_cur 0 c_fst c_snd c_let c_many c_val c_ord c_free c_code c_next c_com c_met) := hD
  refine lv_aload_n hx hb d_Model_compact_5 rfl (lv_at hl 0 rfl) ?_
  obtain ⟨r1, hr1, h⟩ := ob h
  refine zcallv (wr := []) (w2 := fun _ => (wM G a_m a_mfst a_msnd a_mlet a_mmany a_mval a_mord a_mfree a_mcode a_mnext a_mcom a_mmet c_sort c_cnt c_frees c_cur 0 c_fst c_snd c_let c_many c_val c_ord c_free r1.1 r1.2.1 r1.2.2 c_met)) (zrunV (As := []) (rest := []) ⟨hx, hb, hml, hown, hts⟩ hN hK (c_Model_look l G H.size a_m a_mfst a_msnd a_mlet a_mmany a_mval a_mord a_mfree a_mcode a_mnext a_mcom a_mmet c_sort c_cnt c_frees c_cur 0 c_fst c_snd c_let c_many c_val c_ord c_free c_code c_next c_com c_met r1 hr1) ⟨rfl, rfl⟩ kv_Model_124 ⟨Nat.le_of_ble_eq_true rfl, Nat.le_of_ble_eq_true rfl⟩ 0 rfl rfl rfl hl.1 (Nat.le_of_ble_eq_true rfl) d_Model_compact_6 ⟨Nat.le_of_ble_eq_true rfl, Nat.le_of_ble_eq_true rfl⟩) hP hD hS hA [0, 1, 2, 3, 4, 5, 6, 7, 8, 9, 10, 11] [] [0, 1, 2, 3, 4, 5, 6, 7, 8, 9, 10, 11] rfl rfl rfl rfl (by decide) rfl (fun _ => rfl) (fun _ H locs _ hP hD hS => ?_)
  refine lv_iconst (v := 0) hx hb d_Model_compact_9 (by decide) ?_
  refine lv_istore_n (lv' := [(1, .int 0), (0, .ref a_m)]) hx hb d_Model_compact_10 rfl hl (by decide) rfl (fun ls hl => ?_)
  refine lv_iconst (v := 0) hx hb d_Model_compact_11 (by decide) ?_
  refine lv_istore_n (lv' := [(2, .int 0), (1, .int 0), (0, .ref a_m)]) hx hb d_Model_compact_12 rfl hl (by decide) rfl (fun ls hl => ?_)
  obtain ⟨y5, hy5, h⟩ := ob h
  have E13 : ∀ (z27 : Int32) (z28 : (Nat → Int32)), (z27, z28) = y5 → ∀ (H : Heap) (locs : List Loc) (ls : Array Slot), va_P G.1 classes (wM G a_m a_mfst a_msnd a_mlet a_mmany a_mval a_mord a_mfree a_mcode a_mnext a_mcom a_mmet c_sort c_cnt c_frees c_cur 0 c_fst c_snd c_let c_many c_val c_ord c_free z28 r1.2.1 r1.2.2 c_met) H → va_D A (wM G a_m a_mfst a_msnd a_mlet a_mmany a_mval a_mord a_mfree a_mcode a_mnext a_mcom a_mmet c_sort c_cnt c_frees c_cur 0 c_fst c_snd c_let c_many c_val c_ord c_free z28 r1.2.1 r1.2.2 c_met) → va_S A xs.heap H locs → lv_has ls 4 [(1, .int z27)] → W xp l xe { frames := 2, cells := 0, slots := 0, locals := 49 } xs xm ([.ref a_m] : List Value).toArray xb xme xc H locs 0 0 Q (F0 xm 115 ls []) := by
    intro z27 z28 ey H locs ls hP hD hS hl
    subst ey
    try dsimp only at h
    refine lv_iload_n hx hb d_Model_compact_115 rfl (lv_at hl 0 rfl) ?_
    obtain rfl := Option.some.inj h
    exact zreti () hQ hS.2.2 hx hb hr hlocks hP hD hS rfl (Nat.le_refl _) (Nat.le_refl _) d_Model_compact_116
  have L13 : ∀ v : (Int32 × Int32 × (Nat → Int32)), lp (fun v => s_Model_compact_13 c_sort c_cnt c_fst c_snd c_let c_many c_ord r1.2.2 v.1 v.2.1 v.2.2) v = some y5 → ∀ (H : Heap) (locs : List Loc) (ls : Array Slot), va_P G.1 classes (wM G a_m a_mfst a_msnd a_mlet a_mmany a_mval a_mord a_mfree a_mcode a_mnext a_mcom a_mmet c_sort c_cnt c_frees c_cur 0 c_fst c_snd c_let c_many c_val c_ord c_free v.2.2 r1.2.1 r1.2.2 c_met) H → va_D A (wM G a_m a_mfst a_msnd a_mlet a_mmany a_mval a_mord a_mfree a_mcode a_mnext a_mcom a_mmet c_sort c_cnt c_frees c_cur 0 c_fst c_snd c_let c_many c_val c_ord c_free v.2.2 r1.2.1 r1.2.2 c_met) → va_S A xs.heap H locs → lv_has ls 4 [(0, .ref a_m), (1, .int v.1), (2, .int v.2.1)] → W xp l xe { frames := 2, cells := 0, slots := 0, locals := 49 } xs xm ([.ref a_m] : List Value).toArray xb xme xc H locs 0 0 Q (F0 xm 13 ls []) := by
    refine lp_walk _ (fun v x h hc he => ?_)
    obtain ⟨x1_2, x2_3, c4⟩ := v
    intro H locs ls hP hD hS hl
    have h : s_Model_compact_13 c_sort c_cnt c_fst c_snd c_let c_many c_ord r1.2.2 x1_2 x2_3 c4 = some x := h
    unfold s_Model_compact_13 at h
    refine lv_iload_n hx hb d_Model_compact_13 rfl (lv_at hl 2 rfl) ?_
    refine lv_aload_n hx hb d_Model_compact_14 rfl (lv_at hl 0 rfl) ?_
    refine va_get (D := G.1) (ci := 6) (v := .int c_cnt) (C := "BranchStoreModel") (T := F_Model) (N := 16) hx hb hts i_Model hown hK hP 0 rfl rfl 7 (by decide) (hts _ k_777) (fun _ h9 => h9) rfl d_Model_compact_15 ?_
    refine lv_icmp_ge (tgt := 115) hx hb d_Model_compact_18 (by decide) (fun q6 => ?_) (fun q6 => ?_)
    · have h := it h q6
      exact E13 x1_2 c4 (he _ (Option.some.inj h).symm) H locs ls hP hD hS (lv_sub hl [1] rfl)
    · have h := ie h q6
      refine lv_iload_n hx hb d_Model_compact_21 rfl (lv_at hl 1 rfl) ?_
      refine lv_iconst (v := 4) hx hb d_Model_compact_22 (by decide) ?_
      refine lv_aload_n hx hb d_Model_compact_23 rfl (lv_at hl 0 rfl) ?_
      refine lv_aload_n hx hb d_Model_compact_24 rfl (lv_at hl 0 rfl) ?_
      refine va_get (D := G.1) (ci := 6) (v := .ref a_mcode) (C := "BranchStoreModel") (T := F_Model) (N := 16) hx hb hts i_Model hown hK hP 0 rfl rfl 12 (by decide) (hts _ k_782) (fun _ h9 => h9) rfl d_Model_compact_25 ?_
      refine lv_aload_n hx hb d_Model_compact_28 rfl (lv_at hl 0 rfl) ?_
      refine va_get (D := G.1) (ci := 6) (v := .ref a_mord) (C := "BranchStoreModel") (T := F_Model) (N := 16) hx hb hts i_Model hown hK hP 0 rfl rfl 6 (by decide) (hts _ k_776) (fun _ h9 => h9) rfl d_Model_compact_29 ?_
      refine lv_iload_n hx hb d_Model_compact_32 rfl (lv_at hl 2 rfl) ?_
      obtain ⟨h7, h⟩ := gi_k h
      refine va_iald hx hb hK hP 6 0 rfl rfl h7 d_Model_compact_33 ?_
      obtain ⟨r8, hr8, h⟩ := ob h
      refine zcalli (wr := []) (w2 := fun _ => (wM G a_m a_mfst a_msnd a_mlet a_mmany a_mval a_mord a_mfree a_mcode a_mnext a_mcom a_mmet c_sort c_cnt c_frees c_cur 0 c_fst c_snd c_let c_many c_val c_ord c_free r8.2 r1.2.1 r1.2.2 c_met)) (zrunV (As := [.ref a_mcode, .int (c_ord x2_3.toNatClampNeg)]) (rest := [.int 4, .int x1_2]) ⟨hx, hb, hml, hown, hts⟩ hN hK (c_Model_encodeC l G H.size a_m a_mfst a_msnd a_mlet a_mmany a_mval a_mord a_mfree a_mcode a_mnext a_mcom a_mmet c_sort c_cnt c_frees c_cur 0 c_fst c_snd c_let c_many c_val c_ord c_free c4 r1.2.1 r1.2.2 c_met (c_ord x2_3.toNatClampNeg) r8 hr8) ⟨rfl, rfl⟩ kv_Model_120 ⟨Nat.le_of_ble_eq_true rfl, Nat.le_of_ble_eq_true rfl⟩ 0 rfl rfl rfl hl.1 (Nat.le_of_ble_eq_true rfl) d_Model_compact_34 ⟨Nat.le_of_ble_eq_true rfl, Nat.le_of_ble_eq_true rfl⟩) hP hD hS hA [0, 1, 2, 3, 4, 5, 6, 7, 8, 9, 10, 11] [] [0, 1, 2, 3, 4, 5, 6, 7, 8, 9, 10, 11] rfl rfl rfl rfl (by decide) rfl (fun _ => rfl) (fun rr _ H locs hw hP hD hS => ?_)
      have hw := hw.symm
      subst hw
      refine lv_iconst (v := 3) hx hb d_Model_compact_37 (by decide) ?_
      refine lv_iadd hx hb d_Model_compact_38 ?_
      refine lv_iconst (v := 4) hx hb d_Model_compact_39 (by decide) ?_
      refine lv_idiv hx hb d_Model_compact_40 (by decide) ?_
      refine lv_iadd hx hb d_Model_compact_41 ?_
      refine lv_iadd hx hb d_Model_compact_42 ?_
      refine lv_topi (fun v9 ev9 => ?_)
      have h := nm_k h v9 ev9
      refine lv_istore_n (lv' := [(1, .int v9), (0, .ref a_m), (2, .int x2_3)]) hx hb d_Model_compact_43 rfl hl (by decide) rfl (fun ls hl => ?_)
      refine lv_iload_n hx hb d_Model_compact_44 rfl (lv_at hl 2 rfl) ?_
      refine lv_iconst (v := 1) hx hb d_Model_compact_45 (by decide) ?_
      refine lv_iadd hx hb d_Model_compact_46 ?_
      refine lv_aload_n hx hb d_Model_compact_47 rfl (lv_at hl 1 rfl) ?_
      refine va_get (D := G.1) (ci := 6) (v := .int c_cnt) (C := "BranchStoreModel") (T := F_Model) (N := 16) hx hb hts i_Model hown hK hP 0 rfl rfl 7 (by decide) (hts _ k_777) (fun _ h9 => h9) rfl d_Model_compact_48 ?_
      refine lv_icmp_eq (tgt := 109) hx hb d_Model_compact_51 (by decide) (fun q10 => ?_) (fun q10 => ?_)
      · have h := it h q10
        obtain ⟨v11, ev11⟩ : ∃ y : Int32, y = x2_3 + 1 := ⟨_, rfl⟩
        have h := nm_k h v11 ev11
        refine lv_iinc (v := v11) (lv' := [(2, .int v11), (1, .int v9), (0, .ref a_m)]) hx hb d_Model_compact_109 hl (k := 2) rfl (by rw [ev11]; rfl) (by decide) rfl (fun ls hl => ?_)
        refine lv_goto (tgt := 13) hx hb d_Model_compact_112 (by decide) ?_
        exact hc _ (Option.some.inj h).symm H locs ls hP hD hS (lv_sub hl [2, 1, 0] rfl)
      · have h := ie h q10
        refine lv_aload_n hx hb d_Model_compact_54 rfl (lv_at hl 1 rfl) ?_
        refine lv_iload_n hx hb d_Model_compact_55 rfl (lv_at hl 2 rfl) ?_
        obtain ⟨r12, hr12, h⟩ := ob h
        refine zpcalli (wr := []) (w2 := fun _ => (wM G a_m a_mfst a_msnd a_mlet a_mmany a_mval a_mord a_mfree a_mcode a_mnext a_mcom a_mmet c_sort c_cnt c_frees c_cur 0 c_fst c_snd c_let c_many c_val c_ord c_free r8.2 r1.2.1 r1.2.2 c_met)) (zrunV (As := [.int x2_3]) (rest := []) ⟨hx, hb, hml, hown, hts⟩ hN hK (c_Model_isFirst l G H.size a_m a_mfst a_msnd a_mlet a_mmany a_mval a_mord a_mfree a_mcode a_mnext a_mcom a_mmet c_sort c_cnt c_frees c_cur 0 c_fst c_snd c_let c_many c_val c_ord c_free r8.2 r1.2.1 r1.2.2 c_met x2_3 r12 hr12) ⟨rfl, rfl⟩ kv_Model_127 ⟨Nat.le_of_ble_eq_true rfl, Nat.le_of_ble_eq_true rfl⟩ 0 rfl rfl rfl hl.1 (Nat.le_of_ble_eq_true rfl) d_Model_compact_56 ⟨Nat.le_of_ble_eq_true rfl, Nat.le_of_ble_eq_true rfl⟩) hP hD hS hA [0, 1, 2, 3, 4, 5, 6, 7, 8, 9, 10, 11] [] [0, 1, 2, 3, 4, 5, 6, 7, 8, 9, 10, 11] rfl rfl rfl rfl (by decide) rfl (fun _ => rfl) (fun rr _ H hw hP hD hS => ?_)
        obtain ⟨hw, hz13⟩ := hw
        have hw := hw.symm
        subst hw
        refine lv_if_ne (tgt := 65) hx hb d_Model_compact_59 (by decide) (fun q14 => ?_) (fun q14 => ?_)
        · have h := ie h q14
          refine lv_aload_n hx hb d_Model_compact_65 rfl (lv_at hl 1 rfl) ?_
          refine lv_iload_n hx hb d_Model_compact_66 rfl (lv_at hl 2 rfl) ?_
          obtain ⟨r15, hr15, h⟩ := ob h
          refine zpcalli (wr := []) (w2 := fun _ => (wM G a_m a_mfst a_msnd a_mlet a_mmany a_mval a_mord a_mfree a_mcode a_mnext a_mcom a_mmet c_sort c_cnt c_frees c_cur 0 c_fst c_snd c_let c_many c_val c_ord c_free r8.2 r1.2.1 r1.2.2 c_met)) (zrunV (As := [.int x2_3]) (rest := []) ⟨hx, hb, hml, hown, hts⟩ hN hK (c_Model_children l G H.size a_m a_mfst a_msnd a_mlet a_mmany a_mval a_mord a_mfree a_mcode a_mnext a_mcom a_mmet c_sort c_cnt c_frees c_cur 0 c_fst c_snd c_let c_many c_val c_ord c_free r8.2 r1.2.1 r1.2.2 c_met x2_3 r15 hr15) ⟨rfl, rfl⟩ kv_Model_130 ⟨Nat.le_of_ble_eq_true rfl, Nat.le_of_ble_eq_true rfl⟩ 0 rfl rfl rfl hl.1 (Nat.le_of_ble_eq_true rfl) d_Model_compact_67 ⟨Nat.le_of_ble_eq_true rfl, Nat.le_of_ble_eq_true rfl⟩) hP hD hS hA [0, 1, 2, 3, 4, 5, 6, 7, 8, 9, 10, 11] [] [0, 1, 2, 3, 4, 5, 6, 7, 8, 9, 10, 11] rfl rfl rfl rfl (by decide) rfl (fun _ => rfl) (fun rr _ H hw hP hD hS => ?_)
          have hw := hw.symm
          subst hw
          obtain ⟨r16, hr16, h⟩ := ob h
          refine zpcalli (wr := (wM G a_m a_mfst a_msnd a_mlet a_mmany a_mval a_mord a_mfree a_mcode a_mnext a_mcom a_mmet c_sort c_cnt c_frees c_cur 0 c_fst c_snd c_let c_many c_val c_ord c_free r8.2 r1.2.1 r1.2.2 c_met)) (w2 := fun _ => (wM G a_m a_mfst a_msnd a_mlet a_mmany a_mval a_mord a_mfree a_mcode a_mnext a_mcom a_mmet c_sort c_cnt c_frees c_cur 0 c_fst c_snd c_let c_many c_val c_ord c_free r8.2 r1.2.1 r1.2.2 c_met)) (zrunS (As := [.int r15]) (rest := []) ⟨hx, hb, hml, hown, hts⟩ hN hK (c_Model_sizeOf l G H.size r15 r16 hr16) ⟨rfl, rfl⟩ kv_Model_133 ⟨Nat.le_of_ble_eq_true rfl, Nat.le_of_ble_eq_true rfl⟩ rfl hl.1 (Nat.le_of_ble_eq_true rfl) d_Model_compact_70 ⟨Nat.le_of_ble_eq_true rfl, Nat.le_of_ble_eq_true rfl⟩) hP hD hS hA [] [0, 1, 2, 3, 4, 5, 6, 7, 8, 9, 10, 11] [0, 1, 2, 3, 4, 5, 6, 7, 8, 9, 10, 11] rfl rfl rfl rfl (by decide) rfl (fun _ => rfl) (fun rr _ H hw hP hD hS => ?_)
          have hw := hw.symm
          subst hw
          refine lv_istore_n (lv' := [(3, .int r16), (1, .int v9), (0, .ref a_m), (2, .int x2_3)]) hx hb d_Model_compact_73 rfl hl (by decide) rfl (fun ls hl => ?_)
          refine lv_iload_n hx hb d_Model_compact_74 rfl (lv_at hl 1 rfl) ?_
          refine lv_iload_n hx hb d_Model_compact_75 rfl (lv_at hl 0 rfl) ?_
          obtain ⟨y21, hy21, h⟩ := ob h
          have J107 : ∀ (z23 : Int32), z23 = y21 → ∀ (H : Heap) (locs : List Loc) (ls : Array Slot), va_P G.1 classes (wM G a_m a_mfst a_msnd a_mlet a_mmany a_mval a_mord a_mfree a_mcode a_mnext a_mcom a_mmet c_sort c_cnt c_frees c_cur 0 c_fst c_snd c_let c_many c_val c_ord c_free r8.2 r1.2.1 r1.2.2 c_met) H → va_D A (wM G a_m a_mfst a_msnd a_mlet a_mmany a_mval a_mord a_mfree a_mcode a_mnext a_mcom a_mmet c_sort c_cnt c_frees c_cur 0 c_fst c_snd c_let c_many c_val c_ord c_free r8.2 r1.2.1 r1.2.2 c_met) → va_S A xs.heap H locs → lv_has ls 4 [(0, .ref a_m), (2, .int x2_3)] → W xp l xe { frames := 2, cells := 0, slots := 0, locals := 49 } xs xm ([.ref a_m] : List Value).toArray xb xme xc H locs 0 0 Q (F0 xm 107 ls [.int z23, .int v9]) := by
            intro z23 ey H locs ls hP hD hS hl
            subst ey
            try dsimp only at h
            refine lv_iadd hx hb d_Model_compact_107 ?_
            refine lv_topi (fun v24 ev24 => ?_)
            have h := nm_k h v24 ev24
            refine lv_istore_n (lv' := [(1, .int v24), (0, .ref a_m), (2, .int x2_3)]) hx hb d_Model_compact_108 rfl hl (by decide) rfl (fun ls hl => ?_)
            obtain ⟨v25, ev25⟩ : ∃ y : Int32, y = x2_3 + 1 := ⟨_, rfl⟩
            have h := nm_k h v25 ev25
            refine lv_iinc (v := v25) (lv' := [(2, .int v25), (1, .int v24), (0, .ref a_m)]) hx hb d_Model_compact_109 hl (k := 2) rfl (by rw [ev25]; rfl) (by decide) rfl (fun ls hl => ?_)
            refine lv_goto (tgt := 13) hx hb d_Model_compact_112 (by decide) ?_
            exact hc _ (Option.some.inj h).symm H locs ls hP hD hS (lv_sub hl [2, 1, 0] rfl)
          have h := hy21
          refine lv_if_ne (tgt := 84) hx hb d_Model_compact_76 (by decide) (fun q18 => ?_) (fun q18 => ?_)
          · have h := ie h q18
            refine lv_iload_n hx hb d_Model_compact_84 rfl (lv_at hl 0 rfl) ?_
            refine lv_iconst (v := 1) hx hb d_Model_compact_85 (by decide) ?_
            refine lv_icmp_ne (tgt := 94) hx hb d_Model_compact_86 (by decide) (fun q19 => ?_) (fun q19 => ?_)
            · have h := ie h q19
              refine lv_iload_n hx hb d_Model_compact_94 rfl (lv_at hl 0 rfl) ?_
              refine lv_iconst (v := 2) hx hb d_Model_compact_95 (by decide) ?_
              refine lv_icmp_ne (tgt := 104) hx hb d_Model_compact_96 (by decide) (fun q20 => ?_) (fun q20 => ?_)
              · have h := ie h q20
                refine lv_sipush (v := 260) hx hb d_Model_compact_104 (by decide) ?_
                exact J107 260 (Option.some.inj h) H locs ls hP hD hS (lv_sub hl [2, 3] rfl)
              · have h := it h q20
                refine lv_bipush (v := 116) hx hb d_Model_compact_99 (by decide) ?_
                refine lv_goto (tgt := 107) hx hb d_Model_compact_101 (by decide) ?_
                exact J107 116 (Option.some.inj h) H locs ls hP hD hS (lv_sub hl [2, 3] rfl)
            · have h := it h q19
              refine lv_bipush (v := 24) hx hb d_Model_compact_89 (by decide) ?_
              refine lv_goto (tgt := 107) hx hb d_Model_compact_91 (by decide) ?_
              exact J107 24 (Option.some.inj h) H locs ls hP hD hS (lv_sub hl [2, 3] rfl)
          · have h := it h q18
            refine lv_bipush (v := 9) hx hb d_Model_compact_79 (by decide) ?_
            refine lv_goto (tgt := 107) hx hb d_Model_compact_81 (by decide) ?_
            exact J107 9 (Option.some.inj h) H locs ls hP hD hS (lv_sub hl [2, 3] rfl)
        · have h := it h q14
          refine lv_goto (tgt := 109) hx hb d_Model_compact_62 (by decide) ?_
          obtain ⟨v26, ev26⟩ : ∃ y : Int32, y = x2_3 + 1 := ⟨_, rfl⟩
          have h := nm_k h v26 ev26
          refine lv_iinc (v := v26) (lv' := [(2, .int v26), (1, .int v9), (0, .ref a_m)]) hx hb d_Model_compact_109 hl (k := 2) rfl (by rw [ev26]; rfl) (by decide) rfl (fun ls hl => ?_)
          refine lv_goto (tgt := 13) hx hb d_Model_compact_112 (by decide) ?_
          exact hc _ (Option.some.inj h).symm H locs ls hP hD hS (lv_sub hl [2, 1, 0] rfl)
  exact L13 _ hy5 _ _ ls hP hD hS (lv_sub hl [2, 1, 0] rfl)

noncomputable def s_Model_branches_4 (c_cnt : Int32) (c_com : (Nat → Int32)) (x1 : Int32) (x2 : Int32) (x3 : Int32) : Option ((Int32 × Int32) ⊕ Int32) :=
if c_cnt ≤ (x3 + 1) then
(some (.inr x2))
else
((f_Model_isFirst c_com x3).bind fun r5 =>
(if r5 = 0 then
(some 0)
else
((f_Model_children c_cnt c_com x3).bind fun r9 =>
(f_Model_sizeOf r9).bind fun r10 =>
if r10 = x1 then
(some 1)
else
(some 0))).bind fun y13 =>
nm (x2 + y13) fun v15 =>
nm (x3 + 1) fun v16 =>
some (.inl (v15, v16)))
noncomputable def f_Model_branches (c_cnt : Int32) (c_com : (Nat → Int32)) (p_1 : Int32) : Option Int32 :=
(lp (fun v => s_Model_branches_4 c_cnt c_com p_1 v.1 v.2) (0, 0)).bind fun y18 =>
some y18
set_option maxHeartbeats 8000000 in
set_option maxRecDepth 100000 in
theorem c_Model_branches (l : Launch) (G : zG) (sz : Nat) (a_m a_mfst a_msnd a_mlet a_mmany a_mval a_mord a_mfree a_mcode a_mnext a_mcom a_mmet : Nat) (c_sort : Int32) (c_cnt : Int32) (c_frees : Int32) (c_cur : Int32) (c_thr : Int32) (c_fst : (Nat → Int64)) (c_snd : (Nat → Int64)) (c_let : (Nat → Int32)) (c_many : (Nat → Int32)) (c_val : (Nat → Int64)) (c_ord : (Nat → Int32)) (c_free : (Nat → Int32)) (c_code : (Nat → Int32)) (c_next : (Nat → Int32)) (c_com : (Nat → Int32)) (c_met : (Nat → Int32)) (p_1 : Int32) (r0 : Int32) (hf : f_Model_branches c_cnt c_com p_1 = some r0) :
    Met l y_Model_branches (Cond.code y_Model_branches prog_9_method_44_code 4 (some .int) :: lw_ok) { frames := 1, cells := 0, slots := 0, locals := 23 } (zPc G sz [.ref a_m, .int p_1] (wM G a_m a_mfst a_msnd a_mlet a_mmany a_mval a_mord a_mfree a_mcode a_mnext a_mcom a_mmet c_sort c_cnt c_frees c_cur c_thr c_fst c_snd c_let c_many c_val c_ord c_free c_code c_next c_com c_met))
      ((fun (A : Nat → Prop) => va_Qi (fun (r : Int32) (_ : Unit) => r = r0) (fun _ t => zB G A (wM G a_m a_mfst a_msnd a_mlet a_mmany a_mval a_mord a_mfree a_mcode a_mnext a_mcom a_mmet c_sort c_cnt c_frees c_cur c_thr c_fst c_snd c_let c_many c_val c_ord c_free c_code c_next c_com c_met) t) A) (va_A (wM G a_m a_mfst a_msnd a_mlet a_mmany a_mval a_mord a_mfree a_mcode a_mnext a_mcom a_mmet c_sort c_cnt c_frees c_cur c_thr c_fst c_snd c_let c_many c_val c_ord c_free c_code c_next c_com c_met) sz)) 0 0 (fun q => sz ≤ q) := by
  refine zMetR (Qc := fun (A : Nat → Prop) => va_Qi (fun (r : Int32) (_ : Unit) => r = r0) (fun _ t => zB G A (wM G a_m a_mfst a_msnd a_mlet a_mmany a_mval a_mord a_mfree a_mcode a_mnext a_mcom a_mmet c_sort c_cnt c_frees c_cur c_thr c_fst c_snd c_let c_many c_val c_ord c_free c_code c_next c_com c_met) t) A) (by decide) (Nat.le_of_ble_eq_true rfl) (fun xp xe xs xm xb xme xc A ls Q H locs C hN hK hP hD hS hL hA hl hQ => ?_)
  obtain ⟨hx, hb, hr, hts, hown, hlocks, hml, hin⟩ := C
  have hl : lv_has ls 4 [(0, .ref a_m), (1, .int p_1)] := hl
  have h := hf
  unfold f_Model_branches at h
  refine lv_iconst (v := 0) hx hb d_Model_branches_0 (by decide) ?_
  refine lv_istore_n (lv' := [(2, .int 0), (0, .ref a_m), (1, .int p_1)]) hx hb d_Model_branches_1 rfl hl (by decide) rfl (fun ls hl => ?_)
  refine lv_iconst (v := 0) hx hb d_Model_branches_2 (by decide) ?_
  refine lv_istore_n (lv' := [(3, .int 0), (2, .int 0), (0, .ref a_m), (1, .int p_1)]) hx hb d_Model_branches_3 rfl hl (by decide) rfl (fun ls hl => ?_)
  obtain ⟨y3, hy3, h⟩ := ob h
  have E4 : ∀ (z17 : Int32), z17 = y3 → ∀ (H : Heap) (locs : List Loc) (ls : Array Slot), va_P G.1 classes (wM G a_m a_mfst a_msnd a_mlet a_mmany a_mval a_mord a_mfree a_mcode a_mnext a_mcom a_mmet c_sort c_cnt c_frees c_cur c_thr c_fst c_snd c_let c_many c_val c_ord c_free c_code c_next c_com c_met) H → va_D A (wM G a_m a_mfst a_msnd a_mlet a_mmany a_mval a_mord a_mfree a_mcode a_mnext a_mcom a_mmet c_sort c_cnt c_frees c_cur c_thr c_fst c_snd c_let c_many c_val c_ord c_free c_code c_next c_com c_met) → va_S A xs.heap H locs → (∀ q ∈ locs, xs.heap.size ≤ q.base) → lv_has ls 4 [(2, .int z17)] → W xp l xe { frames := 1, cells := 0, slots := 0, locals := 23 } xs xm ([.ref a_m, .int p_1] : List Value).toArray xb xme xc H locs 0 0 Q (F0 xm 48 ls []) := by
    intro z17 ey H locs ls hP hD hS hL hl
    subst ey
    try dsimp only at h
    refine lv_iload_n hx hb d_Model_branches_48 rfl (lv_at hl 0 rfl) ?_
    obtain rfl := Option.some.inj h
    exact zreti () hQ hL hx hb hr hlocks hP hD hS rfl (Nat.le_refl _) (Nat.le_refl _) d_Model_branches_49
  have L4 : ∀ v : (Int32 × Int32), lp (fun v => s_Model_branches_4 c_cnt c_com p_1 v.1 v.2) v = some y3 → ∀ (H : Heap) (locs : List Loc) (ls : Array Slot), va_P G.1 classes (wM G a_m a_mfst a_msnd a_mlet a_mmany a_mval a_mord a_mfree a_mcode a_mnext a_mcom a_mmet c_sort c_cnt c_frees c_cur c_thr c_fst c_snd c_let c_many c_val c_ord c_free c_code c_next c_com c_met) H → va_D A (wM G a_m a_mfst a_msnd a_mlet a_mmany a_mval a_mord a_mfree a_mcode a_mnext a_mcom a_mmet c_sort c_cnt c_frees c_cur c_thr c_fst c_snd c_let c_many c_val c_ord c_free c_code c_next c_com c_met) → va_S A xs.heap H locs → (∀ q ∈ locs, xs.heap.size ≤ q.base) → lv_has ls 4 [(0, .ref a_m), (1, .int p_1), (2, .int v.1), (3, .int v.2)] → W xp l xe { frames := 1, cells := 0, slots := 0, locals := 23 } xs xm ([.ref a_m, .int p_1] : List Value).toArray xb xme xc H locs 0 0 Q (F0 xm 4 ls []) := by
    refine lp_walk _ (fun v x h hc he => ?_)
    obtain ⟨x2_1, x3_2⟩ := v
    intro H locs ls hP hD hS hL hl
    have h : s_Model_branches_4 c_cnt c_com p_1 x2_1 x3_2 = some x := h
    unfold s_Model_branches_4 at h
    refine lv_iload_n hx hb d_Model_branches_4 rfl (lv_at hl 3 rfl) ?_
    refine lv_iconst (v := 1) hx hb d_Model_branches_5 (by decide) ?_
    refine lv_iadd hx hb d_Model_branches_6 ?_
    refine lv_aload_n hx hb d_Model_branches_7 rfl (lv_at hl 0 rfl) ?_
    refine va_get (D := G.1) (ci := 6) (v := .int c_cnt) (C := "BranchStoreModel") (T := F_Model) (N := 16) hx hb hts i_Model hown hK hP 0 rfl rfl 7 (by decide) (hts _ k_777) (fun _ h9 => h9) rfl d_Model_branches_8 ?_
    refine lv_icmp_ge (tgt := 48) hx hb d_Model_branches_11 (by decide) (fun q4 => ?_) (fun q4 => ?_)
    · have h := it h q4
      exact E4 x2_1 (he _ (Option.some.inj h).symm) H locs ls hP hD hS hL (lv_sub hl [2] rfl)
    · have h := ie h q4
      refine lv_iload_n hx hb d_Model_branches_14 rfl (lv_at hl 2 rfl) ?_
      refine lv_aload_n hx hb d_Model_branches_15 rfl (lv_at hl 0 rfl) ?_
      refine lv_iload_n hx hb d_Model_branches_16 rfl (lv_at hl 3 rfl) ?_
      obtain ⟨r5, hr5, h⟩ := ob h
      refine zpcalli (wr := []) (w2 := fun _ => (wM G a_m a_mfst a_msnd a_mlet a_mmany a_mval a_mord a_mfree a_mcode a_mnext a_mcom a_mmet c_sort c_cnt c_frees c_cur c_thr c_fst c_snd c_let c_many c_val c_ord c_free c_code c_next c_com c_met)) (zrunV (As := [.int x3_2]) (rest := [.int x2_1]) ⟨hx, hb, hml, hown, hts⟩ hN hK (c_Model_isFirst l G H.size a_m a_mfst a_msnd a_mlet a_mmany a_mval a_mord a_mfree a_mcode a_mnext a_mcom a_mmet c_sort c_cnt c_frees c_cur c_thr c_fst c_snd c_let c_many c_val c_ord c_free c_code c_next c_com c_met x3_2 r5 hr5) ⟨rfl, rfl⟩ kv_Model_127 ⟨Nat.le_of_ble_eq_true rfl, Nat.le_of_ble_eq_true rfl⟩ 0 rfl rfl rfl hl.1 (Nat.le_of_ble_eq_true rfl) d_Model_branches_17 ⟨Nat.le_of_ble_eq_true rfl, Nat.le_of_ble_eq_true rfl⟩) hP hD hS hA [0, 1, 2, 3, 4, 5, 6, 7, 8, 9, 10, 11] [] [0, 1, 2, 3, 4, 5, 6, 7, 8, 9, 10, 11] rfl rfl rfl rfl (by decide) rfl (fun _ => rfl) (fun rr _ H hw hP hD hS => ?_)
      obtain ⟨hw, hz6⟩ := hw
      have hw := hw.symm
      subst hw
      obtain ⟨y12, hy12, h⟩ := ob h
      have J40 : ∀ (z14 : Int32), narrow .boolean (.int z14) = .int z14 → z14 = y12 → ∀ (H : Heap) (locs : List Loc) (ls : Array Slot), va_P G.1 classes (wM G a_m a_mfst a_msnd a_mlet a_mmany a_mval a_mord a_mfree a_mcode a_mnext a_mcom a_mmet c_sort c_cnt c_frees c_cur c_thr c_fst c_snd c_let c_many c_val c_ord c_free c_code c_next c_com c_met) H → va_D A (wM G a_m a_mfst a_msnd a_mlet a_mmany a_mval a_mord a_mfree a_mcode a_mnext a_mcom a_mmet c_sort c_cnt c_frees c_cur c_thr c_fst c_snd c_let c_many c_val c_ord c_free c_code c_next c_com c_met) → va_S A xs.heap H locs → (∀ q ∈ locs, xs.heap.size ≤ q.base) → lv_has ls 4 [(0, .ref a_m), (1, .int p_1), (3, .int x3_2)] → W xp l xe { frames := 1, cells := 0, slots := 0, locals := 23 } xs xm ([.ref a_m, .int p_1] : List Value).toArray xb xme xc H locs 0 0 Q (F0 xm 40 ls [.int z14, .int x2_1]) := by
        intro z14 hzz14 ey H locs ls hP hD hS hL hl
        subst ey
        try dsimp only at h
        refine lv_iadd hx hb d_Model_branches_40 ?_
        refine lv_topi (fun v15 ev15 => ?_)
        have h := nm_k h v15 ev15
        refine lv_istore_n (lv' := [(2, .int v15), (0, .ref a_m), (1, .int p_1), (3, .int x3_2)]) hx hb d_Model_branches_41 rfl hl (by decide) rfl (fun ls hl => ?_)
        obtain ⟨v16, ev16⟩ : ∃ y : Int32, y = x3_2 + 1 := ⟨_, rfl⟩
        have h := nm_k h v16 ev16
        refine lv_iinc (v := v16) (lv' := [(3, .int v16), (2, .int v15), (0, .ref a_m), (1, .int p_1)]) hx hb d_Model_branches_42 hl (k := 3) rfl (by rw [ev16]; rfl) (by decide) rfl (fun ls hl => ?_)
        refine lv_goto (tgt := 4) hx hb d_Model_branches_45 (by decide) ?_
        exact hc _ (Option.some.inj h).symm H locs ls hP hD hS hL (lv_sub hl [2, 3, 1, 0] rfl)
      have h := hy12
      refine lv_if_eq (tgt := 39) hx hb d_Model_branches_20 (by decide) (fun q8 => ?_) (fun q8 => ?_)
      · have h := it h q8
        refine lv_iconst (v := 0) hx hb d_Model_branches_39 (by decide) ?_
        exact J40 0 rfl (Option.some.inj h) H locs ls hP hD hS hL (lv_sub hl [0, 1, 3] rfl)
      · have h := ie h q8
        refine lv_aload_n hx hb d_Model_branches_23 rfl (lv_at hl 0 rfl) ?_
        refine lv_iload_n hx hb d_Model_branches_24 rfl (lv_at hl 3 rfl) ?_
        obtain ⟨r9, hr9, h⟩ := ob h
        refine zpcalli (wr := []) (w2 := fun _ => (wM G a_m a_mfst a_msnd a_mlet a_mmany a_mval a_mord a_mfree a_mcode a_mnext a_mcom a_mmet c_sort c_cnt c_frees c_cur c_thr c_fst c_snd c_let c_many c_val c_ord c_free c_code c_next c_com c_met)) (zrunV (As := [.int x3_2]) (rest := [.int x2_1]) ⟨hx, hb, hml, hown, hts⟩ hN hK (c_Model_children l G H.size a_m a_mfst a_msnd a_mlet a_mmany a_mval a_mord a_mfree a_mcode a_mnext a_mcom a_mmet c_sort c_cnt c_frees c_cur c_thr c_fst c_snd c_let c_many c_val c_ord c_free c_code c_next c_com c_met x3_2 r9 hr9) ⟨rfl, rfl⟩ kv_Model_130 ⟨Nat.le_of_ble_eq_true rfl, Nat.le_of_ble_eq_true rfl⟩ 0 rfl rfl rfl hl.1 (Nat.le_of_ble_eq_true rfl) d_Model_branches_25 ⟨Nat.le_of_ble_eq_true rfl, Nat.le_of_ble_eq_true rfl⟩) hP hD hS hA [0, 1, 2, 3, 4, 5, 6, 7, 8, 9, 10, 11] [] [0, 1, 2, 3, 4, 5, 6, 7, 8, 9, 10, 11] rfl rfl rfl rfl (by decide) rfl (fun _ => rfl) (fun rr _ H hw hP hD hS => ?_)
        have hw := hw.symm
        subst hw
        obtain ⟨r10, hr10, h⟩ := ob h
        refine zpcalli (wr := (wM G a_m a_mfst a_msnd a_mlet a_mmany a_mval a_mord a_mfree a_mcode a_mnext a_mcom a_mmet c_sort c_cnt c_frees c_cur c_thr c_fst c_snd c_let c_many c_val c_ord c_free c_code c_next c_com c_met)) (w2 := fun _ => (wM G a_m a_mfst a_msnd a_mlet a_mmany a_mval a_mord a_mfree a_mcode a_mnext a_mcom a_mmet c_sort c_cnt c_frees c_cur c_thr c_fst c_snd c_let c_many c_val c_ord c_free c_code c_next c_com c_met)) (zrunS (As := [.int r9]) (rest := [.int x2_1]) ⟨hx, hb, hml, hown, hts⟩ hN hK (c_Model_sizeOf l G H.size r9 r10 hr10) ⟨rfl, rfl⟩ kv_Model_133 ⟨Nat.le_of_ble_eq_true rfl, Nat.le_of_ble_eq_true rfl⟩ rfl hl.1 (Nat.le_of_ble_eq_true rfl) d_Model_branches_28 ⟨Nat.le_of_ble_eq_true rfl, Nat.le_of_ble_eq_true rfl⟩) hP hD hS hA [] [0, 1, 2, 3, 4, 5, 6, 7, 8, 9, 10, 11] [0, 1, 2, 3, 4, 5, 6, 7, 8, 9, 10, 11] rfl rfl rfl rfl (by decide) rfl (fun _ => rfl) (fun rr _ H hw hP hD hS => ?_)
        have hw := hw.symm
        subst hw
        refine lv_iload_n hx hb d_Model_branches_31 rfl (lv_at hl 1 rfl) ?_
        refine lv_icmp_ne (tgt := 39) hx hb d_Model_branches_32 (by decide) (fun q11 => ?_) (fun q11 => ?_)
        · have h := ie h q11
          refine lv_iconst (v := 0) hx hb d_Model_branches_39 (by decide) ?_
          exact J40 0 rfl (Option.some.inj h) H locs ls hP hD hS hL (lv_sub hl [0, 1, 3] rfl)
        · have h := it h q11
          refine lv_iconst (v := 1) hx hb d_Model_branches_35 (by decide) ?_
          refine lv_goto (tgt := 40) hx hb d_Model_branches_36 (by decide) ?_
          exact J40 1 rfl (Option.some.inj h) H locs ls hP hD hS hL (lv_sub hl [0, 1, 3] rfl)
  exact L4 _ hy3 _ _ ls hP hD hS hL (lv_sub hl [2, 3, 1, 0] rfl)

theorem kv_Model_136 : zKV "BranchStoreModel" 136 y_Model_depth prog_9_method_42_code 5 (some .int) 1 := ⟨k_999, k_1001, kp_43, k_8, k_1002, by decide +kernel⟩
noncomputable def s_Model_deepest_4 (c_cnt : Int32) (c_com : (Nat → Int32)) (x1 : Int32) (x2 : Int32) (c_met : (Nat → Int32)) : Option ((Int32 × Int32 × (Nat → Int32)) ⊕ (Int32 × (Nat → Int32))) :=
if c_cnt ≤ x2 then
(some (.inr (x1, c_met)))
else
((f_Model_depth c_cnt c_com c_met x2).bind fun r6 =>
(if r6.1 ≤ x1 then
(some x1)
else
(some r6.1)).bind fun y10 =>
nm (x2 + 1) fun v12 =>
some (.inl (y10, v12, r6.2)))
noncomputable def f_Model_deepest (c_cnt : Int32) (c_com : (Nat → Int32)) (c_met : (Nat → Int32))  : Option (Int32 × (Nat → Int32)) :=
(lp (fun v => s_Model_deepest_4 c_cnt c_com v.1 v.2.1 v.2.2) (0, 0, c_met)).bind fun y15 =>
some (y15.1, y15.2)
set_option maxHeartbeats 8000000 in
set_option maxRecDepth 100000 in
theorem c_Model_deepest (l : Launch) (G : zG) (sz : Nat) (a_m a_mfst a_msnd a_mlet a_mmany a_mval a_mord a_mfree a_mcode a_mnext a_mcom a_mmet : Nat) (c_sort : Int32) (c_cnt : Int32) (c_frees : Int32) (c_cur : Int32) (c_thr : Int32) (c_fst : (Nat → Int64)) (c_snd : (Nat → Int64)) (c_let : (Nat → Int32)) (c_many : (Nat → Int32)) (c_val : (Nat → Int64)) (c_ord : (Nat → Int32)) (c_free : (Nat → Int32)) (c_code : (Nat → Int32)) (c_next : (Nat → Int32)) (c_com : (Nat → Int32)) (c_met : (Nat → Int32)) (r0 : (Int32 × (Nat → Int32))) (hf : f_Model_deepest c_cnt c_com c_met = some r0) :
    Met l y_Model_deepest (Cond.code y_Model_deepest prog_9_method_45_code 4 (some .int) :: lw_ok) { frames := 1, cells := 0, slots := 0, locals := 24 } (zPc G sz [.ref a_m] (wM G a_m a_mfst a_msnd a_mlet a_mmany a_mval a_mord a_mfree a_mcode a_mnext a_mcom a_mmet c_sort c_cnt c_frees c_cur c_thr c_fst c_snd c_let c_many c_val c_ord c_free c_code c_next c_com c_met))
      ((fun (A : Nat → Prop) => va_Qi (fun (r : Int32) (_ : Unit) => r = r0.1) (fun _ t => zB G A (wM G a_m a_mfst a_msnd a_mlet a_mmany a_mval a_mord a_mfree a_mcode a_mnext a_mcom a_mmet c_sort c_cnt c_frees c_cur c_thr c_fst c_snd c_let c_many c_val c_ord c_free c_code c_next c_com r0.2) t) A) (va_A (wM G a_m a_mfst a_msnd a_mlet a_mmany a_mval a_mord a_mfree a_mcode a_mnext a_mcom a_mmet c_sort c_cnt c_frees c_cur c_thr c_fst c_snd c_let c_many c_val c_ord c_free c_code c_next c_com c_met) sz)) 0 0 (va_A (wM G a_m a_mfst a_msnd a_mlet a_mmany a_mval a_mord a_mfree a_mcode a_mnext a_mcom a_mmet c_sort c_cnt c_frees c_cur c_thr c_fst c_snd c_let c_many c_val c_ord c_free c_code c_next c_com c_met) sz) := by
  refine zMet (Qc := fun (A : Nat → Prop) => va_Qi (fun (r : Int32) (_ : Unit) => r = r0.1) (fun _ t => zB G A (wM G a_m a_mfst a_msnd a_mlet a_mmany a_mval a_mord a_mfree a_mcode a_mnext a_mcom a_mmet c_sort c_cnt c_frees c_cur c_thr c_fst c_snd c_let c_many c_val c_ord c_free c_code c_next c_com r0.2) t) A) (by decide) (Nat.le_of_ble_eq_true rfl) (fun xp xe xs xm xb xme xc A ls Q H locs C hN hK hP hD hS hA hl hQ => ?_)
  obtain ⟨hx, hb, hr, hts, hown, hlocks, hml, hin⟩ := C
  have hl : lv_has ls 4 [(0, .ref a_m)] := hl
  have h := hf
  unfold f_Model_deepest at h
  refine lv_iconst (v := 0) hx hb d_Model_deepest_0 (by decide) ?_
  refine lv_istore_n (lv' := [(1, .int 0), (0, .ref a_m)]) hx hb d_Model_deepest_1 rfl hl (by decide) rfl (fun ls hl => ?_)
  refine lv_iconst (v := 0) hx hb d_Model_deepest_2 (by decide) ?_
  refine lv_istore_n (lv' := [(2, .int 0), (1, .int 0), (0, .ref a_m)]) hx hb d_Model_deepest_3 rfl hl (by decide) rfl (fun ls hl => ?_)
  obtain ⟨y4, hy4, h⟩ := ob h
  have E4 : ∀ (z13 : Int32) (z14 : (Nat → Int32)), (z13, z14) = y4 → ∀ (H : Heap) (locs : List Loc) (ls : Array Slot), va_P G.1 classes (wM G a_m a_mfst a_msnd a_mlet a_mmany a_mval a_mord a_mfree a_mcode a_mnext a_mcom a_mmet c_sort c_cnt c_frees c_cur c_thr c_fst c_snd c_let c_many c_val c_ord c_free c_code c_next c_com z14) H → va_D A (wM G a_m a_mfst a_msnd a_mlet a_mmany a_mval a_mord a_mfree a_mcode a_mnext a_mcom a_mmet c_sort c_cnt c_frees c_cur c_thr c_fst c_snd c_let c_many c_val c_ord c_free c_code c_next c_com z14) → va_S A xs.heap H locs → lv_has ls 4 [(1, .int z13)] → W xp l xe { frames := 1, cells := 0, slots := 0, locals := 24 } xs xm ([.ref a_m] : List Value).toArray xb xme xc H locs 0 0 Q (F0 xm 35 ls []) := by
    intro z13 z14 ey H locs ls hP hD hS hl
    subst ey
    try dsimp only at h
    refine lv_iload_n hx hb d_Model_deepest_35 rfl (lv_at hl 0 rfl) ?_
    obtain rfl := Option.some.inj h
    exact zreti () hQ hS.2.2 hx hb hr hlocks hP hD hS rfl (Nat.le_refl _) (Nat.le_refl _) d_Model_deepest_36
  have L4 : ∀ v : (Int32 × Int32 × (Nat → Int32)), lp (fun v => s_Model_deepest_4 c_cnt c_com v.1 v.2.1 v.2.2) v = some y4 → ∀ (H : Heap) (locs : List Loc) (ls : Array Slot), va_P G.1 classes (wM G a_m a_mfst a_msnd a_mlet a_mmany a_mval a_mord a_mfree a_mcode a_mnext a_mcom a_mmet c_sort c_cnt c_frees c_cur c_thr c_fst c_snd c_let c_many c_val c_ord c_free c_code c_next c_com v.2.2) H → va_D A (wM G a_m a_mfst a_msnd a_mlet a_mmany a_mval a_mord a_mfree a_mcode a_mnext a_mcom a_mmet c_sort c_cnt c_frees c_cur c_thr c_fst c_snd c_let c_many c_val c_ord c_free c_code c_next c_com v.2.2) → va_S A xs.heap H locs → lv_has ls 4 [(0, .ref a_m), (1, .int v.1), (2, .int v.2.1)] → W xp l xe { frames := 1, cells := 0, slots := 0, locals := 24 } xs xm ([.ref a_m] : List Value).toArray xb xme xc H locs 0 0 Q (F0 xm 4 ls []) := by
    refine lp_walk _ (fun v x h hc he => ?_)
    obtain ⟨x1_1, x2_2, c3⟩ := v
    intro H locs ls hP hD hS hl
    have h : s_Model_deepest_4 c_cnt c_com x1_1 x2_2 c3 = some x := h
    unfold s_Model_deepest_4 at h
    refine lv_iload_n hx hb d_Model_deepest_4 rfl (lv_at hl 2 rfl) ?_
    refine lv_aload_n hx hb d_Model_deepest_5 rfl (lv_at hl 0 rfl) ?_
    refine va_get (D := G.1) (ci := 6) (v := .int c_cnt) (C := "BranchStoreModel") (T := F_Model) (N := 16) hx hb hts i_Model hown hK hP 0 rfl rfl 7 (by decide) (hts _ k_777) (fun _ h9 => h9) rfl d_Model_deepest_6 ?_
    refine lv_icmp_ge (tgt := 35) hx hb d_Model_deepest_9 (by decide) (fun q5 => ?_) (fun q5 => ?_)
    · have h := it h q5
      exact E4 x1_1 c3 (he _ (Option.some.inj h).symm) H locs ls hP hD hS (lv_sub hl [1] rfl)
    · have h := ie h q5
      refine lv_aload_n hx hb d_Model_deepest_12 rfl (lv_at hl 0 rfl) ?_
      refine lv_iload_n hx hb d_Model_deepest_13 rfl (lv_at hl 2 rfl) ?_
      obtain ⟨r6, hr6, h⟩ := ob h
      refine zcalli (wr := []) (w2 := fun _ => (wM G a_m a_mfst a_msnd a_mlet a_mmany a_mval a_mord a_mfree a_mcode a_mnext a_mcom a_mmet c_sort c_cnt c_frees c_cur c_thr c_fst c_snd c_let c_many c_val c_ord c_free c_code c_next c_com r6.2)) (zrunV (As := [.int x2_2]) (rest := []) ⟨hx, hb, hml, hown, hts⟩ hN hK (c_Model_depth l G H.size a_m a_mfst a_msnd a_mlet a_mmany a_mval a_mord a_mfree a_mcode a_mnext a_mcom a_mmet c_sort c_cnt c_frees c_cur c_thr c_fst c_snd c_let c_many c_val c_ord c_free c_code c_next c_com c3 x2_2 r6 hr6) ⟨rfl, rfl⟩ kv_Model_136 ⟨Nat.le_of_ble_eq_true rfl, Nat.le_of_ble_eq_true rfl⟩ 0 rfl rfl rfl hl.1 (Nat.le_of_ble_eq_true rfl) d_Model_deepest_14 ⟨Nat.le_of_ble_eq_true rfl, Nat.le_of_ble_eq_true rfl⟩) hP hD hS hA [0, 1, 2, 3, 4, 5, 6, 7, 8, 9, 10, 11] [] [0, 1, 2, 3, 4, 5, 6, 7, 8, 9, 10, 11] rfl rfl rfl rfl (by decide) rfl (fun _ => rfl) (fun rr _ H locs hw hP hD hS => ?_)
      have hw := hw.symm
      subst hw
      refine lv_istore_n (lv' := [(3, .int r6.1), (0, .ref a_m), (1, .int x1_1), (2, .int x2_2)]) hx hb d_Model_deepest_17 rfl hl (by decide) rfl (fun ls hl => ?_)
      refine lv_iload_n hx hb d_Model_deepest_18 rfl (lv_at hl 0 rfl) ?_
      refine lv_iload_n hx hb d_Model_deepest_19 rfl (lv_at hl 2 rfl) ?_
      obtain ⟨y9, hy9, h⟩ := ob h
      have J28 : ∀ (z11 : Int32), z11 = y9 → ∀ (H : Heap) (locs : List Loc) (ls : Array Slot), va_P G.1 classes (wM G a_m a_mfst a_msnd a_mlet a_mmany a_mval a_mord a_mfree a_mcode a_mnext a_mcom a_mmet c_sort c_cnt c_frees c_cur c_thr c_fst c_snd c_let c_many c_val c_ord c_free c_code c_next c_com r6.2) H → va_D A (wM G a_m a_mfst a_msnd a_mlet a_mmany a_mval a_mord a_mfree a_mcode a_mnext a_mcom a_mmet c_sort c_cnt c_frees c_cur c_thr c_fst c_snd c_let c_many c_val c_ord c_free c_code c_next c_com r6.2) → va_S A xs.heap H locs → lv_has ls 4 [(0, .ref a_m), (2, .int x2_2)] → W xp l xe { frames := 1, cells := 0, slots := 0, locals := 24 } xs xm ([.ref a_m] : List Value).toArray xb xme xc H locs 0 0 Q (F0 xm 28 ls [.int z11]) := by
        intro z11 ey H locs ls hP hD hS hl
        subst ey
        try dsimp only at h
        refine lv_istore_n (lv' := [(1, .int z11), (0, .ref a_m), (2, .int x2_2)]) hx hb d_Model_deepest_28 rfl hl (by decide) rfl (fun ls hl => ?_)
        obtain ⟨v12, ev12⟩ : ∃ y : Int32, y = x2_2 + 1 := ⟨_, rfl⟩
        have h := nm_k h v12 ev12
        refine lv_iinc (v := v12) (lv' := [(2, .int v12), (1, .int z11), (0, .ref a_m)]) hx hb d_Model_deepest_29 hl (k := 2) rfl (by rw [ev12]; rfl) (by decide) rfl (fun ls hl => ?_)
        refine lv_goto (tgt := 4) hx hb d_Model_deepest_32 (by decide) ?_
        exact hc _ (Option.some.inj h).symm H locs ls hP hD hS (lv_sub hl [2, 1, 0] rfl)
      have h := hy9
      refine lv_icmp_le (tgt := 27) hx hb d_Model_deepest_20 (by decide) (fun q8 => ?_) (fun q8 => ?_)
      · have h := it h q8
        refine lv_iload_n hx hb d_Model_deepest_27 rfl (lv_at hl 2 rfl) ?_
        exact J28 x1_1 (Option.some.inj h) H locs ls hP hD hS (lv_sub hl [1, 3] rfl)
      · have h := ie h q8
        refine lv_iload_n hx hb d_Model_deepest_23 rfl (lv_at hl 0 rfl) ?_
        refine lv_goto (tgt := 28) hx hb d_Model_deepest_24 (by decide) ?_
        exact J28 r6.1 (Option.some.inj h) H locs ls hP hD hS (lv_sub hl [1, 3] rfl)
  exact L4 _ hy4 _ _ ls hP hD hS (lv_sub hl [2, 1, 0] rfl)

theorem kv_Model_139 : zKV "BranchStoreModel" 139 y_Model_branches prog_9_method_44_code 4 (some .int) 1 := ⟨k_991, k_993, kp_41, k_8, k_994, by decide +kernel⟩
theorem kv_Model_142 : zKV "BranchStoreModel" 142 y_Model_deepest prog_9_method_45_code 4 (some .int) 0 := ⟨k_995, k_997, kp_42, k_8, k_998, by decide +kernel⟩
noncomputable def s_Model_about_101 (c_cnt : Int32) (c_com : (Nat → Int32)) (x3 : Int32) (x4 : Int32) : Option ((Int32 × Int32) ⊕ Int32) :=
if c_cnt ≤ (x4 + 1) then
(some (.inr x3))
else
(gi x4 1500 <|
(if (c_com x4.toNatClampNeg) = 0 then
(some 1)
else
(some 0)).bind fun y24 =>
nm (x3 + y24) fun v26 =>
nm (x4 + 1) fun v27 =>
some (.inl (v26, v27)))
noncomputable def f_Model_about (c_sort : Int32) (c_cnt : Int32) (c_thr : Int32) (c_fst : (Nat → Int64)) (c_snd : (Nat → Int64)) (c_let : (Nat → Int32)) (c_many : (Nat → Int32)) (c_ord : (Nat → Int32)) (c_code : (Nat → Int32)) (c_next : (Nat → Int32)) (c_com : (Nat → Int32)) (c_met : (Nat → Int32)) (p_1 : Int32) : Option (Int32 × Int32 × (Nat → Int32) × (Nat → Int32) × (Nat → Int32) × (Nat → Int32)) :=
(if p_1 < 0 then
(some 1)
else
(if p_1 ≤ 7 then
(some 0)
else
(some 1))).bind fun y5 =>
(f_Model_fails c_thr y5 1).bind fun r7 =>
if r7.1 = 0 then
(if p_1 = 0 then
(some (c_cnt, r7.2, c_code, c_next, c_com, c_met))
else
((f_Model_look c_sort c_cnt c_fst c_snd c_let c_many c_ord c_code c_next c_com).bind fun r11 =>
if 5 ≤ p_1 then
(if p_1 = 5 then
((f_Model_deepest c_cnt r11.2.2 c_met).bind fun r35 =>
some (r35.1, r7.2, r11.1, r11.2.1, r11.2.2, r35.2))
else
((f_Model_below c_sort c_cnt c_fst c_snd c_let c_many c_ord 1500).bind fun r14 =>
if p_1 = 6 then
((f_Model_isAt c_sort c_cnt c_fst c_snd c_let c_many c_ord r14 1500).bind fun r31 =>
if r31 = 0 then
(some ((-1), r7.2, r11.1, r11.2.1, r11.2.2, c_met))
else
((f_Model_depth c_cnt r11.2.2 c_met r14).bind fun r34 =>
some (r34.1, r7.2, r11.1, r11.2.1, r11.2.2, r34.2)))
else
((lp (fun v => s_Model_about_101 c_cnt r11.2.2 v.1 v.2) (0, 0)).bind fun y29 =>
if y29 ≤ 0 then
(some (0, r7.2, r11.1, r11.2.1, r11.2.2, c_met))
else
(some (y29 + 1, r7.2, r11.1, r11.2.1, r11.2.2, c_met)))))
else
((f_Model_branches c_cnt r11.2.2 (p_1 - 1)).bind fun r36 =>
some (r36, r7.2, r11.1, r11.2.1, r11.2.2, c_met))))
else
(some (0, r7.2, c_code, c_next, c_com, c_met))
set_option maxHeartbeats 8000000 in
set_option maxRecDepth 100000 in
theorem c_Model_about (l : Launch) (G : zG) (sz : Nat) (a_m a_mfst a_msnd a_mlet a_mmany a_mval a_mord a_mfree a_mcode a_mnext a_mcom a_mmet : Nat) (c_sort : Int32) (c_cnt : Int32) (c_frees : Int32) (c_cur : Int32) (c_thr : Int32) (c_fst : (Nat → Int64)) (c_snd : (Nat → Int64)) (c_let : (Nat → Int32)) (c_many : (Nat → Int32)) (c_val : (Nat → Int64)) (c_ord : (Nat → Int32)) (c_free : (Nat → Int32)) (c_code : (Nat → Int32)) (c_next : (Nat → Int32)) (c_com : (Nat → Int32)) (c_met : (Nat → Int32)) (p_1 : Int32) (r0 : (Int32 × Int32 × (Nat → Int32) × (Nat → Int32) × (Nat → Int32) × (Nat → Int32))) (hf : f_Model_about c_sort c_cnt c_thr c_fst c_snd c_let c_many c_ord c_code c_next c_com c_met p_1 = some r0) :
    Met l y_Model_about (Cond.code y_Model_about prog_9_method_46_code 5 (some .int) :: lw_ok) { frames := 3, cells := 0, slots := 0, locals := 72 } (zPc G sz [.ref a_m, .int p_1] (wM G a_m a_mfst a_msnd a_mlet a_mmany a_mval a_mord a_mfree a_mcode a_mnext a_mcom a_mmet c_sort c_cnt c_frees c_cur c_thr c_fst c_snd c_let c_many c_val c_ord c_free c_code c_next c_com c_met))
      ((fun (A : Nat → Prop) => va_Qi (fun (r : Int32) (_ : Unit) => r = r0.1) (fun _ t => zB G A (wM G a_m a_mfst a_msnd a_mlet a_mmany a_mval a_mord a_mfree a_mcode a_mnext a_mcom a_mmet c_sort c_cnt c_frees c_cur r0.2.1 c_fst c_snd c_let c_many c_val c_ord c_free r0.2.2.1 r0.2.2.2.1 r0.2.2.2.2.1 r0.2.2.2.2.2) t) A) (va_A (wM G a_m a_mfst a_msnd a_mlet a_mmany a_mval a_mord a_mfree a_mcode a_mnext a_mcom a_mmet c_sort c_cnt c_frees c_cur c_thr c_fst c_snd c_let c_many c_val c_ord c_free c_code c_next c_com c_met) sz)) 0 0 (va_A (wM G a_m a_mfst a_msnd a_mlet a_mmany a_mval a_mord a_mfree a_mcode a_mnext a_mcom a_mmet c_sort c_cnt c_frees c_cur c_thr c_fst c_snd c_let c_many c_val c_ord c_free c_code c_next c_com c_met) sz) := by
  refine zMet (Qc := fun (A : Nat → Prop) => va_Qi (fun (r : Int32) (_ : Unit) => r = r0.1) (fun _ t => zB G A (wM G a_m a_mfst a_msnd a_mlet a_mmany a_mval a_mord a_mfree a_mcode a_mnext a_mcom a_mmet c_sort c_cnt c_frees c_cur r0.2.1 c_fst c_snd c_let c_many c_val c_ord c_free r0.2.2.1 r0.2.2.2.1 r0.2.2.2.2.1 r0.2.2.2.2.2) t) A) (by decide) (Nat.le_of_ble_eq_true rfl) (fun xp xe xs xm xb xme xc A ls Q H locs C hN hK hP hD hS hA hl hQ => ?_)
  obtain ⟨hx, hb, hr, hts, hown, hlocks, hml, hin⟩ := C
  have hl : lv_has ls 5 [(0, .ref a_m), (1, .int p_1)] := hl
  have h := hf
  unfold f_Model_about at h
  refine lv_aload_n hx hb d_Model_about_0 rfl (lv_at hl 0 rfl) ?_
  refine lv_iload_n hx hb d_Model_about_1 rfl (lv_at hl 1 rfl) ?_
  obtain ⟨y4, hy4, h⟩ := ob h
  have J16 : ∀ (z6 : Int32), narrow .boolean (.int z6) = .int z6 → z6 = y4 → ∀ (H : Heap) (locs : List Loc) (ls : Array Slot), va_P G.1 classes (wM G a_m a_mfst a_msnd a_mlet a_mmany a_mval a_mord a_mfree a_mcode a_mnext a_mcom a_mmet c_sort c_cnt c_frees c_cur c_thr c_fst c_snd c_let c_many c_val c_ord c_free c_code c_next c_com c_met) H → va_D A (wM G a_m a_mfst a_msnd a_mlet a_mmany a_mval a_mord a_mfree a_mcode a_mnext a_mcom a_mmet c_sort c_cnt c_frees c_cur c_thr c_fst c_snd c_let c_many c_val c_ord c_free c_code c_next c_com c_met) → va_S A xs.heap H locs → lv_has ls 5 [(0, .ref a_m), (1, .int p_1)] → W xp l xe { frames := 3, cells := 0, slots := 0, locals := 72 } xs xm ([.ref a_m, .int p_1] : List Value).toArray xb xme xc H locs 0 0 Q (F0 xm 16 ls [.int z6, .ref a_m]) := by
    intro z6 hzz6 ey H locs ls hP hD hS hl
    subst ey
    try dsimp only at h
    refine lv_iconst (v := 1) hx hb d_Model_about_16 (by decide) ?_
    obtain ⟨r7, hr7, h⟩ := ob h
    refine zcalli (wr := []) (w2 := fun _ => (wM G a_m a_mfst a_msnd a_mlet a_mmany a_mval a_mord a_mfree a_mcode a_mnext a_mcom a_mmet c_sort c_cnt c_frees c_cur r7.2 c_fst c_snd c_let c_many c_val c_ord c_free c_code c_next c_com c_met)) (zrunV (As := [.int z6, .int 1]) (rest := []) ⟨hx, hb, hml, hown, hts⟩ hN hK (c_Model_fails l G H.size a_m a_mfst a_msnd a_mlet a_mmany a_mval a_mord a_mfree a_mcode a_mnext a_mcom a_mmet c_sort c_cnt c_frees c_cur c_thr c_fst c_snd c_let c_many c_val c_ord c_free c_code c_next c_com c_met z6 1 hzz6 r7 hr7) ⟨rfl, rfl⟩ kv_Model_70 ⟨Nat.le_of_ble_eq_true rfl, Nat.le_of_ble_eq_true rfl⟩ 0 rfl rfl rfl hl.1 (Nat.le_of_ble_eq_true rfl) d_Model_about_17 ⟨Nat.le_of_ble_eq_true rfl, Nat.le_of_ble_eq_true rfl⟩) hP hD hS hA [0, 1, 2, 3, 4, 5, 6, 7, 8, 9, 10, 11] [] [0, 1, 2, 3, 4, 5, 6, 7, 8, 9, 10, 11] rfl rfl rfl rfl (by decide) rfl (fun _ => rfl) (fun rr _ H locs hw hP hD hS => ?_)
    obtain ⟨hw, hz8⟩ := hw
    have hw := hw.symm
    subst hw
    refine lv_if_eq (tgt := 25) hx hb d_Model_about_20 (by decide) (fun q9 => ?_) (fun q9 => ?_)
    · have h := it h q9
      refine lv_iload_n hx hb d_Model_about_25 rfl (lv_at hl 1 rfl) ?_
      refine lv_if_ne (tgt := 34) hx hb d_Model_about_26 (by decide) (fun q10 => ?_) (fun q10 => ?_)
      · have h := ie h q10
        refine lv_aload_n hx hb d_Model_about_34 rfl (lv_at hl 0 rfl) ?_
        obtain ⟨r11, hr11, h⟩ := ob h
        refine zcallv (wr := []) (w2 := fun _ => (wM G a_m a_mfst a_msnd a_mlet a_mmany a_mval a_mord a_mfree a_mcode a_mnext a_mcom a_mmet c_sort c_cnt c_frees c_cur r7.2 c_fst c_snd c_let c_many c_val c_ord c_free r11.1 r11.2.1 r11.2.2 c_met)) (zrunV (As := []) (rest := []) ⟨hx, hb, hml, hown, hts⟩ hN hK (c_Model_look l G H.size a_m a_mfst a_msnd a_mlet a_mmany a_mval a_mord a_mfree a_mcode a_mnext a_mcom a_mmet c_sort c_cnt c_frees c_cur r7.2 c_fst c_snd c_let c_many c_val c_ord c_free c_code c_next c_com c_met r11 hr11) ⟨rfl, rfl⟩ kv_Model_124 ⟨Nat.le_of_ble_eq_true rfl, Nat.le_of_ble_eq_true rfl⟩ 0 rfl rfl rfl hl.1 (Nat.le_of_ble_eq_true rfl) d_Model_about_35 ⟨Nat.le_of_ble_eq_true rfl, Nat.le_of_ble_eq_true rfl⟩) hP hD hS hA [0, 1, 2, 3, 4, 5, 6, 7, 8, 9, 10, 11] [] [0, 1, 2, 3, 4, 5, 6, 7, 8, 9, 10, 11] rfl rfl rfl rfl (by decide) rfl (fun _ => rfl) (fun _ H locs _ hP hD hS => ?_)
        refine lv_iload_n hx hb d_Model_about_38 rfl (lv_at hl 1 rfl) ?_
        refine lv_iconst (v := 5) hx hb d_Model_about_39 (by decide) ?_
        refine lv_icmp_ge (tgt := 51) hx hb d_Model_about_40 (by decide) (fun q12 => ?_) (fun q12 => ?_)
        · have h := it h q12
          refine lv_iload_n hx hb d_Model_about_51 rfl (lv_at hl 1 rfl) ?_
          refine lv_iconst (v := 5) hx hb d_Model_about_52 (by decide) ?_
          refine lv_icmp_ne (tgt := 61) hx hb d_Model_about_53 (by decide) (fun q13 => ?_) (fun q13 => ?_)
          · have h := ie h q13
            refine lv_aload_n hx hb d_Model_about_61 rfl (lv_at hl 0 rfl) ?_
            refine lv_sipush (v := 1500) hx hb d_Model_about_62 (by decide) ?_
            obtain ⟨r14, hr14, h⟩ := ob h
            refine zpcalli (wr := []) (w2 := fun _ => (wM G a_m a_mfst a_msnd a_mlet a_mmany a_mval a_mord a_mfree a_mcode a_mnext a_mcom a_mmet c_sort c_cnt c_frees c_cur r7.2 c_fst c_snd c_let c_many c_val c_ord c_free r11.1 r11.2.1 r11.2.2 c_met)) (zrunV (As := [.int 1500]) (rest := []) ⟨hx, hb, hml, hown, hts⟩ hN hK (c_Model_below l G H.size a_m a_mfst a_msnd a_mlet a_mmany a_mval a_mord a_mfree a_mcode a_mnext a_mcom a_mmet c_sort c_cnt c_frees c_cur r7.2 c_fst c_snd c_let c_many c_val c_ord c_free r11.1 r11.2.1 r11.2.2 c_met 1500 r14 hr14) ⟨rfl, rfl⟩ kv_Model_83 ⟨Nat.le_of_ble_eq_true rfl, Nat.le_of_ble_eq_true rfl⟩ 0 rfl rfl rfl hl.1 (Nat.le_of_ble_eq_true rfl) d_Model_about_65 ⟨Nat.le_of_ble_eq_true rfl, Nat.le_of_ble_eq_true rfl⟩) hP hD hS hA [0, 1, 2, 3, 4, 5, 6, 7, 8, 9, 10, 11] [] [0, 1, 2, 3, 4, 5, 6, 7, 8, 9, 10, 11] rfl rfl rfl rfl (by decide) rfl (fun _ => rfl) (fun rr _ H hw hP hD hS => ?_)
            have hw := hw.symm
            subst hw
            refine lv_istore_n (lv' := [(2, .int r14), (0, .ref a_m), (1, .int p_1)]) hx hb d_Model_about_68 rfl hl (by decide) rfl (fun ls hl => ?_)
            refine lv_iload_n hx hb d_Model_about_69 rfl (lv_at hl 2 rfl) ?_
            refine lv_bipush (v := 6) hx hb d_Model_about_70 (by decide) ?_
            refine lv_icmp_ne (tgt := 96) hx hb d_Model_about_72 (by decide) (fun q15 => ?_) (fun q15 => ?_)
            · have h := ie h q15
              refine lv_iconst (v := 0) hx hb d_Model_about_96 (by decide) ?_
              refine lv_istore_n (lv' := [(3, .int 0), (2, .int r14), (0, .ref a_m), (1, .int p_1)]) hx hb d_Model_about_97 rfl hl (by decide) rfl (fun ls hl => ?_)
              refine lv_iconst (v := 0) hx hb d_Model_about_98 (by decide) ?_
              refine lv_istore (lv' := [(4, .int 0), (3, .int 0), (2, .int r14), (0, .ref a_m), (1, .int p_1)]) hx hb d_Model_about_99 hl (by decide) rfl (fun ls hl => ?_)
              obtain ⟨y18, hy18, h⟩ := ob h
              have E101 : ∀ (z28 : Int32), z28 = y18 → ∀ (H : Heap) (locs : List Loc) (ls : Array Slot), va_P G.1 classes (wM G a_m a_mfst a_msnd a_mlet a_mmany a_mval a_mord a_mfree a_mcode a_mnext a_mcom a_mmet c_sort c_cnt c_frees c_cur r7.2 c_fst c_snd c_let c_many c_val c_ord c_free r11.1 r11.2.1 r11.2.2 c_met) H → va_D A (wM G a_m a_mfst a_msnd a_mlet a_mmany a_mval a_mord a_mfree a_mcode a_mnext a_mcom a_mmet c_sort c_cnt c_frees c_cur r7.2 c_fst c_snd c_let c_many c_val c_ord c_free r11.1 r11.2.1 r11.2.2 c_met) → va_S A xs.heap H locs → lv_has ls 5 [(3, .int z28)] → W xp l xe { frames := 3, cells := 0, slots := 0, locals := 72 } xs xm ([.ref a_m, .int p_1] : List Value).toArray xb xme xc H locs 0 0 Q (F0 xm 136 ls []) := by
                intro z28 ey H locs ls hP hD hS hl
                subst ey
                try dsimp only at h
                refine lv_iload_n hx hb d_Model_about_136 rfl (lv_at hl 0 rfl) ?_
                refine lv_if_le (tgt := 146) hx hb d_Model_about_137 (by decide) (fun q30 => ?_) (fun q30 => ?_)
                · have h := it h q30
                  refine lv_iconst (v := 0) hx hb d_Model_about_146 (by decide) ?_
                  obtain rfl := Option.some.inj h
                  exact zreti () hQ hS.2.2 hx hb hr hlocks hP hD hS rfl (Nat.le_refl _) (Nat.le_refl _) d_Model_about_147
                · have h := ie h q30
                  refine lv_iload_n hx hb d_Model_about_140 rfl (lv_at hl 0 rfl) ?_
                  refine lv_iconst (v := 1) hx hb d_Model_about_141 (by decide) ?_
                  refine lv_iadd hx hb d_Model_about_142 ?_
                  refine lv_goto (tgt := 147) hx hb d_Model_about_143 (by decide) ?_
                  obtain rfl := Option.some.inj h
                  exact zreti () hQ hS.2.2 hx hb hr hlocks hP hD hS rfl (Nat.le_refl _) (Nat.le_refl _) d_Model_about_147
              have L101 : ∀ v : (Int32 × Int32), lp (fun v => s_Model_about_101 c_cnt r11.2.2 v.1 v.2) v = some y18 → ∀ (H : Heap) (locs : List Loc) (ls : Array Slot), va_P G.1 classes (wM G a_m a_mfst a_msnd a_mlet a_mmany a_mval a_mord a_mfree a_mcode a_mnext a_mcom a_mmet c_sort c_cnt c_frees c_cur r7.2 c_fst c_snd c_let c_many c_val c_ord c_free r11.1 r11.2.1 r11.2.2 c_met) H → va_D A (wM G a_m a_mfst a_msnd a_mlet a_mmany a_mval a_mord a_mfree a_mcode a_mnext a_mcom a_mmet c_sort c_cnt c_frees c_cur r7.2 c_fst c_snd c_let c_many c_val c_ord c_free r11.1 r11.2.1 r11.2.2 c_met) → va_S A xs.heap H locs → lv_has ls 5 [(0, .ref a_m), (3, .int v.1), (4, .int v.2)] → W xp l xe { frames := 3, cells := 0, slots := 0, locals := 72 } xs xm ([.ref a_m, .int p_1] : List Value).toArray xb xme xc H locs 0 0 Q (F0 xm 101 ls []) := by
                refine lp_walk _ (fun v x h hc he => ?_)
                obtain ⟨x3_16, x4_17⟩ := v
                intro H locs ls hP hD hS hl
                have h : s_Model_about_101 c_cnt r11.2.2 x3_16 x4_17 = some x := h
                unfold s_Model_about_101 at h
                refine lv_iload hx hb d_Model_about_101 (lv_at hl 2 rfl) ?_
                refine lv_iconst (v := 1) hx hb d_Model_about_103 (by decide) ?_
                refine lv_iadd hx hb d_Model_about_104 ?_
                refine lv_aload_n hx hb d_Model_about_105 rfl (lv_at hl 0 rfl) ?_
                refine va_get (D := G.1) (ci := 6) (v := .int c_cnt) (C := "BranchStoreModel") (T := F_Model) (N := 16) hx hb hts i_Model hown hK hP 0 rfl rfl 7 (by decide) (hts _ k_777) (fun _ h9 => h9) rfl d_Model_about_106 ?_
                refine lv_icmp_ge (tgt := 136) hx hb d_Model_about_109 (by decide) (fun q19 => ?_) (fun q19 => ?_)
                · have h := it h q19
                  exact E101 x3_16 (he _ (Option.some.inj h).symm) H locs ls hP hD hS (lv_sub hl [1] rfl)
                · have h := ie h q19
                  refine lv_iload_n hx hb d_Model_about_112 rfl (lv_at hl 1 rfl) ?_
                  refine lv_aload_n hx hb d_Model_about_113 rfl (lv_at hl 0 rfl) ?_
                  refine va_get (D := G.1) (ci := 6) (v := .ref a_mcom) (C := "BranchStoreModel") (T := F_Model) (N := 16) hx hb hts i_Model hown hK hP 0 rfl rfl 14 (by decide) (hts _ k_784) (fun _ h9 => h9) rfl d_Model_about_114 ?_
                  refine lv_iload hx hb d_Model_about_117 (lv_at hl 2 rfl) ?_
                  obtain ⟨h20, h⟩ := gi_k h
                  refine va_iald hx hb hK hP 10 0 rfl rfl h20 d_Model_about_119 ?_
                  obtain ⟨y23, hy23, h⟩ := ob h
                  have J128 : ∀ (z25 : Int32), narrow .boolean (.int z25) = .int z25 → z25 = y23 → ∀ (H : Heap) (locs : List Loc) (ls : Array Slot), va_P G.1 classes (wM G a_m a_mfst a_msnd a_mlet a_mmany a_mval a_mord a_mfree a_mcode a_mnext a_mcom a_mmet c_sort c_cnt c_frees c_cur r7.2 c_fst c_snd c_let c_many c_val c_ord c_free r11.1 r11.2.1 r11.2.2 c_met) H → va_D A (wM G a_m a_mfst a_msnd a_mlet a_mmany a_mval a_mord a_mfree a_mcode a_mnext a_mcom a_mmet c_sort c_cnt c_frees c_cur r7.2 c_fst c_snd c_let c_many c_val c_ord c_free r11.1 r11.2.1 r11.2.2 c_met) → va_S A xs.heap H locs → lv_has ls 5 [(0, .ref a_m), (4, .int x4_17)] → W xp l xe { frames := 3, cells := 0, slots := 0, locals := 72 } xs xm ([.ref a_m, .int p_1] : List Value).toArray xb xme xc H locs 0 0 Q (F0 xm 128 ls [.int z25, .int x3_16]) := by
                    intro z25 hzz25 ey H locs ls hP hD hS hl
                    subst ey
                    try dsimp only at h
                    refine lv_iadd hx hb d_Model_about_128 ?_
                    refine lv_topi (fun v26 ev26 => ?_)
                    have h := nm_k h v26 ev26
                    refine lv_istore_n (lv' := [(3, .int v26), (0, .ref a_m), (4, .int x4_17)]) hx hb d_Model_about_129 rfl hl (by decide) rfl (fun ls hl => ?_)
                    obtain ⟨v27, ev27⟩ : ∃ y : Int32, y = x4_17 + 1 := ⟨_, rfl⟩
                    have h := nm_k h v27 ev27
                    refine lv_iinc (v := v27) (lv' := [(4, .int v27), (3, .int v26), (0, .ref a_m)]) hx hb d_Model_about_130 hl (k := 2) rfl (by rw [ev27]; rfl) (by decide) rfl (fun ls hl => ?_)
                    refine lv_goto (tgt := 101) hx hb d_Model_about_133 (by decide) ?_
                    exact hc _ (Option.some.inj h).symm H locs ls hP hD hS (lv_sub hl [2, 1, 0] rfl)
                  have h := hy23
                  refine lv_if_ne (tgt := 127) hx hb d_Model_about_120 (by decide) (fun q22 => ?_) (fun q22 => ?_)
                  · have h := ie h q22
                    refine lv_iconst (v := 0) hx hb d_Model_about_127 (by decide) ?_
                    exact J128 0 rfl (Option.some.inj h) H locs ls hP hD hS (lv_sub hl [0, 2] rfl)
                  · have h := it h q22
                    refine lv_iconst (v := 1) hx hb d_Model_about_123 (by decide) ?_
                    refine lv_goto (tgt := 128) hx hb d_Model_about_124 (by decide) ?_
                    exact J128 1 rfl (Option.some.inj h) H locs ls hP hD hS (lv_sub hl [0, 2] rfl)
              exact L101 _ hy18 _ _ ls hP hD hS (lv_sub hl [3, 1, 0] rfl)
            · have h := it h q15
              refine lv_aload_n hx hb d_Model_about_75 rfl (lv_at hl 1 rfl) ?_
              refine lv_iload_n hx hb d_Model_about_76 rfl (lv_at hl 0 rfl) ?_
              refine lv_sipush (v := 1500) hx hb d_Model_about_77 (by decide) ?_
              obtain ⟨r31, hr31, h⟩ := ob h
              refine zpcalli (wr := []) (w2 := fun _ => (wM G a_m a_mfst a_msnd a_mlet a_mmany a_mval a_mord a_mfree a_mcode a_mnext a_mcom a_mmet c_sort c_cnt c_frees c_cur r7.2 c_fst c_snd c_let c_many c_val c_ord c_free r11.1 r11.2.1 r11.2.2 c_met)) (zrunV (As := [.int r14, .int 1500]) (rest := []) ⟨hx, hb, hml, hown, hts⟩ hN hK (c_Model_isAt l G H.size a_m a_mfst a_msnd a_mlet a_mmany a_mval a_mord a_mfree a_mcode a_mnext a_mcom a_mmet c_sort c_cnt c_frees c_cur r7.2 c_fst c_snd c_let c_many c_val c_ord c_free r11.1 r11.2.1 r11.2.2 c_met r14 1500 r31 hr31) ⟨rfl, rfl⟩ kv_Model_87 ⟨Nat.le_of_ble_eq_true rfl, Nat.le_of_ble_eq_true rfl⟩ 0 rfl rfl rfl hl.1 (Nat.le_of_ble_eq_true rfl) d_Model_about_80 ⟨Nat.le_of_ble_eq_true rfl, Nat.le_of_ble_eq_true rfl⟩) hP hD hS hA [0, 1, 2, 3, 4, 5, 6, 7, 8, 9, 10, 11] [] [0, 1, 2, 3, 4, 5, 6, 7, 8, 9, 10, 11] rfl rfl rfl rfl (by decide) rfl (fun _ => rfl) (fun rr _ H hw hP hD hS => ?_)
              obtain ⟨hw, hz32⟩ := hw
              have hw := hw.symm
              subst hw
              refine lv_if_eq (tgt := 94) hx hb d_Model_about_83 (by decide) (fun q33 => ?_) (fun q33 => ?_)
              · have h := it h q33
                refine lv_iconst (v := (-1)) hx hb d_Model_about_94 (by decide) ?_
                obtain rfl := Option.some.inj h
                exact zreti () hQ hS.2.2 hx hb hr hlocks hP hD hS rfl (Nat.le_refl _) (Nat.le_refl _) d_Model_about_95
              · have h := ie h q33
                refine lv_aload_n hx hb d_Model_about_86 rfl (lv_at hl 1 rfl) ?_
                refine lv_iload_n hx hb d_Model_about_87 rfl (lv_at hl 0 rfl) ?_
                obtain ⟨r34, hr34, h⟩ := ob h
                refine zcalli (wr := []) (w2 := fun _ => (wM G a_m a_mfst a_msnd a_mlet a_mmany a_mval a_mord a_mfree a_mcode a_mnext a_mcom a_mmet c_sort c_cnt c_frees c_cur r7.2 c_fst c_snd c_let c_many c_val c_ord c_free r11.1 r11.2.1 r11.2.2 r34.2)) (zrunV (As := [.int r14]) (rest := []) ⟨hx, hb, hml, hown, hts⟩ hN hK (c_Model_depth l G H.size a_m a_mfst a_msnd a_mlet a_mmany a_mval a_mord a_mfree a_mcode a_mnext a_mcom a_mmet c_sort c_cnt c_frees c_cur r7.2 c_fst c_snd c_let c_many c_val c_ord c_free r11.1 r11.2.1 r11.2.2 c_met r14 r34 hr34) ⟨rfl, rfl⟩ kv_Model_136 ⟨Nat.le_of_ble_eq_true rfl, Nat.le_of_ble_eq_true rfl⟩ 0 rfl rfl rfl hl.1 (Nat.le_of_ble_eq_true rfl) d_Model_about_88 ⟨Nat.le_of_ble_eq_true rfl, Nat.le_of_ble_eq_true rfl⟩) hP hD hS hA [0, 1, 2, 3, 4, 5, 6, 7, 8, 9, 10, 11] [] [0, 1, 2, 3, 4, 5, 6, 7, 8, 9, 10, 11] rfl rfl rfl rfl (by decide) rfl (fun _ => rfl) (fun rr _ H locs hw hP hD hS => ?_)
                have hw := hw.symm
                subst hw
                refine lv_goto (tgt := 95) hx hb d_Model_about_91 (by decide) ?_
                obtain rfl := Option.some.inj h
                exact zreti () hQ hS.2.2 hx hb hr hlocks hP hD hS rfl (Nat.le_refl _) (Nat.le_refl _) d_Model_about_95
          · have h := it h q13
            refine lv_aload_n hx hb d_Model_about_56 rfl (lv_at hl 0 rfl) ?_
            obtain ⟨r35, hr35, h⟩ := ob h
            refine zcalli (wr := []) (w2 := fun _ => (wM G a_m a_mfst a_msnd a_mlet a_mmany a_mval a_mord a_mfree a_mcode a_mnext a_mcom a_mmet c_sort c_cnt c_frees c_cur r7.2 c_fst c_snd c_let c_many c_val c_ord c_free r11.1 r11.2.1 r11.2.2 r35.2)) (zrunV (As := []) (rest := []) ⟨hx, hb, hml, hown, hts⟩ hN hK (c_Model_deepest l G H.size a_m a_mfst a_msnd a_mlet a_mmany a_mval a_mord a_mfree a_mcode a_mnext a_mcom a_mmet c_sort c_cnt c_frees c_cur r7.2 c_fst c_snd c_let c_many c_val c_ord c_free r11.1 r11.2.1 r11.2.2 c_met r35 hr35) ⟨rfl, rfl⟩ kv_Model_142 ⟨Nat.le_of_ble_eq_true rfl, Nat.le_of_ble_eq_true rfl⟩ 0 rfl rfl rfl hl.1 (Nat.le_of_ble_eq_true rfl) d_Model_about_57 ⟨Nat.le_of_ble_eq_true rfl, Nat.le_of_ble_eq_true rfl⟩) hP hD hS hA [0, 1, 2, 3, 4, 5, 6, 7, 8, 9, 10, 11] [] [0, 1, 2, 3, 4, 5, 6, 7, 8, 9, 10, 11] rfl rfl rfl rfl (by decide) rfl (fun _ => rfl) (fun rr _ H locs hw hP hD hS => ?_)
            have hw := hw.symm
            subst hw
            obtain rfl := Option.some.inj h
            exact zreti () hQ hS.2.2 hx hb hr hlocks hP hD hS rfl (Nat.le_refl _) (Nat.le_refl _) d_Model_about_60
        · have h := ie h q12
          refine lv_aload_n hx hb d_Model_about_43 rfl (lv_at hl 0 rfl) ?_
          refine lv_iload_n hx hb d_Model_about_44 rfl (lv_at hl 1 rfl) ?_
          refine lv_iconst (v := 1) hx hb d_Model_about_45 (by decide) ?_
          refine lv_isub hx hb d_Model_about_46 ?_
          obtain ⟨r36, hr36, h⟩ := ob h
          refine zpcalli (wr := []) (w2 := fun _ => (wM G a_m a_mfst a_msnd a_mlet a_mmany a_mval a_mord a_mfree a_mcode a_mnext a_mcom a_mmet c_sort c_cnt c_frees c_cur r7.2 c_fst c_snd c_let c_many c_val c_ord c_free r11.1 r11.2.1 r11.2.2 c_met)) (zrunV (As := [.int (p_1 - 1)]) (rest := []) ⟨hx, hb, hml, hown, hts⟩ hN hK (c_Model_branches l G H.size a_m a_mfst a_msnd a_mlet a_mmany a_mval a_mord a_mfree a_mcode a_mnext a_mcom a_mmet c_sort c_cnt c_frees c_cur r7.2 c_fst c_snd c_let c_many c_val c_ord c_free r11.1 r11.2.1 r11.2.2 c_met (p_1 - 1) r36 hr36) ⟨rfl, rfl⟩ kv_Model_139 ⟨Nat.le_of_ble_eq_true rfl, Nat.le_of_ble_eq_true rfl⟩ 0 rfl rfl rfl hl.1 (Nat.le_of_ble_eq_true rfl) d_Model_about_47 ⟨Nat.le_of_ble_eq_true rfl, Nat.le_of_ble_eq_true rfl⟩) hP hD hS hA [0, 1, 2, 3, 4, 5, 6, 7, 8, 9, 10, 11] [] [0, 1, 2, 3, 4, 5, 6, 7, 8, 9, 10, 11] rfl rfl rfl rfl (by decide) rfl (fun _ => rfl) (fun rr _ H hw hP hD hS => ?_)
          have hw := hw.symm
          subst hw
          obtain rfl := Option.some.inj h
          exact zreti () hQ hS.2.2 hx hb hr hlocks hP hD hS rfl (Nat.le_refl _) (Nat.le_refl _) d_Model_about_50
      · have h := it h q10
        refine lv_aload_n hx hb d_Model_about_29 rfl (lv_at hl 0 rfl) ?_
        refine va_get (D := G.1) (ci := 6) (v := .int c_cnt) (C := "BranchStoreModel") (T := F_Model) (N := 16) hx hb hts i_Model hown hK hP 0 rfl rfl 7 (by decide) (hts _ k_777) (fun _ h9 => h9) rfl d_Model_about_30 ?_
        obtain rfl := Option.some.inj h
        exact zreti () hQ hS.2.2 hx hb hr hlocks hP hD hS rfl (Nat.le_refl _) (Nat.le_refl _) d_Model_about_33
    · have h := ie h q9
      refine lv_iconst (v := 0) hx hb d_Model_about_23 (by decide) ?_
      obtain rfl := Option.some.inj h
      exact zreti () hQ hS.2.2 hx hb hr hlocks hP hD hS rfl (Nat.le_refl _) (Nat.le_refl _) d_Model_about_24
  have h := hy4
  refine lv_if_lt (tgt := 11) hx hb d_Model_about_2 (by decide) (fun q2 => ?_) (fun q2 => ?_)
  · have h := it h q2
    refine lv_iconst (v := 1) hx hb d_Model_about_11 (by decide) ?_
    refine lv_goto (tgt := 16) hx hb d_Model_about_12 (by decide) ?_
    exact J16 1 rfl (Option.some.inj h) H locs ls hP hD hS (lv_sub hl [0, 1] rfl)
  · have h := ie h q2
    refine lv_iload_n hx hb d_Model_about_5 rfl (lv_at hl 1 rfl) ?_
    refine lv_bipush (v := 7) hx hb d_Model_about_6 (by decide) ?_
    refine lv_icmp_le (tgt := 15) hx hb d_Model_about_8 (by decide) (fun q3 => ?_) (fun q3 => ?_)
    · have h := it h q3
      refine lv_iconst (v := 0) hx hb d_Model_about_15 (by decide) ?_
      exact J16 0 rfl (Option.some.inj h) H locs ls hP hD hS (lv_sub hl [0, 1] rfl)
    · have h := ie h q3
      refine lv_iconst (v := 1) hx hb d_Model_about_11 (by decide) ?_
      refine lv_goto (tgt := 16) hx hb d_Model_about_12 (by decide) ?_
      exact J16 1 rfl (Option.some.inj h) H locs ls hP hD hS (lv_sub hl [0, 1] rfl)
