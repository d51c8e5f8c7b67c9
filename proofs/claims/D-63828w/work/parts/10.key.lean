noncomputable def f_Key_begin (c_kn : Int32) (c_kt : Int32)  : Option (Int32 × Int32) :=
some (0, 0)
set_option maxHeartbeats 8000000 in
set_option maxRecDepth 100000 in
theorem c_Key_begin (l : Launch) (G : zG) (sz : Nat) (a_ko a_kq : Nat) (c_kb : (Nat → Int32)) (c_kn : Int32) (c_kt : Int32) (r0 : (Int32 × Int32)) (hf : f_Key_begin c_kn c_kt = some r0) :
    Met l y_Key_begin (Cond.code y_Key_begin prog_4_method_2_code 1 none :: lw_ok) { frames := 0, cells := 0, slots := 0, locals := 0 } (zPc G sz [.ref a_ko] (wK G a_ko a_kq c_kb c_kn c_kt))
      ((fun (A : Nat → Prop) => va_Qv (fun (_ : Unit) => True) (fun _ t => zB G A (wK G a_ko a_kq c_kb r0.1 r0.2) t) A) (va_A (wK G a_ko a_kq c_kb c_kn c_kt) sz)) 0 0 (va_A (wK G a_ko a_kq c_kb c_kn c_kt) sz) := by
  refine zMet (Qc := fun (A : Nat → Prop) => va_Qv (fun (_ : Unit) => True) (fun _ t => zB G A (wK G a_ko a_kq c_kb r0.1 r0.2) t) A) (by decide) (Nat.le_of_ble_eq_true rfl) (fun xp xe xs xm xb xme xc A ls Q H locs C hN hK hP hD hS hA hl hQ => ?_)
  obtain ⟨hx, hb, hr, hts, hown, hlocks, hml, hin⟩ := C
  have hl : lv_has ls 1 [(0, .ref a_ko)] := hl
  have h := hf
  unfold f_Key_begin at h
  refine lv_aload_n hx hb d_Key_begin_0 rfl (lv_at hl 0 rfl) ?_
  refine lv_iconst (v := 0) hx hb d_Key_begin_1 (by decide) ?_
  refine va_put (D := G.1) (ci := 0) (v := .int 0) (ty := .int) (C := "BranchStore$Key") (T := F_Key) (N := 3) hx hb hts i_Key t_Key t_Key_ok n_Key hown hK hP hD hS 0 rfl rfl 1 (by decide) (hts _ k_109) (fun _ h9 => h9) rfl (by decide +kernel) rfl rfl (Nat.le_of_ble_eq_true rfl) d_Key_begin_2 (fun H locs hP hD hS => ?_)
  have hP : va_P G.1 classes (wK G a_ko a_kq c_kb 0 c_kt) H := hP
  have hD : va_D A (wK G a_ko a_kq c_kb 0 c_kt) := hD
  refine lv_aload_n hx hb d_Key_begin_5 rfl (lv_at hl 0 rfl) ?_
  refine lv_iconst (v := 0) hx hb d_Key_begin_6 (by decide) ?_
  refine va_put (D := G.1) (ci := 0) (v := .int 0) (ty := .int) (C := "BranchStore$Key") (T := F_Key) (N := 3) hx hb hts i_Key t_Key t_Key_ok n_Key hown hK hP hD hS 0 rfl rfl 2 (by decide) (hts _ k_112) (fun _ h9 => h9) rfl (by decide +kernel) rfl rfl (Nat.le_of_ble_eq_true rfl) d_Key_begin_7 (fun H locs hP hD hS => ?_)
  have hP : va_P G.1 classes (wK G a_ko a_kq c_kb 0 0) H := hP
  have hD : va_D A (wK G a_ko a_kq c_kb 0 0) := hD
  obtain rfl := Option.some.inj h
  exact zretv () hQ hS.2.2 hx hb hr hlocks hP hD hS trivial (Nat.le_refl _) (Nat.le_refl _) d_Key_begin_10

noncomputable def f_Key_put (c_kb : (Nat → Int32)) (c_kn : Int32) (p_1 : Int32) : Option ((Nat → Int32) × Int32) :=
gi c_kn 50 <|
nm (upd c_kb c_kn.toNatClampNeg (vp_nar .byte p_1.toInt8.toInt32)) fun c2 =>
nm (c_kn + 1) fun v3 =>
some (c2, v3)
set_option maxHeartbeats 8000000 in
set_option maxRecDepth 100000 in
theorem c_Key_put (l : Launch) (G : zG) (sz : Nat) (a_ko a_kq : Nat) (c_kb : (Nat → Int32)) (c_kn : Int32) (c_kt : Int32) (p_1 : Int32) (r0 : ((Nat → Int32) × Int32)) (hf : f_Key_put c_kb c_kn p_1 = some r0) :
    Met l y_Key_put (Cond.code y_Key_put prog_4_method_4_code 2 none :: lw_ok) { frames := 0, cells := 0, slots := 0, locals := 0 } (zPc G sz [.ref a_ko, .int p_1] (wK G a_ko a_kq c_kb c_kn c_kt))
      ((fun (A : Nat → Prop) => va_Qv (fun (_ : Unit) => True) (fun _ t => zB G A (wK G a_ko a_kq r0.1 r0.2 c_kt) t) A) (va_A (wK G a_ko a_kq c_kb c_kn c_kt) sz)) 0 0 (va_A (wK G a_ko a_kq c_kb c_kn c_kt) sz) := by
  refine zMet (Qc := fun (A : Nat → Prop) => va_Qv (fun (_ : Unit) => True) (fun _ t => zB G A (wK G a_ko a_kq r0.1 r0.2 c_kt) t) A) (by decide) (Nat.le_of_ble_eq_true rfl) (fun xp xe xs xm xb xme xc A ls Q H locs C hN hK hP hD hS hA hl hQ => ?_)
  obtain ⟨hx, hb, hr, hts, hown, hlocks, hml, hin⟩ := C
  have hl : lv_has ls 2 [(0, .ref a_ko), (1, .int p_1)] := hl
  have h := hf
  unfold f_Key_put at h
  refine lv_aload_n hx hb d_Key_put_0 rfl (lv_at hl 0 rfl) ?_
  refine va_get (D := G.1) (ci := 0) (v := .ref a_kq) (C := "BranchStore$Key") (T := F_Key) (N := 3) hx hb hts i_Key hown hK hP 0 rfl rfl 0 (by decide) (hts _ k_107) (fun _ h9 => h9) rfl d_Key_put_1 ?_
  refine lv_aload_n hx hb d_Key_put_4 rfl (lv_at hl 0 rfl) ?_
  refine va_get (D := G.1) (ci := 0) (v := .int c_kn) (C := "BranchStore$Key") (T := F_Key) (N := 3) hx hb hts i_Key hown hK hP 0 rfl rfl 1 (by decide) (hts _ k_109) (fun _ h9 => h9) rfl d_Key_put_5 ?_
  refine lv_iload_n hx hb d_Key_put_8 rfl (lv_at hl 1 rfl) ?_
  refine lv_i2b (v := p_1.toInt8.toInt32) hx hb d_Key_put_9 rfl ?_
  obtain ⟨h1, h⟩ := gi_k h
  refine va_bast hx hb hK hP hD hS 1 1 rfl rfl h1 d_Key_put_10 (fun H locs hP hD hS => ?_)
  obtain ⟨c2, ec2⟩ : ∃ y, y = upd c_kb c_kn.toNatClampNeg (vp_nar .byte p_1.toInt8.toInt32) := ⟨_, rfl⟩
  have h := nm_k h c2 ec2
  have hP : va_P G.1 classes (wK G a_ko a_kq c2 c_kn c_kt) H := by rw [ec2]; exact hP
  have hD : va_D A (wK G a_ko a_kq c2 c_kn c_kt) := by rw [ec2]; exact hD
  refine lv_aload_n hx hb d_Key_put_11 rfl (lv_at hl 0 rfl) ?_
  refine lv_dup hx hb d_Key_put_12 rfl ?_
  refine va_get (D := G.1) (ci := 0) (v := .int c_kn) (C := "BranchStore$Key") (T := F_Key) (N := 3) hx hb hts i_Key hown hK hP 0 rfl rfl 1 (by decide) (hts _ k_109) (fun _ h9 => h9) rfl d_Key_put_13 ?_
  refine lv_iconst (v := 1) hx hb d_Key_put_16 (by decide) ?_
  refine lv_iadd hx hb d_Key_put_17 ?_
  refine lv_topi (fun v3 ev3 => ?_)
  have h := nm_k h v3 ev3
  refine va_put (D := G.1) (ci := 0) (v := .int v3) (ty := .int) (C := "BranchStore$Key") (T := F_Key) (N := 3) hx hb hts i_Key t_Key t_Key_ok n_Key hown hK hP hD hS 0 rfl rfl 1 (by decide) (hts _ k_109) (fun _ h9 => h9) rfl (by decide +kernel) rfl rfl (Nat.le_of_ble_eq_true rfl) d_Key_put_18 (fun H locs hP hD hS => ?_)
  have hP : va_P G.1 classes (wK G a_ko a_kq c2 v3 c_kt) H := hP
  have hD : va_D A (wK G a_ko a_kq c2 v3 c_kt) := hD
  obtain rfl := Option.some.inj h
  exact zretv () hQ hS.2.2 hx hb hr hlocks hP hD hS trivial (Nat.le_refl _) (Nat.le_refl _) d_Key_put_21

theorem kv_Key_38 : zKV "BranchStore$Key" 38 y_Key_put prog_4_method_4_code 2 none 1 := ⟨k_98, k_100, kp_1, k_7, k_101, by decide +kernel⟩
noncomputable def s_Key_number_10 (x3 : Int64) (x5 : Int32) (c_kb : (Nat → Int32)) (c_kn : Int32) : Option ((Int32 × (Nat → Int32) × Int32) ⊕ ((Nat → Int32) × Int32)) :=
if x5 < 0 then
(some (.inr (c_kb, c_kn)))
else
((f_Key_put c_kb c_kn ((zlushr x3 x5).toInt32)).bind fun r7 =>
nm (x5 + (-8)) fun v8 =>
some (.inl (v8, r7.1, r7.2)))
noncomputable def f_Key_number (c_kb : (Nat → Int32)) (c_kn : Int32) (p_1 : Int64) : Option ((Nat → Int32) × Int32) :=
nm (p_1 ^^^ (-9223372036854775808)) fun v1 =>
(lp (fun v => s_Key_number_10 v1 v.1 v.2.1 v.2.2) (56, c_kb, c_kn)).bind fun y11 =>
some (y11.1, y11.2)
set_option maxHeartbeats 8000000 in
set_option maxRecDepth 100000 in
theorem c_Key_number (l : Launch) (G : zG) (sz : Nat) (a_ko a_kq : Nat) (c_kb : (Nat → Int32)) (c_kn : Int32) (c_kt : Int32) (p_1 : Int64) (r0 : ((Nat → Int32) × Int32)) (hf : f_Key_number c_kb c_kn p_1 = some r0) :
    Met l y_Key_number (Cond.code y_Key_number prog_4_method_5_code 6 none :: lw_ok) { frames := 1, cells := 0, slots := 0, locals := 21 } (zPc G sz [.ref a_ko, .long p_1] (wK G a_ko a_kq c_kb c_kn c_kt))
      ((fun (A : Nat → Prop) => va_Qv (fun (_ : Unit) => True) (fun _ t => zB G A (wK G a_ko a_kq r0.1 r0.2 c_kt) t) A) (va_A (wK G a_ko a_kq c_kb c_kn c_kt) sz)) 0 0 (va_A (wK G a_ko a_kq c_kb c_kn c_kt) sz) := by
  refine zMet (Qc := fun (A : Nat → Prop) => va_Qv (fun (_ : Unit) => True) (fun _ t => zB G A (wK G a_ko a_kq r0.1 r0.2 c_kt) t) A) (by decide) (Nat.le_of_ble_eq_true rfl) (fun xp xe xs xm xb xme xc A ls Q H locs C hN hK hP hD hS hA hl hQ => ?_)
  obtain ⟨hx, hb, hr, hts, hown, hlocks, hml, hin⟩ := C
  have hl : lv_has ls 6 [(0, .ref a_ko), (1, .long p_1)] := hl
  have h := hf
  unfold f_Key_number at h
  refine lv_lload_n hx hb d_Key_number_0 rfl (lv_at hl 1 rfl) ?_
  refine lv_ldc2 (v := (-9223372036854775808)) hx hb hown (hts _ k_106) d_Key_number_1 ?_
  refine lv_lxor hx hb d_Key_number_4 ?_
  refine lv_topl (fun v1 ev1 => ?_)
  have h := nm_k h v1 ev1
  refine lv_lstore_n (lv' := [(3, .long v1), (0, .ref a_ko), (1, .long p_1)]) hx hb d_Key_number_5 rfl hl (by decide) rfl (fun ls hl => ?_)
  refine lv_bipush (v := 56) hx hb d_Key_number_6 (by decide) ?_
  refine lv_istore (lv' := [(5, .int 56), (3, .long v1), (0, .ref a_ko), (1, .long p_1)]) hx hb d_Key_number_8 hl (by decide) rfl (fun ls hl => ?_)
  obtain ⟨y5, hy5, h⟩ := ob h
  have E10 : ∀ (z9 : (Nat → Int32)) (z10 : Int32), (z9, z10) = y5 → ∀ (H : Heap) (locs : List Loc) (ls : Array Slot), va_P G.1 classes (wK G a_ko a_kq z9 z10 c_kt) H → va_D A (wK G a_ko a_kq z9 z10 c_kt) → va_S A xs.heap H locs → lv_has ls 6 [] → W xp l xe { frames := 1, cells := 0, slots := 0, locals := 21 } xs xm ([.ref a_ko, .long p_1] : List Value).toArray xb xme xc H locs 0 0 Q (F0 xm 30 ls []) := by
    intro z9 z10 ey H locs ls hP hD hS hl
    subst ey
    try dsimp only at h
    obtain rfl := Option.some.inj h
    exact zretv () hQ hS.2.2 hx hb hr hlocks hP hD hS trivial (Nat.le_refl _) (Nat.le_refl _) d_Key_number_30
  have L10 : ∀ v : (Int32 × (Nat → Int32) × Int32), lp (fun v => s_Key_number_10 v1 v.1 v.2.1 v.2.2) v = some y5 → ∀ (H : Heap) (locs : List Loc) (ls : Array Slot), va_P G.1 classes (wK G a_ko a_kq v.2.1 v.2.2 c_kt) H → va_D A (wK G a_ko a_kq v.2.1 v.2.2 c_kt) → va_S A xs.heap H locs → lv_has ls 6 [(0, .ref a_ko), (3, .long v1), (5, .int v.1)] → W xp l xe { frames := 1, cells := 0, slots := 0, locals := 21 } xs xm ([.ref a_ko, .long p_1] : List Value).toArray xb xme xc H locs 0 0 Q (F0 xm 10 ls []) := by
    refine lp_walk _ (fun v x h hc he => ?_)
    obtain ⟨x5_2, c3, c4⟩ := v
    intro H locs ls hP hD hS hl
    have h : s_Key_number_10 v1 x5_2 c3 c4 = some x := h
    unfold s_Key_number_10 at h
    refine lv_iload hx hb d_Key_number_10 (lv_at hl 2 rfl) ?_
    refine lv_if_lt (tgt := 30) hx hb d_Key_number_12 (by decide) (fun q6 => ?_) (fun q6 => ?_)
    · have h := it h q6
      exact E10 c3 c4 (he _ (Option.some.inj h).symm) H locs ls hP hD hS (lv_sub hl [] rfl)
    · have h := ie h q6
      refine lv_aload_n hx hb d_Key_number_15 rfl (lv_at hl 0 rfl) ?_
      refine lv_lload_n hx hb d_Key_number_16 rfl (lv_at hl 1 rfl) ?_
      refine lv_iload hx hb d_Key_number_17 (lv_at hl 2 rfl) ?_
      refine lv_lushr (v := zlushr v1 x5_2) hx hb d_Key_number_19 rfl ?_
      refine lv_l2i (v := (zlushr v1 x5_2).toInt32) hx hb d_Key_number_20 rfl ?_
      obtain ⟨r7, hr7, h⟩ := ob h
      refine zcallv (wr := []) (w2 := fun _ => (wK G a_ko a_kq r7.1 r7.2 c_kt)) (zrunV (As := [.int ((zlushr v1 x5_2).toInt32)]) (rest := []) ⟨hx, hb, hml, hown, hts⟩ hN hK (c_Key_put l G H.size a_ko a_kq c3 c4 c_kt ((zlushr v1 x5_2).toInt32) r7 hr7) ⟨rfl, rfl⟩ kv_Key_38 ⟨Nat.le_of_ble_eq_true rfl, Nat.le_of_ble_eq_true rfl⟩ 0 rfl rfl rfl hl.1 (Nat.le_of_ble_eq_true rfl) d_Key_number_21 ⟨Nat.le_of_ble_eq_true rfl, Nat.le_of_ble_eq_true rfl⟩) hP hD hS hA [0, 1] [] [0, 1] rfl rfl rfl rfl (by decide) rfl (fun _ => rfl) (fun _ H locs _ hP hD hS => ?_)
      obtain ⟨v8, ev8⟩ : ∃ y : Int32, y = x5_2 + (-8) := ⟨_, rfl⟩
      have h := nm_k h v8 ev8
      refine lv_iinc (v := v8) (lv' := [(5, .int v8), (0, .ref a_ko), (3, .long v1)]) hx hb d_Key_number_24 hl (k := 2) rfl (by rw [ev8]; rfl) (by decide) rfl (fun ls hl => ?_)
      refine lv_goto (tgt := 10) hx hb d_Key_number_27 (by decide) ?_
      exact hc _ (Option.some.inj h).symm H locs ls hP hD hS (lv_sub hl [1, 2, 0] rfl)
  exact L10 _ hy5 _ _ ls hP hD hS (lv_sub hl [2, 1, 0] rfl)

noncomputable def f_Key_end (c_kb : (Nat → Int32)) (c_kn : Int32)  : Option ((Nat → Int32) × Int32) :=
(f_Key_put c_kb c_kn 0).bind fun r1 =>
(f_Key_put r1.1 r1.2 0).bind fun r2 =>
some (r2.1, r2.2)
set_option maxHeartbeats 8000000 in
set_option maxRecDepth 100000 in
theorem c_Key_end (l : Launch) (G : zG) (sz : Nat) (a_ko a_kq : Nat) (c_kb : (Nat → Int32)) (c_kn : Int32) (c_kt : Int32) (r0 : ((Nat → Int32) × Int32)) (hf : f_Key_end c_kb c_kn = some r0) :
    Met l y_Key_end (Cond.code y_Key_end prog_4_method_6_code 1 none :: lw_ok) { frames := 1, cells := 0, slots := 0, locals := 21 } (zPc G sz [.ref a_ko] (wK G a_ko a_kq c_kb c_kn c_kt))
      ((fun (A : Nat → Prop) => va_Qv (fun (_ : Unit) => True) (fun _ t => zB G A (wK G a_ko a_kq r0.1 r0.2 c_kt) t) A) (va_A (wK G a_ko a_kq c_kb c_kn c_kt) sz)) 0 0 (va_A (wK G a_ko a_kq c_kb c_kn c_kt) sz) := by
  refine zMet (Qc := fun (A : Nat → Prop) => va_Qv (fun (_ : Unit) => True) (fun _ t => zB G A (wK G a_ko a_kq r0.1 r0.2 c_kt) t) A) (by decide) (Nat.le_of_ble_eq_true rfl) (fun xp xe xs xm xb xme xc A ls Q H locs C hN hK hP hD hS hA hl hQ => ?_)
  obtain ⟨hx, hb, hr, hts, hown, hlocks, hml, hin⟩ := C
  have hl : lv_has ls 1 [(0, .ref a_ko)] := hl
  have h := hf
  unfold f_Key_end at h
  refine lv_aload_n hx hb d_Key_end_0 rfl (lv_at hl 0 rfl) ?_
  refine lv_iconst (v := 0) hx hb d_Key_end_1 (by decide) ?_
  obtain ⟨r1, hr1, h⟩ := ob h
  refine zcallv (wr := []) (w2 := fun _ => (wK G a_ko a_kq r1.1 r1.2 c_kt)) (zrunV (As := [.int 0]) (rest := []) ⟨hx, hb, hml, hown, hts⟩ hN hK (c_Key_put l G H.size a_ko a_kq c_kb c_kn c_kt 0 r1 hr1) ⟨rfl, rfl⟩ kv_Key_38 ⟨Nat.le_of_ble_eq_true rfl, Nat.le_of_ble_eq_true rfl⟩ 0 rfl rfl rfl hl.1 (Nat.le_of_ble_eq_true rfl) d_Key_end_2 ⟨Nat.le_of_ble_eq_true rfl, Nat.le_of_ble_eq_true rfl⟩) hP hD hS hA [0, 1] [] [0, 1] rfl rfl rfl rfl (by decide) rfl (fun _ => rfl) (fun _ H locs _ hP hD hS => ?_)
  refine lv_aload_n hx hb d_Key_end_5 rfl (lv_at hl 0 rfl) ?_
  refine lv_iconst (v := 0) hx hb d_Key_end_6 (by decide) ?_
  obtain ⟨r2, hr2, h⟩ := ob h
  refine zcallv (wr := []) (w2 := fun _ => (wK G a_ko a_kq r2.1 r2.2 c_kt)) (zrunV (As := [.int 0]) (rest := []) ⟨hx, hb, hml, hown, hts⟩ hN hK (c_Key_put l G H.size a_ko a_kq r1.1 r1.2 c_kt 0 r2 hr2) ⟨rfl, rfl⟩ kv_Key_38 ⟨Nat.le_of_ble_eq_true rfl, Nat.le_of_ble_eq_true rfl⟩ 0 rfl rfl rfl hl.1 (Nat.le_of_ble_eq_true rfl) d_Key_end_7 ⟨Nat.le_of_ble_eq_true rfl, Nat.le_of_ble_eq_true rfl⟩) hP hD hS hA [0, 1] [] [0, 1] rfl rfl rfl rfl (by decide) rfl (fun _ => rfl) (fun _ H locs _ hP hD hS => ?_)
  obtain rfl := Option.some.inj h
  exact zretv () hQ hS.2.2 hx hb hr hlocks hP hD hS trivial (Nat.le_refl _) (Nat.le_refl _) d_Key_end_10

theorem kv_Key_24 : zKV "BranchStore$Key" 24 y_Key_begin prog_4_method_2_code 1 none 0 := ⟨k_90, k_91, k_92, k_7, k_93, by decide +kernel⟩
theorem kv_Key_27 : zKV "BranchStore$Key" 27 y_Key_end prog_4_method_6_code 1 none 0 := ⟨k_94, k_96, kp_0, k_7, k_97, by decide +kernel⟩
theorem kv_Key_30 : zKV "BranchStore$Key" 30 y_Key_number prog_4_method_5_code 6 none 1 := ⟨k_102, k_103, k_104, k_7, k_105, by decide +kernel⟩
noncomputable def s_Key_first_16 (x1 : Int32) (x2 : Int32) (c_kb : (Nat → Int32)) (c_kn : Int32) : Option ((Int32 × (Nat → Int32) × Int32) ⊕ ((Nat → Int32) × Int32)) :=
if x1 < x2 then
(some (.inr (c_kb, c_kn)))
else
((f_Key_number c_kb c_kn 0).bind fun r8 =>
nm (x2 + 1) fun v9 =>
some (.inl (v9, r8.1, r8.2)))
noncomputable def f_Key_first (c_kb : (Nat → Int32)) (c_kn : Int32) (c_kt : Int32) (p_1 : Int32) : Option ((Nat → Int32) × Int32 × Int32) :=
(f_Key_begin c_kn c_kt).bind fun r1 =>
if p_1 = 2 then
((f_Key_end c_kb r1.1).bind fun r13 =>
some (r13.1, r13.2, r1.2))
else
((lp (fun v => s_Key_first_16 p_1 v.1 v.2.1 v.2.2) (0, c_kb, r1.1)).bind fun y12 =>
some (y12.1, y12.2, r1.2))
set_option maxHeartbeats 8000000 in
set_option maxRecDepth 100000 in
theorem c_Key_first (l : Launch) (G : zG) (sz : Nat) (a_ko a_kq : Nat) (c_kb : (Nat → Int32)) (c_kn : Int32) (c_kt : Int32) (p_1 : Int32) (r0 : ((Nat → Int32) × Int32 × Int32)) (hf : f_Key_first c_kb c_kn c_kt p_1 = some r0) :
    Met l y_Key_first (Cond.code y_Key_first prog_4_method_3_code 3 none :: lw_ok) { frames := 2, cells := 0, slots := 0, locals := 46 } (zPc G sz [.ref a_ko, .int p_1] (wK G a_ko a_kq c_kb c_kn c_kt))
      ((fun (A : Nat → Prop) => va_Qv (fun (_ : Unit) => True) (fun _ t => zB G A (wK G a_ko a_kq r0.1 r0.2.1 r0.2.2) t) A) (va_A (wK G a_ko a_kq c_kb c_kn c_kt) sz)) 0 0 (va_A (wK G a_ko a_kq c_kb c_kn c_kt) sz) := by
  refine zMet (Qc := fun (A : Nat → Prop) => va_Qv (fun (_ : Unit) => True) (fun _ t => zB G A (wK G a_ko a_kq r0.1 r0.2.1 r0.2.2) t) A) (by decide) (Nat.le_of_ble_eq_true rfl) (fun xp xe xs xm xb xme xc A ls Q H locs C hN hK hP hD hS hA hl hQ => ?_)
  obtain ⟨hx, hb, hr, hts, hown, hlocks, hml, hin⟩ := C
  have hl : lv_has ls 3 [(0, .ref a_ko), (1, .int p_1)] := hl
  have h := hf
  unfold f_Key_first at h
  refine lv_aload_n hx hb d_Key_first_0 rfl (lv_at hl 0 rfl) ?_
  obtain ⟨r1, hr1, h⟩ := ob h
  refine zcallv (wr := []) (w2 := fun _ => (wK G a_ko a_kq c_kb r1.1 r1.2)) (zrunV (As := []) (rest := []) ⟨hx, hb, hml, hown, hts⟩ hN hK (c_Key_begin l G H.size a_ko a_kq c_kb c_kn c_kt r1 hr1) ⟨rfl, rfl⟩ kv_Key_24 ⟨Nat.le_of_ble_eq_true rfl, Nat.le_of_ble_eq_true rfl⟩ 0 rfl rfl rfl hl.1 (Nat.le_of_ble_eq_true rfl) d_Key_first_1 ⟨Nat.le_of_ble_eq_true rfl, Nat.le_of_ble_eq_true rfl⟩) hP hD hS hA [0, 1] [] [0, 1] rfl rfl rfl rfl (by decide) rfl (fun _ => rfl) (fun _ H locs _ hP hD hS => ?_)
  refine lv_iload_n hx hb d_Key_first_4 rfl (lv_at hl 1 rfl) ?_
  refine lv_iconst (v := 2) hx hb d_Key_first_5 (by decide) ?_
  refine lv_icmp_ne (tgt := 14) hx hb d_Key_first_6 (by decide) (fun q2 => ?_) (fun q2 => ?_)
  · have h := ie h q2
    refine lv_iconst (v := 0) hx hb d_Key_first_14 (by decide) ?_
    refine lv_istore_n (lv' := [(2, .int 0), (0, .ref a_ko), (1, .int p_1)]) hx hb d_Key_first_15 rfl hl (by decide) rfl (fun ls hl => ?_)
    obtain ⟨y6, hy6, h⟩ := ob h
    have E16 : ∀ (z10 : (Nat → Int32)) (z11 : Int32), (z10, z11) = y6 → ∀ (H : Heap) (locs : List Loc) (ls : Array Slot), va_P G.1 classes (wK G a_ko a_kq z10 z11 r1.2) H → va_D A (wK G a_ko a_kq z10 z11 r1.2) → va_S A xs.heap H locs → lv_has ls 3 [] → W xp l xe { frames := 2, cells := 0, slots := 0, locals := 46 } xs xm ([.ref a_ko, .int p_1] : List Value).toArray xb xme xc H locs 0 0 Q (F0 xm 32 ls []) := by
      intro z10 z11 ey H locs ls hP hD hS hl
      subst ey
      try dsimp only at h
      obtain rfl := Option.some.inj h
      exact zretv () hQ hS.2.2 hx hb hr hlocks hP hD hS trivial (Nat.le_refl _) (Nat.le_refl _) d_Key_first_32
    have L16 : ∀ v : (Int32 × (Nat → Int32) × Int32), lp (fun v => s_Key_first_16 p_1 v.1 v.2.1 v.2.2) v = some y6 → ∀ (H : Heap) (locs : List Loc) (ls : Array Slot), va_P G.1 classes (wK G a_ko a_kq v.2.1 v.2.2 r1.2) H → va_D A (wK G a_ko a_kq v.2.1 v.2.2 r1.2) → va_S A xs.heap H locs → lv_has ls 3 [(0, .ref a_ko), (1, .int p_1), (2, .int v.1)] → W xp l xe { frames := 2, cells := 0, slots := 0, locals := 46 } xs xm ([.ref a_ko, .int p_1] : List Value).toArray xb xme xc H locs 0 0 Q (F0 xm 16 ls []) := by
      refine lp_walk _ (fun v x h hc he => ?_)
      obtain ⟨x2_3, c4, c5⟩ := v
      intro H locs ls hP hD hS hl
      have h : s_Key_first_16 p_1 x2_3 c4 c5 = some x := h
      unfold s_Key_first_16 at h
      refine lv_iload_n hx hb d_Key_first_16 rfl (lv_at hl 2 rfl) ?_
      refine lv_iload_n hx hb d_Key_first_17 rfl (lv_at hl 1 rfl) ?_
      refine lv_icmp_gt (tgt := 32) hx hb d_Key_first_18 (by decide) (fun q7 => ?_) (fun q7 => ?_)
      · have h := it h q7
        exact E16 c4 c5 (he _ (Option.some.inj h).symm) H locs ls hP hD hS (lv_sub hl [] rfl)
      · have h := ie h q7
        refine lv_aload_n hx hb d_Key_first_21 rfl (lv_at hl 0 rfl) ?_
        refine lv_lconst (v := 0) hx hb d_Key_first_22 (by decide) ?_
        obtain ⟨r8, hr8, h⟩ := ob h
        refine zcallv (wr := []) (w2 := fun _ => (wK G a_ko a_kq r8.1 r8.2 r1.2)) (zrunV (As := [.long 0]) (rest := []) ⟨hx, hb, hml, hown, hts⟩ hN hK (c_Key_number l G H.size a_ko a_kq c4 c5 r1.2 0 r8 hr8) ⟨rfl, rfl⟩ kv_Key_30 ⟨Nat.le_of_ble_eq_true rfl, Nat.le_of_ble_eq_true rfl⟩ 0 rfl rfl rfl hl.1 (Nat.le_of_ble_eq_true rfl) d_Key_first_23 ⟨Nat.le_of_ble_eq_true rfl, Nat.le_of_ble_eq_true rfl⟩) hP hD hS hA [0, 1] [] [0, 1] rfl rfl rfl rfl (by decide) rfl (fun _ => rfl) (fun _ H locs _ hP hD hS => ?_)
        obtain ⟨v9, ev9⟩ : ∃ y : Int32, y = x2_3 + 1 := ⟨_, rfl⟩
        have h := nm_k h v9 ev9
        refine lv_iinc (v := v9) (lv' := [(2, .int v9), (0, .ref a_ko), (1, .int p_1)]) hx hb d_Key_first_26 hl (k := 2) rfl (by rw [ev9]; rfl) (by decide) rfl (fun ls hl => ?_)
        refine lv_goto (tgt := 16) hx hb d_Key_first_29 (by decide) ?_
        exact hc _ (Option.some.inj h).symm H locs ls hP hD hS (lv_sub hl [1, 2, 0] rfl)
    exact L16 _ hy6 _ _ ls hP hD hS (lv_sub hl [1, 2, 0] rfl)
  · have h := it h q2
    refine lv_aload_n hx hb d_Key_first_9 rfl (lv_at hl 0 rfl) ?_
    obtain ⟨r13, hr13, h⟩ := ob h
    refine zcallv (wr := []) (w2 := fun _ => (wK G a_ko a_kq r13.1 r13.2 r1.2)) (zrunV (As := []) (rest := []) ⟨hx, hb, hml, hown, hts⟩ hN hK (c_Key_end l G H.size a_ko a_kq c_kb r1.1 r1.2 r13 hr13) ⟨rfl, rfl⟩ kv_Key_27 ⟨Nat.le_of_ble_eq_true rfl, Nat.le_of_ble_eq_true rfl⟩ 0 rfl rfl rfl hl.1 (Nat.le_of_ble_eq_true rfl) d_Key_first_10 ⟨Nat.le_of_ble_eq_true rfl, Nat.le_of_ble_eq_true rfl⟩) hP hD hS hA [0, 1] [] [0, 1] rfl rfl rfl rfl (by decide) rfl (fun _ => rfl) (fun _ H locs _ hP hD hS => ?_)
    obtain rfl := Option.some.inj h
    exact zretv () hQ hS.2.2 hx hb hr hlocks hP hD hS trivial (Nat.le_refl _) (Nat.le_refl _) d_Key_first_13

noncomputable def f_Key_letter (c_kb : (Nat → Int32)) (c_kn : Int32) (c_kt : Int32) (p_1 : Int32) : Option ((Nat → Int32) × Int32 × Int32) :=
nm (c_kn - 2) fun v1 =>
(f_Key_put c_kb v1 p_1).bind fun r2 =>
if p_1 = 0 then
((f_Key_put r2.1 r2.2 255).bind fun r6 =>
(f_Key_end r6.1 r6.2).bind fun r7 =>
nm (c_kt + 1) fun v8 =>
some (r7.1, r7.2, v8))
else
((f_Key_end r2.1 r2.2).bind fun r4 =>
nm (c_kt + 1) fun v5 =>
some (r4.1, r4.2, v5))
set_option maxHeartbeats 8000000 in
set_option maxRecDepth 100000 in
theorem c_Key_letter (l : Launch) (G : zG) (sz : Nat) (a_ko a_kq : Nat) (c_kb : (Nat → Int32)) (c_kn : Int32) (c_kt : Int32) (p_1 : Int32) (r0 : ((Nat → Int32) × Int32 × Int32)) (hf : f_Key_letter c_kb c_kn c_kt p_1 = some r0) :
    Met l y_Key_letter (Cond.code y_Key_letter prog_4_method_7_code 2 none :: lw_ok) { frames := 2, cells := 0, slots := 0, locals := 41 } (zPc G sz [.ref a_ko, .int p_1] (wK G a_ko a_kq c_kb c_kn c_kt))
      ((fun (A : Nat → Prop) => va_Qv (fun (_ : Unit) => True) (fun _ t => zB G A (wK G a_ko a_kq r0.1 r0.2.1 r0.2.2) t) A) (va_A (wK G a_ko a_kq c_kb c_kn c_kt) sz)) 0 0 (va_A (wK G a_ko a_kq c_kb c_kn c_kt) sz) := by
  refine zMet (Qc := fun (A : Nat → Prop) => va_Qv (fun (_ : Unit) => True) (fun _ t => zB G A (wK G a_ko a_kq r0.1 r0.2.1 r0.2.2) t) A) (by decide) (Nat.le_of_ble_eq_true rfl) (fun xp xe xs xm xb xme xc A ls Q H locs C hN hK hP hD hS hA hl hQ => ?_)
  obtain ⟨hx, hb, hr, hts, hown, hlocks, hml, hin⟩ := C
  have hl : lv_has ls 2 [(0, .ref a_ko), (1, .int p_1)] := hl
  have h := hf
  unfold f_Key_letter at h
  refine lv_aload_n hx hb d_Key_letter_0 rfl (lv_at hl 0 rfl) ?_
  refine lv_dup hx hb d_Key_letter_1 rfl ?_
  refine va_get (D := G.1) (ci := 0) (v := .int c_kn) (C := "BranchStore$Key") (T := F_Key) (N := 3) hx hb hts i_Key hown hK hP 0 rfl rfl 1 (by decide) (hts _ k_109) (fun _ h9 => h9) rfl d_Key_letter_2 ?_
  refine lv_iconst (v := 2) hx hb d_Key_letter_5 (by decide) ?_
  refine lv_isub hx hb d_Key_letter_6 ?_
  refine lv_topi (fun v1 ev1 => ?_)
  have h := nm_k h v1 ev1
  refine va_put (D := G.1) (ci := 0) (v := .int v1) (ty := .int) (C := "BranchStore$Key") (T := F_Key) (N := 3) hx hb hts i_Key t_Key t_Key_ok n_Key hown hK hP hD hS 0 rfl rfl 1 (by decide) (hts _ k_109) (fun _ h9 => h9) rfl (by decide +kernel) rfl rfl (Nat.le_of_ble_eq_true rfl) d_Key_letter_7 (fun H locs hP hD hS => ?_)
  have hP : va_P G.1 classes (wK G a_ko a_kq c_kb v1 c_kt) H := hP
  have hD : va_D A (wK G a_ko a_kq c_kb v1 c_kt) := hD
  refine lv_aload_n hx hb d_Key_letter_10 rfl (lv_at hl 0 rfl) ?_
  refine lv_iload_n hx hb d_Key_letter_11 rfl (lv_at hl 1 rfl) ?_
  obtain ⟨r2, hr2, h⟩ := ob h
  refine zcallv (wr := []) (w2 := fun _ => (wK G a_ko a_kq r2.1 r2.2 c_kt)) (zrunV (As := [.int p_1]) (rest := []) ⟨hx, hb, hml, hown, hts⟩ hN hK (c_Key_put l G H.size a_ko a_kq c_kb v1 c_kt p_1 r2 hr2) ⟨rfl, rfl⟩ kv_Key_38 ⟨Nat.le_of_ble_eq_true rfl, Nat.le_of_ble_eq_true rfl⟩ 0 rfl rfl rfl hl.1 (Nat.le_of_ble_eq_true rfl) d_Key_letter_12 ⟨Nat.le_of_ble_eq_true rfl, Nat.le_of_ble_eq_true rfl⟩) hP hD hS hA [0, 1] [] [0, 1] rfl rfl rfl rfl (by decide) rfl (fun _ => rfl) (fun _ H locs _ hP hD hS => ?_)
  refine lv_iload_n hx hb d_Key_letter_15 rfl (lv_at hl 1 rfl) ?_
  refine lv_if_ne (tgt := 26) hx hb d_Key_letter_16 (by decide) (fun q3 => ?_) (fun q3 => ?_)
  · have h := ie h q3
    refine lv_aload_n hx hb d_Key_letter_26 rfl (lv_at hl 0 rfl) ?_
    obtain ⟨r4, hr4, h⟩ := ob h
    refine zcallv (wr := []) (w2 := fun _ => (wK G a_ko a_kq r4.1 r4.2 c_kt)) (zrunV (As := []) (rest := []) ⟨hx, hb, hml, hown, hts⟩ hN hK (c_Key_end l G H.size a_ko a_kq r2.1 r2.2 c_kt r4 hr4) ⟨rfl, rfl⟩ kv_Key_27 ⟨Nat.le_of_ble_eq_true rfl, Nat.le_of_ble_eq_true rfl⟩ 0 rfl rfl rfl hl.1 (Nat.le_of_ble_eq_true rfl) d_Key_letter_27 ⟨Nat.le_of_ble_eq_true rfl, Nat.le_of_ble_eq_true rfl⟩) hP hD hS hA [0, 1] [] [0, 1] rfl rfl rfl rfl (by decide) rfl (fun _ => rfl) (fun _ H locs _ hP hD hS => ?_)
    refine lv_aload_n hx hb d_Key_letter_30 rfl (lv_at hl 0 rfl) ?_
    refine lv_dup hx hb d_Key_letter_31 rfl ?_
    refine va_get (D := G.1) (ci := 0) (v := .int c_kt) (C := "BranchStore$Key") (T := F_Key) (N := 3) hx hb hts i_Key hown hK hP 0 rfl rfl 2 (by decide) (hts _ k_112) (fun _ h9 => h9) rfl d_Key_letter_32 ?_
    refine lv_iconst (v := 1) hx hb d_Key_letter_35 (by decide) ?_
    refine lv_iadd hx hb d_Key_letter_36 ?_
    refine lv_topi (fun v5 ev5 => ?_)
    have h := nm_k h v5 ev5
    refine va_put (D := G.1) (ci := 0) (v := .int v5) (ty := .int) (C := "BranchStore$Key") (T := F_Key) (N := 3) hx hb hts i_Key t_Key t_Key_ok n_Key hown hK hP hD hS 0 rfl rfl 2 (by decide) (hts _ k_112) (fun _ h9 => h9) rfl (by decide +kernel) rfl rfl (Nat.le_of_ble_eq_true rfl) d_Key_letter_37 (fun H locs hP hD hS => ?_)
    have hP : va_P G.1 classes (wK G a_ko a_kq r4.1 r4.2 v5) H := hP
    have hD : va_D A (wK G a_ko a_kq r4.1 r4.2 v5) := hD
    obtain rfl := Option.some.inj h
    exact zretv () hQ hS.2.2 hx hb hr hlocks hP hD hS trivial (Nat.le_refl _) (Nat.le_refl _) d_Key_letter_40
  · have h := it h q3
    refine lv_aload_n hx hb d_Key_letter_19 rfl (lv_at hl 0 rfl) ?_
    refine lv_sipush (v := 255) hx hb d_Key_letter_20 (by decide) ?_
    obtain ⟨r6, hr6, h⟩ := ob h
    refine zcallv (wr := []) (w2 := fun _ => (wK G a_ko a_kq r6.1 r6.2 c_kt)) (zrunV (As := [.int 255]) (rest := []) ⟨hx, hb, hml, hown, hts⟩ hN hK (c_Key_put l G H.size a_ko a_kq r2.1 r2.2 c_kt 255 r6 hr6) ⟨rfl, rfl⟩ kv_Key_38 ⟨Nat.le_of_ble_eq_true rfl, Nat.le_of_ble_eq_true rfl⟩ 0 rfl rfl rfl hl.1 (Nat.le_of_ble_eq_true rfl) d_Key_letter_23 ⟨Nat.le_of_ble_eq_true rfl, Nat.le_of_ble_eq_true rfl⟩) hP hD hS hA [0, 1] [] [0, 1] rfl rfl rfl rfl (by decide) rfl (fun _ => rfl) (fun _ H locs _ hP hD hS => ?_)
    refine lv_aload_n hx hb d_Key_letter_26 rfl (lv_at hl 0 rfl) ?_
    obtain ⟨r7, hr7, h⟩ := ob h
    refine zcallv (wr := []) (w2 := fun _ => (wK G a_ko a_kq r7.1 r7.2 c_kt)) (zrunV (As := []) (rest := []) ⟨hx, hb, hml, hown, hts⟩ hN hK (c_Key_end l G H.size a_ko a_kq r6.1 r6.2 c_kt r7 hr7) ⟨rfl, rfl⟩ kv_Key_27 ⟨Nat.le_of_ble_eq_true rfl, Nat.le_of_ble_eq_true rfl⟩ 0 rfl rfl rfl hl.1 (Nat.le_of_ble_eq_true rfl) d_Key_letter_27 ⟨Nat.le_of_ble_eq_true rfl, Nat.le_of_ble_eq_true rfl⟩) hP hD hS hA [0, 1] [] [0, 1] rfl rfl rfl rfl (by decide) rfl (fun _ => rfl) (fun _ H locs _ hP hD hS => ?_)
    refine lv_aload_n hx hb d_Key_letter_30 rfl (lv_at hl 0 rfl) ?_
    refine lv_dup hx hb d_Key_letter_31 rfl ?_
    refine va_get (D := G.1) (ci := 0) (v := .int c_kt) (C := "BranchStore$Key") (T := F_Key) (N := 3) hx hb hts i_Key hown hK hP 0 rfl rfl 2 (by decide) (hts _ k_112) (fun _ h9 => h9) rfl d_Key_letter_32 ?_
    refine lv_iconst (v := 1) hx hb d_Key_letter_35 (by decide) ?_
    refine lv_iadd hx hb d_Key_letter_36 ?_
    refine lv_topi (fun v8 ev8 => ?_)
    have h := nm_k h v8 ev8
    refine va_put (D := G.1) (ci := 0) (v := .int v8) (ty := .int) (C := "BranchStore$Key") (T := F_Key) (N := 3) hx hb hts i_Key t_Key t_Key_ok n_Key hown hK hP hD hS 0 rfl rfl 2 (by decide) (hts _ k_112) (fun _ h9 => h9) rfl (by decide +kernel) rfl rfl (Nat.le_of_ble_eq_true rfl) d_Key_letter_37 (fun H locs hP hD hS => ?_)
    have hP : va_P G.1 classes (wK G a_ko a_kq r7.1 r7.2 v8) H := hP
    have hD : va_D A (wK G a_ko a_kq r7.1 r7.2 v8) := hD
    obtain rfl := Option.some.inj h
    exact zretv () hQ hS.2.2 hx hb hr hlocks hP hD hS trivial (Nat.le_refl _) (Nat.le_refl _) d_Key_letter_40

noncomputable def s_Key_become_18 (c_kn : Int32) (c_jb : (Nat → Int32)) (x2 : Int32) (c_kb : (Nat → Int32)) : Option ((Int32 × (Nat → Int32)) ⊕ (Nat → Int32)) :=
if c_kn ≤ x2 then
(some (.inr c_kb))
else
(gi x2 50 <|
gi x2 50 <|
nm (upd c_kb x2.toNatClampNeg (vp_nar .byte (c_jb x2.toNatClampNeg))) fun c7 =>
nm (x2 + 1) fun v8 =>
some (.inl (v8, c7)))
noncomputable def f_Key_become (c_kb : (Nat → Int32)) (c_kn : Int32) (c_kt : Int32) (c_jb : (Nat → Int32)) (c_jn : Int32) (c_jt : Int32)  : Option ((Nat → Int32) × Int32 × Int32) :=
(lp (fun v => s_Key_become_18 c_jn c_jb v.1 v.2) (0, c_kb)).bind fun y10 =>
some (y10, c_jn, c_jt)
set_option maxHeartbeats 8000000 in
set_option maxRecDepth 100000 in
theorem c_Key_become (l : Launch) (G : zG) (sz : Nat) (a_ko a_kq a_jo a_jq : Nat) (c_kb : (Nat → Int32)) (c_kn : Int32) (c_kt : Int32) (c_jb : (Nat → Int32)) (c_jn : Int32) (c_jt : Int32) (r0 : ((Nat → Int32) × Int32 × Int32)) (hf : f_Key_become c_kb c_kn c_kt c_jb c_jn c_jt = some r0) :
    Met l y_Key_become (Cond.code y_Key_become prog_4_method_8_code 3 none :: lw_ok) { frames := 0, cells := 0, slots := 0, locals := 0 } (zPc G sz [.ref a_ko, .ref a_jo] (wK G a_ko a_kq c_kb c_kn c_kt ++ wK G a_jo a_jq c_jb c_jn c_jt))
      ((fun (A : Nat → Prop) => va_Qv (fun (_ : Unit) => True) (fun _ t => zB G A (wK G a_ko a_kq r0.1 r0.2.1 r0.2.2 ++ wK G a_jo a_jq c_jb c_jn c_jt) t) A) (va_A (wK G a_ko a_kq c_kb c_kn c_kt ++ wK G a_jo a_jq c_jb c_jn c_jt) sz)) 0 0 (va_A (wK G a_ko a_kq c_kb c_kn c_kt ++ wK G a_jo a_jq c_jb c_jn c_jt) sz) := by
  refine zMet (Qc := fun (A : Nat → Prop) => va_Qv (fun (_ : Unit) => True) (fun _ t => zB G A (wK G a_ko a_kq r0.1 r0.2.1 r0.2.2 ++ wK G a_jo a_jq c_jb c_jn c_jt) t) A) (by decide) (Nat.le_of_ble_eq_true rfl) (fun xp xe xs xm xb xme xc A ls Q H locs C hN hK hP hD hS hA hl hQ => ?_)
  obtain ⟨hx, hb, hr, hts, hown, hlocks, hml, hin⟩ := C
  have hl : lv_has ls 3 [(0, .ref a_ko), (1, .ref a_jo)] := hl
  have h := hf
  unfold f_Key_become at h
  refine lv_aload_n hx hb d_Key_become_0 rfl (lv_at hl 0 rfl) ?_
  refine lv_aload_n hx hb d_Key_become_1 rfl (lv_at hl 1 rfl) ?_
  refine va_get (D := G.1) (ci := 0) (v := .int c_jn) (C := "BranchStore$Key") (T := F_Key) (N := 3) hx hb hts i_Key hown hK hP 2 rfl rfl 1 (by decide) (hts _ k_109) (fun _ h9 => h9) rfl d_Key_become_2 ?_
  refine va_put (D := G.1) (ci := 0) (v := .int c_jn) (ty := .int) (C := "BranchStore$Key") (T := F_Key) (N := 3) hx hb hts i_Key t_Key t_Key_ok n_Key hown hK hP hD hS 0 rfl rfl 1 (by decide) (hts _ k_109) (fun _ h9 => h9) rfl (by decide +kernel) rfl rfl (Nat.le_of_ble_eq_true rfl) d_Key_become_5 (fun H locs hP hD hS => ?_)
  have hP : va_P G.1 classes (wK G a_ko a_kq c_kb c_jn c_kt ++ wK G a_jo a_jq c_jb c_jn c_jt) H := hP
  have hD : va_D A (wK G a_ko a_kq c_kb c_jn c_kt ++ wK G a_jo a_jq c_jb c_jn c_jt) := hD
  refine lv_aload_n hx hb d_Key_become_8 rfl (lv_at hl 0 rfl) ?_
  refine lv_aload_n hx hb d_Key_become_9 rfl (lv_at hl 1 rfl) ?_
  refine va_get (D := G.1) (ci := 0) (v := .int c_jt) (C := "BranchStore$Key") (T := F_Key) (N := 3) hx hb hts i_Key hown hK hP 2 rfl rfl 2 (by decide) (hts _ k_112) (fun _ h9 => h9) rfl d_Key_become_10 ?_
  refine va_put (D := G.1) (ci := 0) (v := .int c_jt) (ty := .int) (C := "BranchStore$Key") (T := F_Key) (N := 3) hx hb hts i_Key t_Key t_Key_ok n_Key hown hK hP hD hS 0 rfl rfl 2 (by decide) (hts _ k_112) (fun _ h9 => h9) rfl (by decide +kernel) rfl rfl (Nat.le_of_ble_eq_true rfl) d_Key_become_13 (fun H locs hP hD hS => ?_)
  have hP : va_P G.1 classes (wK G a_ko a_kq c_kb c_jn c_jt ++ wK G a_jo a_jq c_jb c_jn c_jt) H := hP
  have hD : va_D A (wK G a_ko a_kq c_kb c_jn c_jt ++ wK G a_jo a_jq c_jb c_jn c_jt) := hD
  refine lv_iconst (v := 0) hx hb d_Key_become_16 (by decide) ?_
  refine lv_istore_n (lv' := [(2, .int 0), (0, .ref a_ko), (1, .ref a_jo)]) hx hb d_Key_become_17 rfl hl (by decide) rfl (fun ls hl => ?_)
  obtain ⟨y3, hy3, h⟩ := ob h
  have E18 : ∀ (z9 : (Nat → Int32)), z9 = y3 → ∀ (H : Heap) (locs : List Loc) (ls : Array Slot), va_P G.1 classes (wK G a_ko a_kq z9 c_jn c_jt ++ wK G a_jo a_jq c_jb c_jn c_jt) H → va_D A (wK G a_ko a_kq z9 c_jn c_jt ++ wK G a_jo a_jq c_jb c_jn c_jt) → va_S A xs.heap H locs → lv_has ls 3 [] → W xp l xe { frames := 0, cells := 0, slots := 0, locals := 0 } xs xm ([.ref a_ko, .ref a_jo] : List Value).toArray xb xme xc H locs 0 0 Q (F0 xm 44 ls []) := by
    intro z9 ey H locs ls hP hD hS hl
    subst ey
    try dsimp only at h
    obtain rfl := Option.some.inj h
    exact zretv () hQ hS.2.2 hx hb hr hlocks hP hD hS trivial (Nat.le_refl _) (Nat.le_refl _) d_Key_become_44
  have L18 : ∀ v : (Int32 × (Nat → Int32)), lp (fun v => s_Key_become_18 c_jn c_jb v.1 v.2) v = some y3 → ∀ (H : Heap) (locs : List Loc) (ls : Array Slot), va_P G.1 classes (wK G a_ko a_kq v.2 c_jn c_jt ++ wK G a_jo a_jq c_jb c_jn c_jt) H → va_D A (wK G a_ko a_kq v.2 c_jn c_jt ++ wK G a_jo a_jq c_jb c_jn c_jt) → va_S A xs.heap H locs → lv_has ls 3 [(0, .ref a_ko), (1, .ref a_jo), (2, .int v.1)] → W xp l xe { frames := 0, cells := 0, slots := 0, locals := 0 } xs xm ([.ref a_ko, .ref a_jo] : List Value).toArray xb xme xc H locs 0 0 Q (F0 xm 18 ls []) := by
    refine lp_walk _ (fun v x h hc he => ?_)
    obtain ⟨x2_1, c2⟩ := v
    intro H locs ls hP hD hS hl
    have h : s_Key_become_18 c_jn c_jb x2_1 c2 = some x := h
    unfold s_Key_become_18 at h
    refine lv_iload_n hx hb d_Key_become_18 rfl (lv_at hl 2 rfl) ?_
    refine lv_aload_n hx hb d_Key_become_19 rfl (lv_at hl 0 rfl) ?_
    refine va_get (D := G.1) (ci := 0) (v := .int c_jn) (C := "BranchStore$Key") (T := F_Key) (N := 3) hx hb hts i_Key hown hK hP 0 rfl rfl 1 (by decide) (hts _ k_109) (fun _ h9 => h9) rfl d_Key_become_20 ?_
    refine lv_icmp_ge (tgt := 44) hx hb d_Key_become_23 (by decide) (fun q4 => ?_) (fun q4 => ?_)
    · have h := it h q4
      exact E18 c2 (he _ (Option.some.inj h).symm) H locs ls hP hD hS (lv_sub hl [] rfl)
    · have h := ie h q4
      refine lv_aload_n hx hb d_Key_become_26 rfl (lv_at hl 0 rfl) ?_
      refine va_get (D := G.1) (ci := 0) (v := .ref a_kq) (C := "BranchStore$Key") (T := F_Key) (N := 3) hx hb hts i_Key hown hK hP 0 rfl rfl 0 (by decide) (hts _ k_107) (fun _ h9 => h9) rfl d_Key_become_27 ?_
      refine lv_iload_n hx hb d_Key_become_30 rfl (lv_at hl 2 rfl) ?_
      refine lv_aload_n hx hb d_Key_become_31 rfl (lv_at hl 1 rfl) ?_
      refine va_get (D := G.1) (ci := 0) (v := .ref a_jq) (C := "BranchStore$Key") (T := F_Key) (N := 3) hx hb hts i_Key hown hK hP 2 rfl rfl 0 (by decide) (hts _ k_107) (fun _ h9 => h9) rfl d_Key_become_32 ?_
      refine lv_iload_n hx hb d_Key_become_35 rfl (lv_at hl 2 rfl) ?_
      obtain ⟨h5, h⟩ := gi_k h
      refine va_bald hx hb hK hP 3 1 rfl rfl h5 d_Key_become_36 ?_
      obtain ⟨h6, h⟩ := gi_k h
      refine va_bast hx hb hK hP hD hS 1 1 rfl rfl h6 d_Key_become_37 (fun H locs hP hD hS => ?_)
      obtain ⟨c7, ec7⟩ : ∃ y, y = upd c2 x2_1.toNatClampNeg (vp_nar .byte (c_jb x2_1.toNatClampNeg)) := ⟨_, rfl⟩
      have h := nm_k h c7 ec7
      have hP : va_P G.1 classes (wK G a_ko a_kq c7 c_jn c_jt ++ wK G a_jo a_jq c_jb c_jn c_jt) H := by rw [ec7]; exact hP
      have hD : va_D A (wK G a_ko a_kq c7 c_jn c_jt ++ wK G a_jo a_jq c_jb c_jn c_jt) := by rw [ec7]; exact hD
      obtain ⟨v8, ev8⟩ : ∃ y : Int32, y = x2_1 + 1 := ⟨_, rfl⟩
      have h := nm_k h v8 ev8
      refine lv_iinc (v := v8) (lv' := [(2, .int v8), (0, .ref a_ko), (1, .ref a_jo)]) hx hb d_Key_become_38 hl (k := 2) rfl (by rw [ev8]; rfl) (by decide) rfl (fun ls hl => ?_)
      refine lv_goto (tgt := 18) hx hb d_Key_become_41 (by decide) ?_
      exact hc _ (Option.some.inj h).symm H locs ls hP hD hS (lv_sub hl [1, 2, 0] rfl)
  exact L18 _ hy3 _ _ ls hP hD hS (lv_sub hl [1, 2, 0] rfl)

noncomputable def f_Key_at (c_kb : (Nat → Int32)) (p_1 : Int32) : Option Int32 :=
gi p_1 50 <|
some ((c_kb p_1.toNatClampNeg) &&& 255)
set_option maxHeartbeats 8000000 in
set_option maxRecDepth 100000 in
theorem c_Key_at (l : Launch) (G : zG) (sz : Nat) (a_ko a_kq : Nat) (c_kb : (Nat → Int32)) (c_kn : Int32) (c_kt : Int32) (p_1 : Int32) (r0 : Int32) (hf : f_Key_at c_kb p_1 = some r0) :
    Met l y_Key_at (Cond.code y_Key_at prog_4_method_9_code 2 (some .int) :: lw_ok) { frames := 0, cells := 0, slots := 0, locals := 0 } (zPc G sz [.ref a_ko, .int p_1] (wK G a_ko a_kq c_kb c_kn c_kt))
      ((fun (A : Nat → Prop) => va_Qi (fun (r : Int32) (_ : Unit) => r = r0) (fun _ t => zB G A (wK G a_ko a_kq c_kb c_kn c_kt) t) A) (va_A (wK G a_ko a_kq c_kb c_kn c_kt) sz)) 0 0 (fun q => sz ≤ q) := by
  refine zMetR (Qc := fun (A : Nat → Prop) => va_Qi (fun (r : Int32) (_ : Unit) => r = r0) (fun _ t => zB G A (wK G a_ko a_kq c_kb c_kn c_kt) t) A) (by decide) (Nat.le_of_ble_eq_true rfl) (fun xp xe xs xm xb xme xc A ls Q H locs C hN hK hP hD hS hL hA hl hQ => ?_)
  obtain ⟨hx, hb, hr, hts, hown, hlocks, hml, hin⟩ := C
  have hl : lv_has ls 2 [(0, .ref a_ko), (1, .int p_1)] := hl
  have h := hf
  unfold f_Key_at at h
  refine lv_aload_n hx hb d_Key_at_0 rfl (lv_at hl 0 rfl) ?_
  refine va_get (D := G.1) (ci := 0) (v := .ref a_kq) (C := "BranchStore$Key") (T := F_Key) (N := 3) hx hb hts i_Key hown hK hP 0 rfl rfl 0 (by decide) (hts _ k_107) (fun _ h9 => h9) rfl d_Key_at_1 ?_
  refine lv_iload_n hx hb d_Key_at_4 rfl (lv_at hl 1 rfl) ?_
  obtain ⟨h1, h⟩ := gi_k h
  refine va_bald hx hb hK hP 1 1 rfl rfl h1 d_Key_at_5 ?_
  refine lv_sipush (v := 255) hx hb d_Key_at_6 (by decide) ?_
  refine lv_iand hx hb d_Key_at_9 ?_
  obtain rfl := Option.some.inj h
  exact zreti () hQ hL hx hb hr hlocks hP hD hS rfl (Nat.le_refl _) (Nat.le_refl _) d_Key_at_10

theorem kv_Key_41 : zKV "BranchStore$Key" 41 y_Key_at prog_4_method_9_code 2 (some .int) 1 := ⟨k_326, k_216, k_217, k_7, k_218, by decide +kernel⟩
noncomputable def s_Key_part_5 (c_kb : (Nat → Int32)) (x1 : Int32) (x2 : Int64) (x4 : Int32) : Option ((Int64 × Int32) ⊕ Int64) :=
if 8 ≤ x4 then
(some (.inr x2))
else
((f_Key_at c_kb ((8 * x1) + x4)).bind fun r5 =>
nm ((zlshl x2 8) ||| r5.toInt64) fun v6 =>
nm (x4 + 1) fun v7 =>
some (.inl (v6, v7)))
noncomputable def f_Key_part (c_kb : (Nat → Int32)) (p_1 : Int32) : Option Int64 :=
(lp (fun v => s_Key_part_5 c_kb p_1 v.1 v.2) (0, 0)).bind fun y9 =>
some (y9 ^^^ (-9223372036854775808))
set_option maxHeartbeats 8000000 in
set_option maxRecDepth 100000 in
theorem c_Key_part (l : Launch) (G : zG) (sz : Nat) (a_ko a_kq : Nat) (c_kb : (Nat → Int32)) (c_kn : Int32) (c_kt : Int32) (p_1 : Int32) (r0 : Int64) (hf : f_Key_part c_kb p_1 = some r0) :
    Met l y_Key_part (Cond.code y_Key_part prog_4_method_10_code 5 (some .long) :: lw_ok) { frames := 1, cells := 0, slots := 0, locals := 21 } (zPc G sz [.ref a_ko, .int p_1] (wK G a_ko a_kq c_kb c_kn c_kt))
      ((fun (A : Nat → Prop) => va_Ql (fun (r : Int64) (_ : Unit) => r = r0) (fun _ t => zB G A (wK G a_ko a_kq c_kb c_kn c_kt) t) A) (va_A (wK G a_ko a_kq c_kb c_kn c_kt) sz)) 0 0 (fun q => sz ≤ q) := by
  refine zMetR (Qc := fun (A : Nat → Prop) => va_Ql (fun (r : Int64) (_ : Unit) => r = r0) (fun _ t => zB G A (wK G a_ko a_kq c_kb c_kn c_kt) t) A) (by decide) (Nat.le_of_ble_eq_true rfl) (fun xp xe xs xm xb xme xc A ls Q H locs C hN hK hP hD hS hL hA hl hQ => ?_)
  obtain ⟨hx, hb, hr, hts, hown, hlocks, hml, hin⟩ := C
  have hl : lv_has ls 5 [(0, .ref a_ko), (1, .int p_1)] := hl
  have h := hf
  unfold f_Key_part at h
  refine lv_lconst (v := 0) hx hb d_Key_part_0 (by decide) ?_
  refine lv_lstore_n (lv' := [(2, .long 0), (0, .ref a_ko), (1, .int p_1)]) hx hb d_Key_part_1 rfl hl (by decide) rfl (fun ls hl => ?_)
  refine lv_iconst (v := 0) hx hb d_Key_part_2 (by decide) ?_
  refine lv_istore (lv' := [(4, .int 0), (2, .long 0), (0, .ref a_ko), (1, .int p_1)]) hx hb d_Key_part_3 hl (by decide) rfl (fun ls hl => ?_)
  obtain ⟨y3, hy3, h⟩ := ob h
  have E5 : ∀ (z8 : Int64), z8 = y3 → ∀ (H : Heap) (locs : List Loc) (ls : Array Slot), va_P G.1 classes (wK G a_ko a_kq c_kb c_kn c_kt) H → va_D A (wK G a_ko a_kq c_kb c_kn c_kt) → va_S A xs.heap H locs → (∀ q ∈ locs, xs.heap.size ≤ q.base) → lv_has ls 5 [(2, .long z8)] → W xp l xe { frames := 1, cells := 0, slots := 0, locals := 21 } xs xm ([.ref a_ko, .int p_1] : List Value).toArray xb xme xc H locs 0 0 Q (F0 xm 36 ls []) := by
    intro z8 ey H locs ls hP hD hS hL hl
    subst ey
    try dsimp only at h
    refine lv_lload_n hx hb d_Key_part_36 rfl (lv_at hl 0 rfl) ?_
    refine lv_ldc2 (v := (-9223372036854775808)) hx hb hown (hts _ k_106) d_Key_part_37 ?_
    refine lv_lxor hx hb d_Key_part_40 ?_
    obtain rfl := Option.some.inj h
    exact zretl () hQ hL hx hb hr hlocks hP hD hS rfl (Nat.le_refl _) (Nat.le_refl _) d_Key_part_41
  have L5 : ∀ v : (Int64 × Int32), lp (fun v => s_Key_part_5 c_kb p_1 v.1 v.2) v = some y3 → ∀ (H : Heap) (locs : List Loc) (ls : Array Slot), va_P G.1 classes (wK G a_ko a_kq c_kb c_kn c_kt) H → va_D A (wK G a_ko a_kq c_kb c_kn c_kt) → va_S A xs.heap H locs → (∀ q ∈ locs, xs.heap.size ≤ q.base) → lv_has ls 5 [(0, .ref a_ko), (1, .int p_1), (2, .long v.1), (4, .int v.2)] → W xp l xe { frames := 1, cells := 0, slots := 0, locals := 21 } xs xm ([.ref a_ko, .int p_1] : List Value).toArray xb xme xc H locs 0 0 Q (F0 xm 5 ls []) := by
    refine lp_walk _ (fun v x h hc he => ?_)
    obtain ⟨x2_1, x4_2⟩ := v
    intro H locs ls hP hD hS hL hl
    have h : s_Key_part_5 c_kb p_1 x2_1 x4_2 = some x := h
    unfold s_Key_part_5 at h
    refine lv_iload hx hb d_Key_part_5 (lv_at hl 3 rfl) ?_
    refine lv_bipush (v := 8) hx hb d_Key_part_7 (by decide) ?_
    refine lv_icmp_ge (tgt := 36) hx hb d_Key_part_9 (by decide) (fun q4 => ?_) (fun q4 => ?_)
    · have h := it h q4
      exact E5 x2_1 (he _ (Option.some.inj h).symm) H locs ls hP hD hS hL (lv_sub hl [2] rfl)
    · have h := ie h q4
      refine lv_lload_n hx hb d_Key_part_12 rfl (lv_at hl 2 rfl) ?_
      refine lv_bipush (v := 8) hx hb d_Key_part_13 (by decide) ?_
      refine lv_lshl (v := zlshl x2_1 8) hx hb d_Key_part_15 rfl ?_
      refine lv_aload_n hx hb d_Key_part_16 rfl (lv_at hl 0 rfl) ?_
      refine lv_bipush (v := 8) hx hb d_Key_part_17 (by decide) ?_
      refine lv_iload_n hx hb d_Key_part_19 rfl (lv_at hl 1 rfl) ?_
      refine lv_imul hx hb d_Key_part_20 ?_
      refine lv_iload hx hb d_Key_part_21 (lv_at hl 3 rfl) ?_
      refine lv_iadd hx hb d_Key_part_23 ?_
      obtain ⟨r5, hr5, h⟩ := ob h
      refine zpcalli (wr := []) (w2 := fun _ => (wK G a_ko a_kq c_kb c_kn c_kt)) (zrunV (As := [.int ((8 * p_1) + x4_2)]) (rest := [.long (zlshl x2_1 8)]) ⟨hx, hb, hml, hown, hts⟩ hN hK (c_Key_at l G H.size a_ko a_kq c_kb c_kn c_kt ((8 * p_1) + x4_2) r5 hr5) ⟨rfl, rfl⟩ kv_Key_41 ⟨Nat.le_of_ble_eq_true rfl, Nat.le_of_ble_eq_true rfl⟩ 0 rfl rfl rfl hl.1 (Nat.le_of_ble_eq_true rfl) d_Key_part_24 ⟨Nat.le_of_ble_eq_true rfl, Nat.le_of_ble_eq_true rfl⟩) hP hD hS hA [0, 1] [] [0, 1] rfl rfl rfl rfl (by decide) rfl (fun _ => rfl) (fun rr _ H hw hP hD hS => ?_)
      have hw := hw.symm
      subst hw
      refine lv_i2l (v := r5.toInt64) hx hb d_Key_part_27 rfl ?_
      refine lv_lor hx hb d_Key_part_28 ?_
      refine lv_topl (fun v6 ev6 => ?_)
      have h := nm_k h v6 ev6
      refine lv_lstore_n (lv' := [(2, .long v6), (0, .ref a_ko), (1, .int p_1), (4, .int x4_2)]) hx hb d_Key_part_29 rfl hl (by decide) rfl (fun ls hl => ?_)
      obtain ⟨v7, ev7⟩ : ∃ y : Int32, y = x4_2 + 1 := ⟨_, rfl⟩
      have h := nm_k h v7 ev7
      refine lv_iinc (v := v7) (lv' := [(4, .int v7), (2, .long v6), (0, .ref a_ko), (1, .int p_1)]) hx hb d_Key_part_30 hl (k := 3) rfl (by rw [ev7]; rfl) (by decide) rfl (fun ls hl => ?_)
      refine lv_goto (tgt := 5) hx hb d_Key_part_33 (by decide) ?_
      exact hc _ (Option.some.inj h).symm H locs ls hP hD hS hL (lv_sub hl [2, 3, 1, 0] rfl)
  exact L5 _ hy3 _ _ ls hP hD hS hL (lv_sub hl [2, 3, 1, 0] rfl)

noncomputable def s_Key_byteOf_4 (c_kb : (Nat → Int32)) (x1 : Int32) (x2 : Int32) (x3 : Int32) : Option ((Int32 × Int32) ⊕ Int32) :=
if x1 ≤ x3 then
(some (.inr x2))
else
((f_Key_at c_kb x2).bind fun r5 =>
(if r5 = 0 then
(some 2)
else
(some 1)).bind fun y9 =>
nm (x2 + y9) fun v11 =>
nm (x3 + 1) fun v12 =>
some (.inl (v11, v12)))
noncomputable def f_Key_byteOf (c_kb : (Nat → Int32)) (p_1 : Int32) : Option Int32 :=
(lp (fun v => s_Key_byteOf_4 c_kb p_1 v.1 v.2) (0, 0)).bind fun y14 =>
(f_Key_at c_kb y14).bind fun r15 =>
some r15
set_option maxHeartbeats 8000000 in
set_option maxRecDepth 100000 in
theorem c_Key_byteOf (l : Launch) (G : zG) (sz : Nat) (a_ko a_kq : Nat) (c_kb : (Nat → Int32)) (c_kn : Int32) (c_kt : Int32) (p_1 : Int32) (r0 : Int32) (hf : f_Key_byteOf c_kb p_1 = some r0) :
    Met l y_Key_byteOf (Cond.code y_Key_byteOf prog_4_method_11_code 4 (some .int) :: lw_ok) { frames := 1, cells := 0, slots := 0, locals := 21 } (zPc G sz [.ref a_ko, .int p_1] (wK G a_ko a_kq c_kb c_kn c_kt))
      ((fun (A : Nat → Prop) => va_Qi (fun (r : Int32) (_ : Unit) => r = r0) (fun _ t => zB G A (wK G a_ko a_kq c_kb c_kn c_kt) t) A) (va_A (wK G a_ko a_kq c_kb c_kn c_kt) sz)) 0 0 (fun q => sz ≤ q) := by
  refine zMetR (Qc := fun (A : Nat → Prop) => va_Qi (fun (r : Int32) (_ : Unit) => r = r0) (fun _ t => zB G A (wK G a_ko a_kq c_kb c_kn c_kt) t) A) (by decide) (Nat.le_of_ble_eq_true rfl) (fun xp xe xs xm xb xme xc A ls Q H locs C hN hK hP hD hS hL hA hl hQ => ?_)
  obtain ⟨hx, hb, hr, hts, hown, hlocks, hml, hin⟩ := C
  have hl : lv_has ls 4 [(0, .ref a_ko), (1, .int p_1)] := hl
  have h := hf
  unfold f_Key_byteOf at h
  refine lv_iconst (v := 0) hx hb d_Key_byteOf_0 (by decide) ?_
  refine lv_istore_n (lv' := [(2, .int 0), (0, .ref a_ko), (1, .int p_1)]) hx hb d_Key_byteOf_1 rfl hl (by decide) rfl (fun ls hl => ?_)
  refine lv_iconst (v := 0) hx hb d_Key_byteOf_2 (by decide) ?_
  refine lv_istore_n (lv' := [(3, .int 0), (2, .int 0), (0, .ref a_ko), (1, .int p_1)]) hx hb d_Key_byteOf_3 rfl hl (by decide) rfl (fun ls hl => ?_)
  obtain ⟨y3, hy3, h⟩ := ob h
  have E4 : ∀ (z13 : Int32), z13 = y3 → ∀ (H : Heap) (locs : List Loc) (ls : Array Slot), va_P G.1 classes (wK G a_ko a_kq c_kb c_kn c_kt) H → va_D A (wK G a_ko a_kq c_kb c_kn c_kt) → va_S A xs.heap H locs → (∀ q ∈ locs, xs.heap.size ≤ q.base) → lv_has ls 4 [(0, .ref a_ko), (2, .int z13)] → W xp l xe { frames := 1, cells := 0, slots := 0, locals := 21 } xs xm ([.ref a_ko, .int p_1] : List Value).toArray xb xme xc H locs 0 0 Q (F0 xm 31 ls []) := by
    intro z13 ey H locs ls hP hD hS hL hl
    subst ey
    try dsimp only at h
    refine lv_aload_n hx hb d_Key_byteOf_31 rfl (lv_at hl 0 rfl) ?_
    refine lv_iload_n hx hb d_Key_byteOf_32 rfl (lv_at hl 1 rfl) ?_
    obtain ⟨r15, hr15, h⟩ := ob h
    refine zpcalli (wr := []) (w2 := fun _ => (wK G a_ko a_kq c_kb c_kn c_kt)) (zrunV (As := [.int z13]) (rest := []) ⟨hx, hb, hml, hown, hts⟩ hN hK (c_Key_at l G H.size a_ko a_kq c_kb c_kn c_kt z13 r15 hr15) ⟨rfl, rfl⟩ kv_Key_41 ⟨Nat.le_of_ble_eq_true rfl, Nat.le_of_ble_eq_true rfl⟩ 0 rfl rfl rfl hl.1 (Nat.le_of_ble_eq_true rfl) d_Key_byteOf_33 ⟨Nat.le_of_ble_eq_true rfl, Nat.le_of_ble_eq_true rfl⟩) hP hD hS hA [0, 1] [] [0, 1] rfl rfl rfl rfl (by decide) rfl (fun _ => rfl) (fun rr _ H hw hP hD hS => ?_)
    have hw := hw.symm
    subst hw
    obtain rfl := Option.some.inj h
    exact zreti () hQ hL hx hb hr hlocks hP hD hS rfl (Nat.le_refl _) (Nat.le_refl _) d_Key_byteOf_36
  have L4 : ∀ v : (Int32 × Int32), lp (fun v => s_Key_byteOf_4 c_kb p_1 v.1 v.2) v = some y3 → ∀ (H : Heap) (locs : List Loc) (ls : Array Slot), va_P G.1 classes (wK G a_ko a_kq c_kb c_kn c_kt) H → va_D A (wK G a_ko a_kq c_kb c_kn c_kt) → va_S A xs.heap H locs → (∀ q ∈ locs, xs.heap.size ≤ q.base) → lv_has ls 4 [(0, .ref a_ko), (1, .int p_1), (2, .int v.1), (3, .int v.2)] → W xp l xe { frames := 1, cells := 0, slots := 0, locals := 21 } xs xm ([.ref a_ko, .int p_1] : List Value).toArray xb xme xc H locs 0 0 Q (F0 xm 4 ls []) := by
    refine lp_walk _ (fun v x h hc he => ?_)
    obtain ⟨x2_1, x3_2⟩ := v
    intro H locs ls hP hD hS hL hl
    have h : s_Key_byteOf_4 c_kb p_1 x2_1 x3_2 = some x := h
    unfold s_Key_byteOf_4 at h
    refine lv_iload_n hx hb d_Key_byteOf_4 rfl (lv_at hl 3 rfl) ?_
    refine lv_iload_n hx hb d_Key_byteOf_5 rfl (lv_at hl 1 rfl) ?_
    refine lv_icmp_ge (tgt := 31) hx hb d_Key_byteOf_6 (by decide) (fun q4 => ?_) (fun q4 => ?_)
    · have h := it h q4
      exact E4 x2_1 (he _ (Option.some.inj h).symm) H locs ls hP hD hS hL (lv_sub hl [0, 2] rfl)
    · have h := ie h q4
      refine lv_iload_n hx hb d_Key_byteOf_9 rfl (lv_at hl 2 rfl) ?_
      refine lv_aload_n hx hb d_Key_byteOf_10 rfl (lv_at hl 0 rfl) ?_
      refine lv_iload_n hx hb d_Key_byteOf_11 rfl (lv_at hl 2 rfl) ?_
      obtain ⟨r5, hr5, h⟩ := ob h
      refine zpcalli (wr := []) (w2 := fun _ => (wK G a_ko a_kq c_kb c_kn c_kt)) (zrunV (As := [.int x2_1]) (rest := [.int x2_1]) ⟨hx, hb, hml, hown, hts⟩ hN hK (c_Key_at l G H.size a_ko a_kq c_kb c_kn c_kt x2_1 r5 hr5) ⟨rfl, rfl⟩ kv_Key_41 ⟨Nat.le_of_ble_eq_true rfl, Nat.le_of_ble_eq_true rfl⟩ 0 rfl rfl rfl hl.1 (Nat.le_of_ble_eq_true rfl) d_Key_byteOf_12 ⟨Nat.le_of_ble_eq_true rfl, Nat.le_of_ble_eq_true rfl⟩) hP hD hS hA [0, 1] [] [0, 1] rfl rfl rfl rfl (by decide) rfl (fun _ => rfl) (fun rr _ H hw hP hD hS => ?_)
      have hw := hw.symm
      subst hw
      obtain ⟨y8, hy8, h⟩ := ob h
      have J23 : ∀ (z10 : Int32), z10 = y8 → ∀ (H : Heap) (locs : List Loc) (ls : Array Slot), va_P G.1 classes (wK G a_ko a_kq c_kb c_kn c_kt) H → va_D A (wK G a_ko a_kq c_kb c_kn c_kt) → va_S A xs.heap H locs → (∀ q ∈ locs, xs.heap.size ≤ q.base) → lv_has ls 4 [(0, .ref a_ko), (1, .int p_1), (3, .int x3_2)] → W xp l xe { frames := 1, cells := 0, slots := 0, locals := 21 } xs xm ([.ref a_ko, .int p_1] : List Value).toArray xb xme xc H locs 0 0 Q (F0 xm 23 ls [.int z10, .int x2_1]) := by
        intro z10 ey H locs ls hP hD hS hL hl
        subst ey
        try dsimp only at h
        refine lv_iadd hx hb d_Key_byteOf_23 ?_
        refine lv_topi (fun v11 ev11 => ?_)
        have h := nm_k h v11 ev11
        refine lv_istore_n (lv' := [(2, .int v11), (0, .ref a_ko), (1, .int p_1), (3, .int x3_2)]) hx hb d_Key_byteOf_24 rfl hl (by decide) rfl (fun ls hl => ?_)
        obtain ⟨v12, ev12⟩ : ∃ y : Int32, y = x3_2 + 1 := ⟨_, rfl⟩
        have h := nm_k h v12 ev12
        refine lv_iinc (v := v12) (lv' := [(3, .int v12), (2, .int v11), (0, .ref a_ko), (1, .int p_1)]) hx hb d_Key_byteOf_25 hl (k := 3) rfl (by rw [ev12]; rfl) (by decide) rfl (fun ls hl => ?_)
        refine lv_goto (tgt := 4) hx hb d_Key_byteOf_28 (by decide) ?_
        exact hc _ (Option.some.inj h).symm H locs ls hP hD hS hL (lv_sub hl [2, 3, 1, 0] rfl)
      have h := hy8
      refine lv_if_ne (tgt := 22) hx hb d_Key_byteOf_15 (by decide) (fun q7 => ?_) (fun q7 => ?_)
      · have h := ie h q7
        refine lv_iconst (v := 1) hx hb d_Key_byteOf_22 (by decide) ?_
        exact J23 1 (Option.some.inj h) H locs ls hP hD hS hL (lv_sub hl [0, 1, 3] rfl)
      · have h := it h q7
        refine lv_iconst (v := 2) hx hb d_Key_byteOf_18 (by decide) ?_
        refine lv_goto (tgt := 23) hx hb d_Key_byteOf_19 (by decide) ?_
        exact J23 2 (Option.some.inj h) H locs ls hP hD hS hL (lv_sub hl [0, 1, 3] rfl)
  exact L4 _ hy3 _ _ ls hP hD hS hL (lv_sub hl [2, 3, 1, 0] rfl)

noncomputable def s_Key_counted_7 (c_kb : (Nat → Int32)) (c_kn : Int32) (x1 : Int32) (x2 : Int32) (c_kt : Int32) : Option ((Int32 × Int32) ⊕ Int32) :=
if x1 = 0 then
(some (.inr c_kt))
else
(if (c_kn - 2) ≤ x2 then
(some (.inr c_kt))
else
(nm (c_kt + 1) fun v6 =>
(f_Key_at c_kb x2).bind fun r7 =>
(if r7 = 0 then
(some 2)
else
(some 1)).bind fun y11 =>
nm (x2 + y11) fun v13 =>
some (.inl (v13, v6))))
noncomputable def f_Key_counted (c_kb : (Nat → Int32)) (c_kn : Int32) (c_kt : Int32) (p_1 : Int32) : Option Int32 :=
(lp (fun v => s_Key_counted_7 c_kb c_kn p_1 v.1 v.2) (0, 0)).bind fun y15 =>
some y15
set_option maxHeartbeats 8000000 in
set_option maxRecDepth 100000 in
theorem c_Key_counted (l : Launch) (G : zG) (sz : Nat) (a_ko a_kq : Nat) (c_kb : (Nat → Int32)) (c_kn : Int32) (c_kt : Int32) (p_1 : Int32) (r0 : Int32) (hf : f_Key_counted c_kb c_kn c_kt p_1 = some r0) :
    Met l y_Key_counted (Cond.code y_Key_counted prog_4_method_12_code 3 none :: lw_ok) { frames := 1, cells := 0, slots := 0, locals := 21 } (zPc G sz [.ref a_ko, .int p_1] (wK G a_ko a_kq c_kb c_kn c_kt))
      ((fun (A : Nat → Prop) => va_Qv (fun (_ : Unit) => True) (fun _ t => zB G A (wK G a_ko a_kq c_kb c_kn r0) t) A) (va_A (wK G a_ko a_kq c_kb c_kn c_kt) sz)) 0 0 (va_A (wK G a_ko a_kq c_kb c_kn c_kt) sz) := by
  refine zMet (Qc := fun (A : Nat → Prop) => va_Qv (fun (_ : Unit) => True) (fun _ t => zB G A (wK G a_ko a_kq c_kb c_kn r0) t) A) (by decide) (Nat.le_of_ble_eq_true rfl) (fun xp xe xs xm xb xme xc A ls Q H locs C hN hK hP hD hS hA hl hQ => ?_)
  obtain ⟨hx, hb, hr, hts, hown, hlocks, hml, hin⟩ := C
  have hl : lv_has ls 3 [(0, .ref a_ko), (1, .int p_1)] := hl
  have h := hf
  unfold f_Key_counted at h
  refine lv_aload_n hx hb d_Key_counted_0 rfl (lv_at hl 0 rfl) ?_
  refine lv_iconst (v := 0) hx hb d_Key_counted_1 (by decide) ?_
  refine va_put (D := G.1) (ci := 0) (v := .int 0) (ty := .int) (C := "BranchStore$Key") (T := F_Key) (N := 3) hx hb hts i_Key t_Key t_Key_ok n_Key hown hK hP hD hS 0 rfl rfl 2 (by decide) (hts _ k_112) (fun _ h9 => h9) rfl (by decide +kernel) rfl rfl (Nat.le_of_ble_eq_true rfl) d_Key_counted_2 (fun H locs hP hD hS => ?_)
  have hP : va_P G.1 classes (wK G a_ko a_kq c_kb c_kn 0) H := hP
  have hD : va_D A (wK G a_ko a_kq c_kb c_kn 0) := hD
  refine lv_iconst (v := 0) hx hb d_Key_counted_5 (by decide) ?_
  refine lv_istore_n (lv' := [(2, .int 0), (0, .ref a_ko), (1, .int p_1)]) hx hb d_Key_counted_6 rfl hl (by decide) rfl (fun ls hl => ?_)
  obtain ⟨y3, hy3, h⟩ := ob h
  have E7 : ∀ (z14 : Int32), z14 = y3 → ∀ (H : Heap) (locs : List Loc) (ls : Array Slot), va_P G.1 classes (wK G a_ko a_kq c_kb c_kn z14) H → va_D A (wK G a_ko a_kq c_kb c_kn z14) → va_S A xs.heap H locs → lv_has ls 3 [] → W xp l xe { frames := 1, cells := 0, slots := 0, locals := 21 } xs xm ([.ref a_ko, .int p_1] : List Value).toArray xb xme xc H locs 0 0 Q (F0 xm 50 ls []) := by
    intro z14 ey H locs ls hP hD hS hl
    subst ey
    try dsimp only at h
    obtain rfl := Option.some.inj h
    exact zretv () hQ hS.2.2 hx hb hr hlocks hP hD hS trivial (Nat.le_refl _) (Nat.le_refl _) d_Key_counted_50
  have L7 : ∀ v : (Int32 × Int32), lp (fun v => s_Key_counted_7 c_kb c_kn p_1 v.1 v.2) v = some y3 → ∀ (H : Heap) (locs : List Loc) (ls : Array Slot), va_P G.1 classes (wK G a_ko a_kq c_kb c_kn v.2) H → va_D A (wK G a_ko a_kq c_kb c_kn v.2) → va_S A xs.heap H locs → lv_has ls 3 [(0, .ref a_ko), (1, .int p_1), (2, .int v.1)] → W xp l xe { frames := 1, cells := 0, slots := 0, locals := 21 } xs xm ([.ref a_ko, .int p_1] : List Value).toArray xb xme xc H locs 0 0 Q (F0 xm 7 ls []) := by
    refine lp_walk _ (fun v x h hc he => ?_)
    obtain ⟨x2_1, c2⟩ := v
    intro H locs ls hP hD hS hl
    have h : s_Key_counted_7 c_kb c_kn p_1 x2_1 c2 = some x := h
    unfold s_Key_counted_7 at h
    refine lv_iload_n hx hb d_Key_counted_7 rfl (lv_at hl 1 rfl) ?_
    refine lv_if_eq (tgt := 50) hx hb d_Key_counted_8 (by decide) (fun q4 => ?_) (fun q4 => ?_)
    · have h := it h q4
      exact E7 c2 (he _ (Option.some.inj h).symm) H locs ls hP hD hS (lv_sub hl [] rfl)
    · have h := ie h q4
      refine lv_iload_n hx hb d_Key_counted_11 rfl (lv_at hl 2 rfl) ?_
      refine lv_aload_n hx hb d_Key_counted_12 rfl (lv_at hl 0 rfl) ?_
      refine va_get (D := G.1) (ci := 0) (v := .int c_kn) (C := "BranchStore$Key") (T := F_Key) (N := 3) hx hb hts i_Key hown hK hP 0 rfl rfl 1 (by decide) (hts _ k_109) (fun _ h9 => h9) rfl d_Key_counted_13 ?_
      refine lv_iconst (v := 2) hx hb d_Key_counted_16 (by decide) ?_
      refine lv_isub hx hb d_Key_counted_17 ?_
      refine lv_icmp_ge (tgt := 50) hx hb d_Key_counted_18 (by decide) (fun q5 => ?_) (fun q5 => ?_)
      · have h := it h q5
        exact E7 c2 (he _ (Option.some.inj h).symm) H locs ls hP hD hS (lv_sub hl [] rfl)
      · have h := ie h q5
        refine lv_aload_n hx hb d_Key_counted_21 rfl (lv_at hl 0 rfl) ?_
        refine lv_dup hx hb d_Key_counted_22 rfl ?_
        refine va_get (D := G.1) (ci := 0) (v := .int c2) (C := "BranchStore$Key") (T := F_Key) (N := 3) hx hb hts i_Key hown hK hP 0 rfl rfl 2 (by decide) (hts _ k_112) (fun _ h9 => h9) rfl d_Key_counted_23 ?_
        refine lv_iconst (v := 1) hx hb d_Key_counted_26 (by decide) ?_
        refine lv_iadd hx hb d_Key_counted_27 ?_
        refine lv_topi (fun v6 ev6 => ?_)
        have h := nm_k h v6 ev6
        refine va_put (D := G.1) (ci := 0) (v := .int v6) (ty := .int) (C := "BranchStore$Key") (T := F_Key) (N := 3) hx hb hts i_Key t_Key t_Key_ok n_Key hown hK hP hD hS 0 rfl rfl 2 (by decide) (hts _ k_112) (fun _ h9 => h9) rfl (by decide +kernel) rfl rfl (Nat.le_of_ble_eq_true rfl) d_Key_counted_28 (fun H locs hP hD hS => ?_)
        have hP : va_P G.1 classes (wK G a_ko a_kq c_kb c_kn v6) H := hP
        have hD : va_D A (wK G a_ko a_kq c_kb c_kn v6) := hD
        refine lv_iload_n hx hb d_Key_counted_31 rfl (lv_at hl 2 rfl) ?_
        refine lv_aload_n hx hb d_Key_counted_32 rfl (lv_at hl 0 rfl) ?_
        refine lv_iload_n hx hb d_Key_counted_33 rfl (lv_at hl 2 rfl) ?_
        obtain ⟨r7, hr7, h⟩ := ob h
        refine zpcalli (wr := []) (w2 := fun _ => (wK G a_ko a_kq c_kb c_kn v6)) (zrunV (As := [.int x2_1]) (rest := [.int x2_1]) ⟨hx, hb, hml, hown, hts⟩ hN hK (c_Key_at l G H.size a_ko a_kq c_kb c_kn v6 x2_1 r7 hr7) ⟨rfl, rfl⟩ kv_Key_41 ⟨Nat.le_of_ble_eq_true rfl, Nat.le_of_ble_eq_true rfl⟩ 0 rfl rfl rfl hl.1 (Nat.le_of_ble_eq_true rfl) d_Key_counted_34 ⟨Nat.le_of_ble_eq_true rfl, Nat.le_of_ble_eq_true rfl⟩) hP hD hS hA [0, 1] [] [0, 1] rfl rfl rfl rfl (by decide) rfl (fun _ => rfl) (fun rr _ H hw hP hD hS => ?_)
        have hw := hw.symm
        subst hw
        obtain ⟨y10, hy10, h⟩ := ob h
        have J45 : ∀ (z12 : Int32), z12 = y10 → ∀ (H : Heap) (locs : List Loc) (ls : Array Slot), va_P G.1 classes (wK G a_ko a_kq c_kb c_kn v6) H → va_D A (wK G a_ko a_kq c_kb c_kn v6) → va_S A xs.heap H locs → lv_has ls 3 [(0, .ref a_ko), (1, .int p_1)] → W xp l xe { frames := 1, cells := 0, slots := 0, locals := 21 } xs xm ([.ref a_ko, .int p_1] : List Value).toArray xb xme xc H locs 0 0 Q (F0 xm 45 ls [.int z12, .int x2_1]) := by
          intro z12 ey H locs ls hP hD hS hl
          subst ey
          try dsimp only at h
          refine lv_iadd hx hb d_Key_counted_45 ?_
          refine lv_topi (fun v13 ev13 => ?_)
          have h := nm_k h v13 ev13
          refine lv_istore_n (lv' := [(2, .int v13), (0, .ref a_ko), (1, .int p_1)]) hx hb d_Key_counted_46 rfl hl (by decide) rfl (fun ls hl => ?_)
          refine lv_goto (tgt := 7) hx hb d_Key_counted_47 (by decide) ?_
          exact hc _ (Option.some.inj h).symm H locs ls hP hD hS (lv_sub hl [1, 2, 0] rfl)
        have h := hy10
        refine lv_if_ne (tgt := 44) hx hb d_Key_counted_37 (by decide) (fun q9 => ?_) (fun q9 => ?_)
        · have h := ie h q9
          refine lv_iconst (v := 1) hx hb d_Key_counted_44 (by decide) ?_
          exact J45 1 (Option.some.inj h) H locs ls hP hD hS (lv_sub hl [0, 1] rfl)
        · have h := it h q9
          refine lv_iconst (v := 2) hx hb d_Key_counted_40 (by decide) ?_
          refine lv_goto (tgt := 45) hx hb d_Key_counted_41 (by decide) ?_
          exact J45 2 (Option.some.inj h) H locs ls hP hD hS (lv_sub hl [0, 1] rfl)
  exact L7 _ hy3 _ _ ls hP hD hS (lv_sub hl [1, 2, 0] rfl)
