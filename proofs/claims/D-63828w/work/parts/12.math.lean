noncomputable def f_Long_compare  (p_0 : Int64) (p_2 : Int64) : Option Int32 :=
if 0 ≤ (lg_cmp p_0 p_2) then
(if (lg_cmp p_0 p_2) = 0 then
(some 0)
else
(some 1))
else
(some (-1))
set_option maxHeartbeats 8000000 in
set_option maxRecDepth 100000 in
theorem c_Long_compare (l : Launch) (G : zG) (sz : Nat) (p_0 : Int64) (p_2 : Int64) (r0 : Int32) (hf : f_Long_compare p_0 p_2 = some r0) :
    Met l y_Long_compare (Cond.code y_Long_compare prog_15_method_42_code 4 (some .int) :: lw_ok) { frames := 0, cells := 0, slots := 0, locals := 0 } (zPc G sz [.long p_0, .long p_2] ([] : va_W))
      ((fun (A : Nat → Prop) => va_Qi (fun (r : Int32) (_ : Unit) => r = r0) (fun _ t => zB G A ([] : va_W) t) A) (va_A ([] : va_W) sz)) 0 0 (fun q => sz ≤ q) := by
  refine zMetR (Qc := fun (A : Nat → Prop) => va_Qi (fun (r : Int32) (_ : Unit) => r = r0) (fun _ t => zB G A ([] : va_W) t) A) (by decide) (Nat.le_of_ble_eq_true rfl) (fun xp xe xs xm xb xme xc A ls Q H locs C hN hK hP hD hS hL hA hl hQ => ?_)
  obtain ⟨hx, hb, hr, hts, hown, hlocks, hml, hin⟩ := C
  have hl : lv_has ls 4 [(0, .long p_0), (2, .long p_2)] := hl
  have h := hf
  unfold f_Long_compare at h
  refine lv_lload_n hx hb d_Long_compare_0 rfl (lv_at hl 0 rfl) ?_
  refine lv_lload_n hx hb d_Long_compare_1 rfl (lv_at hl 1 rfl) ?_
  refine W.lcmp hx hb d_Long_compare_2 ?_
  refine lv_if_ge (tgt := 10) hx hb d_Long_compare_3 (by decide) (fun q1 => ?_) (fun q1 => ?_)
  · have h := it h q1
    refine lv_lload_n hx hb d_Long_compare_10 rfl (lv_at hl 0 rfl) ?_
    refine lv_lload_n hx hb d_Long_compare_11 rfl (lv_at hl 1 rfl) ?_
    refine W.lcmp hx hb d_Long_compare_12 ?_
    refine lv_if_ne (tgt := 20) hx hb d_Long_compare_13 (by decide) (fun q2 => ?_) (fun q2 => ?_)
    · have h := ie h q2
      refine lv_iconst (v := 1) hx hb d_Long_compare_20 (by decide) ?_
      obtain rfl := Option.some.inj h
      exact zreti () hQ hL hx hb hr hlocks hP hD hS rfl (Nat.le_refl _) (Nat.le_refl _) d_Long_compare_21
    · have h := it h q2
      refine lv_iconst (v := 0) hx hb d_Long_compare_16 (by decide) ?_
      refine lv_goto (tgt := 21) hx hb d_Long_compare_17 (by decide) ?_
      obtain rfl := Option.some.inj h
      exact zreti () hQ hL hx hb hr hlocks hP hD hS rfl (Nat.le_refl _) (Nat.le_refl _) d_Long_compare_21
  · have h := ie h q1
    refine lv_iconst (v := (-1)) hx hb d_Long_compare_6 (by decide) ?_
    refine lv_goto (tgt := 21) hx hb d_Long_compare_7 (by decide) ?_
    obtain rfl := Option.some.inj h
    exact zreti () hQ hL hx hb hr hlocks hP hD hS rfl (Nat.le_refl _) (Nat.le_refl _) d_Long_compare_21

theorem kv_Long_302 : zKS "java/lang/Long" 302 y_Long_compare prog_15_method_42_code 4 (some .int) 2 := ⟨k_717, k_718, k_20, k_719, by decide +kernel⟩
noncomputable def f_Long_compareUnsigned  (p_0 : Int64) (p_2 : Int64) : Option Int32 :=
(f_Long_compare (p_0 + (-9223372036854775808)) (p_2 + (-9223372036854775808))).bind fun r1 =>
some r1
set_option maxHeartbeats 8000000 in
set_option maxRecDepth 100000 in
theorem c_Long_compareUnsigned (l : Launch) (G : zG) (sz : Nat) (p_0 : Int64) (p_2 : Int64) (r0 : Int32) (hf : f_Long_compareUnsigned p_0 p_2 = some r0) :
    Met l y_Long_compareUnsigned (Cond.code y_Long_compareUnsigned prog_15_method_43_code 4 (some .int) :: lw_ok) { frames := 1, cells := 0, slots := 0, locals := 23 } (zPc G sz [.long p_0, .long p_2] ([] : va_W))
      ((fun (A : Nat → Prop) => va_Qi (fun (r : Int32) (_ : Unit) => r = r0) (fun _ t => zB G A ([] : va_W) t) A) (va_A ([] : va_W) sz)) 0 0 (fun q => sz ≤ q) := by
  refine zMetR (Qc := fun (A : Nat → Prop) => va_Qi (fun (r : Int32) (_ : Unit) => r = r0) (fun _ t => zB G A ([] : va_W) t) A) (by decide) (Nat.le_of_ble_eq_true rfl) (fun xp xe xs xm xb xme xc A ls Q H locs C hN hK hP hD hS hL hA hl hQ => ?_)
  obtain ⟨hx, hb, hr, hts, hown, hlocks, hml, hin⟩ := C
  have hl : lv_has ls 4 [(0, .long p_0), (2, .long p_2)] := hl
  have h := hf
  unfold f_Long_compareUnsigned at h
  refine lv_lload_n hx hb d_Long_compareUnsigned_0 rfl (lv_at hl 0 rfl) ?_
  refine lv_ldc2 (v := (-9223372036854775808)) hx hb hown (hts _ k_716) d_Long_compareUnsigned_1 ?_
  refine lv_ladd hx hb d_Long_compareUnsigned_4 ?_
  refine lv_lload_n hx hb d_Long_compareUnsigned_5 rfl (lv_at hl 1 rfl) ?_
  refine lv_ldc2 (v := (-9223372036854775808)) hx hb hown (hts _ k_716) d_Long_compareUnsigned_6 ?_
  refine lv_ladd hx hb d_Long_compareUnsigned_9 ?_
  obtain ⟨r1, hr1, h⟩ := ob h
  refine zpcalli (wr := []) (w2 := fun _ => ([] : va_W)) (zrunS (As := [.long (p_0 + (-9223372036854775808)), .long (p_2 + (-9223372036854775808))]) (rest := []) ⟨hx, hb, hml, hown, hts⟩ hN hK (c_Long_compare l G H.size (p_0 + (-9223372036854775808)) (p_2 + (-9223372036854775808)) r1 hr1) ⟨rfl, rfl⟩ kv_Long_302 ⟨Nat.le_of_ble_eq_true rfl, Nat.le_of_ble_eq_true rfl⟩ rfl hl.1 (Nat.le_of_ble_eq_true rfl) d_Long_compareUnsigned_10 ⟨Nat.le_of_ble_eq_true rfl, Nat.le_of_ble_eq_true rfl⟩) hP hD hS hA [] [] [] rfl rfl rfl rfl (by decide) rfl (fun _ => rfl) (fun rr _ H hw hP hD hS => ?_)
  have hw := hw.symm
  subst hw
  obtain rfl := Option.some.inj h
  exact zreti () hQ hL hx hb hr hlocks hP hD hS rfl (Nat.le_refl _) (Nat.le_refl _) d_Long_compareUnsigned_13

noncomputable def f_Long_divideUnsigned  (p_0 : Int64) (p_2 : Int64) : Option Int64 :=
if (lg_cmp p_2 0) < 0 then
(some (zlushr (p_0 &&& ((p_0 - p_2) ^^^ (-1))) 63))
else
(gz p_2 <|
nm (zlshl ((zlushr p_0 1) / p_2) 1) fun v3 =>
nm (p_0 - (v3 * p_2)) fun v4 =>
some (v3 + (zlushr (v4 ||| ((v4 - p_2) ^^^ (-1))) 63)))
set_option maxHeartbeats 8000000 in
set_option maxRecDepth 100000 in
theorem c_Long_divideUnsigned (l : Launch) (G : zG) (sz : Nat) (p_0 : Int64) (p_2 : Int64) (r0 : Int64) (hf : f_Long_divideUnsigned p_0 p_2 = some r0) :
    Met l y_Long_divideUnsigned (Cond.code y_Long_divideUnsigned prog_15_method_44_code 8 (some .long) :: lw_ok) { frames := 0, cells := 0, slots := 0, locals := 0 } (zPc G sz [.long p_0, .long p_2] ([] : va_W))
      ((fun (A : Nat → Prop) => va_Ql (fun (r : Int64) (_ : Unit) => r = r0) (fun _ t => zB G A ([] : va_W) t) A) (va_A ([] : va_W) sz)) 0 0 (fun q => sz ≤ q) := by
  refine zMetR (Qc := fun (A : Nat → Prop) => va_Ql (fun (r : Int64) (_ : Unit) => r = r0) (fun _ t => zB G A ([] : va_W) t) A) (by decide) (Nat.le_of_ble_eq_true rfl) (fun xp xe xs xm xb xme xc A ls Q H locs C hN hK hP hD hS hL hA hl hQ => ?_)
  obtain ⟨hx, hb, hr, hts, hown, hlocks, hml, hin⟩ := C
  have hl : lv_has ls 8 [(0, .long p_0), (2, .long p_2)] := hl
  have h := hf
  unfold f_Long_divideUnsigned at h
  refine lv_lload_n hx hb d_Long_divideUnsigned_0 rfl (lv_at hl 1 rfl) ?_
  refine lv_lconst (v := 0) hx hb d_Long_divideUnsigned_1 (by decide) ?_
  refine W.lcmp hx hb d_Long_divideUnsigned_2 ?_
  refine lv_if_lt (tgt := 41) hx hb d_Long_divideUnsigned_3 (by decide) (fun q1 => ?_) (fun q1 => ?_)
  · have h := it h q1
    refine lv_lload_n hx hb d_Long_divideUnsigned_41 rfl (lv_at hl 0 rfl) ?_
    refine lv_lload_n hx hb d_Long_divideUnsigned_42 rfl (lv_at hl 0 rfl) ?_
    refine lv_lload_n hx hb d_Long_divideUnsigned_43 rfl (lv_at hl 1 rfl) ?_
    refine lv_lsub hx hb d_Long_divideUnsigned_44 ?_
    refine lv_ldc2 (v := (-1)) hx hb hown (hts _ k_712) d_Long_divideUnsigned_45 ?_
    refine lv_lxor hx hb d_Long_divideUnsigned_48 ?_
    refine lv_land hx hb d_Long_divideUnsigned_49 ?_
    refine lv_bipush (v := 63) hx hb d_Long_divideUnsigned_50 (by decide) ?_
    refine lv_lushr (v := zlushr (p_0 &&& ((p_0 - p_2) ^^^ (-1))) 63) hx hb d_Long_divideUnsigned_52 rfl ?_
    obtain rfl := Option.some.inj h
    exact zretl () hQ hL hx hb hr hlocks hP hD hS rfl (Nat.le_refl _) (Nat.le_refl _) d_Long_divideUnsigned_53
  · have h := ie h q1
    refine lv_lload_n hx hb d_Long_divideUnsigned_6 rfl (lv_at hl 0 rfl) ?_
    refine lv_iconst (v := 1) hx hb d_Long_divideUnsigned_7 (by decide) ?_
    refine lv_lushr (v := zlushr p_0 1) hx hb d_Long_divideUnsigned_8 rfl ?_
    refine lv_lload_n hx hb d_Long_divideUnsigned_9 rfl (lv_at hl 1 rfl) ?_
    obtain ⟨h2, h⟩ := gz_k h
    refine lv_ldiv hx hb d_Long_divideUnsigned_10 h2 ?_
    refine lv_iconst (v := 1) hx hb d_Long_divideUnsigned_11 (by decide) ?_
    refine lv_lshl (v := zlshl ((zlushr p_0 1) / p_2) 1) hx hb d_Long_divideUnsigned_12 rfl ?_
    refine lv_topl (fun v3 ev3 => ?_)
    have h := nm_k h v3 ev3
    refine lv_lstore (lv' := [(4, .long v3), (0, .long p_0), (2, .long p_2)]) hx hb d_Long_divideUnsigned_13 hl (by decide) rfl (fun ls hl => ?_)
    refine lv_lload_n hx hb d_Long_divideUnsigned_15 rfl (lv_at hl 1 rfl) ?_
    refine lv_lload hx hb d_Long_divideUnsigned_16 (lv_at hl 0 rfl) ?_
    refine lv_lload_n hx hb d_Long_divideUnsigned_18 rfl (lv_at hl 2 rfl) ?_
    refine lv_lmul hx hb d_Long_divideUnsigned_19 ?_
    refine lv_lsub hx hb d_Long_divideUnsigned_20 ?_
    refine lv_topl (fun v4 ev4 => ?_)
    have h := nm_k h v4 ev4
    refine lv_lstore (lv' := [(6, .long v4), (4, .long v3), (0, .long p_0), (2, .long p_2)]) hx hb d_Long_divideUnsigned_21 hl (by decide) rfl (fun ls hl => ?_)
    refine lv_lload hx hb d_Long_divideUnsigned_23 (lv_at hl 1 rfl) ?_
    refine lv_lload hx hb d_Long_divideUnsigned_25 (lv_at hl 0 rfl) ?_
    refine lv_lload hx hb d_Long_divideUnsigned_27 (lv_at hl 0 rfl) ?_
    refine lv_lload_n hx hb d_Long_divideUnsigned_29 rfl (lv_at hl 3 rfl) ?_
    refine lv_lsub hx hb d_Long_divideUnsigned_30 ?_
    refine lv_ldc2 (v := (-1)) hx hb hown (hts _ k_712) d_Long_divideUnsigned_31 ?_
    refine lv_lxor hx hb d_Long_divideUnsigned_34 ?_
    refine lv_lor hx hb d_Long_divideUnsigned_35 ?_
    refine lv_bipush (v := 63) hx hb d_Long_divideUnsigned_36 (by decide) ?_
    refine lv_lushr (v := zlushr (v4 ||| ((v4 - p_2) ^^^ (-1))) 63) hx hb d_Long_divideUnsigned_38 rfl ?_
    refine lv_ladd hx hb d_Long_divideUnsigned_39 ?_
    obtain rfl := Option.some.inj h
    exact zretl () hQ hL hx hb hr hlocks hP hD hS rfl (Nat.le_refl _) (Nat.le_refl _) d_Long_divideUnsigned_40
