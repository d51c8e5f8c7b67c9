noncomputable def k_Law_580 (sl : Nat) (sx : Nat → Int32) (c_sort c_msort : Int32) (c_set : Int32) (c_c : (Nat → Int32)) (c_cl : Nat) (c_mv : (Nat → Int32)) (c_ml : Nat) (c_en : Int32) (c_rt : Int32) (c_fr : (Nat → Int32)) (c_br : (Nat → Int32)) (c_fi : Int64) (c_st : Int64) (c_vz : Int64) (c_lb : (Nat → Int32)) (c_ln : Int32) (c_lt : Int32) (c_hb : (Nat → Int32)) (c_hn : Int32) (c_ht : Int32) (c_ab : (Nat → Int32)) (c_an : Int32) (c_at : Int32) (c_bb : (Nat → Int32)) (c_bn : Int32) (c_bt : Int32) (c_ub : (Nat → Int32)) (c_un : Int32) (c_ut : Int32) (c_gb : (Nat → Int32)) (c_gn : Int32) (c_gt : Int32) (c_cnt : Int32) (c_frees : Int32) (c_cur : Int32) (c_thr : Int32) (c_fst : (Nat → Int64)) (c_snd : (Nat → Int64)) (c_let : (Nat → Int32)) (c_many : (Nat → Int32)) (c_val : (Nat → Int64)) (c_ord : (Nat → Int32)) (c_free : (Nat → Int32)) (c_code : (Nat → Int32)) (c_next : (Nat → Int32)) (c_com : (Nat → Int32)) (c_met : (Nat → Int32)) (c_out : (Nat → Int64)) (x4 : Int32) : Option (((Int32 × Int32 × (Nat → Int32) × Nat × (Nat → Int32) × Nat × Int32 × Int32 × (Nat → Int32) × (Nat → Int32) × Int64 × Int64 × Int64 × (Nat → Int32) × Int32 × Int32 × (Nat → Int32) × Int32 × Int32 × (Nat → Int32) × Int32 × Int32 × (Nat → Int32) × Int32 × Int32 × (Nat → Int32) × Int32 × Int32 × (Nat → Int32) × Int32 × Int32 × Int32 × Int32 × Int32 × Int32 × (Nat → Int64) × (Nat → Int64) × (Nat → Int32) × (Nat → Int32) × (Nat → Int64) × (Nat → Int32) × (Nat → Int32) × (Nat → Int32) × (Nat → Int32) × (Nat → Int32) × (Nat → Int32) × (Nat → Int64)) ⊕ Int32) × Nat) :=
bd (f_Law_remove c_c c_cl c_en c_rt c_fr c_br c_ab c_an c_out) fun r1 =>
(f_Model_remove c_msort c_cnt c_frees c_thr c_fst c_snd c_let c_many c_val c_ord c_free).bind fun r4 =>
(f_Model_thrown r4.2.2.2.1).bind fun r5 =>
if r5 = r1.1 then
(if r1.1 = 0 then
(gi 0 1 <|
if (lg_cmp (r1.2.2.2.2.2.2.2 (0 : Int32).toNatClampNeg) r4.1) = 0 then
(nm (x4 + 6) fun v11 =>
some (.inl (v11, c_set, r1.2.1, r1.2.2.1, c_mv, c_ml, r1.2.2.2.1, r1.2.2.2.2.1, r1.2.2.2.2.2.1, r1.2.2.2.2.2.2.1, c_fi, c_st, c_vz, c_lb, c_ln, c_lt, c_hb, c_hn, c_ht, c_ab, c_an, c_at, c_bb, c_bn, c_bt, c_ub, c_un, c_ut, c_gb, c_gn, c_gt, r4.2.1, r4.2.2.1, c_cur, r4.2.2.2.1, c_fst, c_snd, c_let, c_many, c_val, r4.2.2.2.2.1, r4.2.2.2.2.2, c_code, c_next, c_com, c_met, r1.2.2.2.2.2.2.2), 0))
else
(some (.inr 0, 0)))
else
(nm (x4 + 6) fun v8 =>
some (.inl (v8, c_set, r1.2.1, r1.2.2.1, c_mv, c_ml, r1.2.2.2.1, r1.2.2.2.2.1, r1.2.2.2.2.2.1, r1.2.2.2.2.2.2.1, c_fi, c_st, c_vz, c_lb, c_ln, c_lt, c_hb, c_hn, c_ht, c_ab, c_an, c_at, c_bb, c_bn, c_bt, c_ub, c_un, c_ut, c_gb, c_gn, c_gt, r4.2.1, r4.2.2.1, c_cur, r4.2.2.2.1, c_fst, c_snd, c_let, c_many, c_val, r4.2.2.2.2.1, r4.2.2.2.2.2, c_code, c_next, c_com, c_met, r1.2.2.2.2.2.2.2), 0)))
else
(some (.inr 0, 0))
set_option maxHeartbeats 8000000 in
set_option maxRecDepth 100000 in
theorem w_Law_580 (xp : Program) (l : Launch) (xe : Env) (xs : State) (xm : MethodId) (xb : List Frame) (xme : Method) (xc : Code) (Q : State → Prop) (A : Nat → Prop) (G : zG) (b rc : Nat) (a_s a_t a_ao a_bo a_uo a_go a_fr a_br a_e0 a_e1 a_e2 a_e3 a_lo a_ho a_lq a_hq a_aq a_bq a_uq a_gq a_m a_mfst a_msnd a_mlet a_mmany a_mval a_mord a_mfree a_mcode a_mnext a_mcom a_mmet a_out : Nat) (c_sort : Int32) (c_msort : Int32) (sl : Nat) (sx : Nat → Int32) (hfl : l.flags = flags0) (hB : rc ≤ 7129) (C0 : lwC xp xs xm xc A G b sl sx) (c_set : Int32) (c_c : (Nat → Int32)) (c_cl : Nat) (c_mv : (Nat → Int32)) (c_ml : Nat) (c_en : Int32) (c_rt : Int32) (c_fr : (Nat → Int32)) (c_br : (Nat → Int32)) (c_fi : Int64) (c_st : Int64) (c_vz : Int64) (c_lb : (Nat → Int32)) (c_ln : Int32) (c_lt : Int32) (c_hb : (Nat → Int32)) (c_hn : Int32) (c_ht : Int32) (c_ab : (Nat → Int32)) (c_an : Int32) (c_at : Int32) (c_bb : (Nat → Int32)) (c_bn : Int32) (c_bt : Int32) (c_ub : (Nat → Int32)) (c_un : Int32) (c_ut : Int32) (c_gb : (Nat → Int32)) (c_gn : Int32) (c_gt : Int32) (c_cnt : Int32) (c_frees : Int32) (c_cur : Int32) (c_thr : Int32) (c_fst : (Nat → Int64)) (c_snd : (Nat → Int64)) (c_let : (Nat → Int32)) (c_many : (Nat → Int32)) (c_val : (Nat → Int64)) (c_ord : (Nat → Int32)) (c_free : (Nat → Int32)) (c_code : (Nat → Int32)) (c_next : (Nat → Int32)) (c_com : (Nat → Int32)) (c_met : (Nat → Int32)) (c_out : (Nat → Int64)) (x4 : Int32) (x9 : (Int32 × Int32 × (Nat → Int32) × Nat × (Nat → Int32) × Nat × Int32 × Int32 × (Nat → Int32) × (Nat → Int32) × Int64 × Int64 × Int64 × (Nat → Int32) × Int32 × Int32 × (Nat → Int32) × Int32 × Int32 × (Nat → Int32) × Int32 × Int32 × (Nat → Int32) × Int32 × Int32 × (Nat → Int32) × Int32 × Int32 × (Nat → Int32) × Int32 × Int32 × Int32 × Int32 × Int32 × Int32 × (Nat → Int64) × (Nat → Int64) × (Nat → Int32) × (Nat → Int32) × (Nat → Int64) × (Nat → Int32) × (Nat → Int32) × (Nat → Int32) × (Nat → Int32) × (Nat → Int32) × (Nat → Int32) × (Nat → Int64)) ⊕ Int32) (d9 e9 : Nat) (h : k_Law_580 sl sx c_sort c_msort c_set c_c c_cl c_mv c_ml c_en c_rt c_fr c_br c_fi c_st c_vz c_lb c_ln c_lt c_hb c_hn c_ht c_ab c_an c_at c_bb c_bn c_bt c_ub c_un c_ut c_gb c_gn c_gt c_cnt c_frees c_cur c_thr c_fst c_snd c_let c_many c_val c_ord c_free c_code c_next c_com c_met c_out x4 = some (x9, d9)) (hc : ∀ v', x9 = .inl v' → ∃ e', e9 = d9 + e' ∧ lwPP xp l xe xs xm xb xme xc Q A G b rc a_s a_t a_ao a_bo a_uo a_go a_fr a_br a_e0 a_e1 a_e2 a_e3 a_lo a_ho a_lq a_hq a_aq a_bq a_uq a_gq a_m a_mfst a_msnd a_mlet a_mmany a_mval a_mord a_mfree a_mcode a_mnext a_mcom a_mmet a_out c_sort c_msort v' e') (he : ∀ t, x9 = .inr t → t = 1 ∧ e9 = d9) (hde : d9 ≤ e9) (k0 : Nat) (hk9 : rc = k0 + e9) (q1 q2 : Nat) (H : Heap) (locs : List Loc) (ls : Array Slot) (hP : va_P G.1 classes (wB G a_s a_t a_ao a_bo a_uo a_go c_sort c_set ++ wT G a_t q1 q2 a_fr a_br a_e0 a_e1 a_e2 a_e3 a_lo a_ho c_c c_cl c_mv c_ml c_en c_rt c_fr c_br c_fi c_st c_vz ++ wK G a_lo a_lq c_lb c_ln c_lt ++ wK G a_ho a_hq c_hb c_hn c_ht ++ wK G a_ao a_aq c_ab c_an c_at ++ wK G a_bo a_bq c_bb c_bn c_bt ++ wK G a_uo a_uq c_ub c_un c_ut ++ wK G a_go a_gq c_gb c_gn c_gt ++ wM G a_m a_mfst a_msnd a_mlet a_mmany a_mval a_mord a_mfree a_mcode a_mnext a_mcom a_mmet c_msort c_cnt c_frees c_cur c_thr c_fst c_snd c_let c_many c_val c_ord c_free c_code c_next c_com c_met ++ wO G a_out c_out) H) (hD : va_D A (wB G a_s a_t a_ao a_bo a_uo a_go c_sort c_set ++ wT G a_t q1 q2 a_fr a_br a_e0 a_e1 a_e2 a_e3 a_lo a_ho c_c c_cl c_mv c_ml c_en c_rt c_fr c_br c_fi c_st c_vz ++ wK G a_lo a_lq c_lb c_ln c_lt ++ wK G a_ho a_hq c_hb c_hn c_ht ++ wK G a_ao a_aq c_ab c_an c_at ++ wK G a_bo a_bq c_bb c_bn c_bt ++ wK G a_uo a_uq c_ub c_un c_ut ++ wK G a_go a_gq c_gb c_gn c_gt ++ wM G a_m a_mfst a_msnd a_mlet a_mmany a_mval a_mord a_mfree a_mcode a_mnext a_mcom a_mmet c_msort c_cnt c_frees c_cur c_thr c_fst c_snd c_let c_many c_val c_ord c_free c_code c_next c_com c_met ++ wO G a_out c_out)) (hS : va_S A xs.heap H locs) (hl : lv_has ls 8 [(0, .ref b), (1, .ref a_s), (2, .ref a_m), (3, .ref a_out), (4, .int x4)]) :
    W xp l xe room_1 xs xm #[Value.ref b] xb xme xc H locs k0 (1024 * k0) Q (F0 xm 580 ls []) := by
  obtain ⟨hx, hb, hts, hown, hml, hN, hTs, hK, hX, hbl, hA, hA2⟩ := C0
  have hbA : ¬ A b := fun h => absurd (hA2 b h) (Nat.not_le.mpr hbl)
  have hnA : ∀ (a : Nat) (cell : Cell), xs.heap[a]? = some cell → cell.vm.isStatics = true → ¬ A a := fun a cell hc _ h => absurd (hA2 a h) (Nat.not_le.mpr (Array.getElem?_eq_some_iff.mp hc).1)
  unfold k_Law_580 at h
  have hRa : x9 = (x9, d9).1 := rfl
  have hRc : k0 + d9 = k0 + (x9, d9).2 := rfl
  refine lv_aload_n hx hb d_law_580 rfl (lv_at hl 1 rfl) ?_
  refine lv_aload_n hx hb d_law_581 rfl (lv_at hl 3 rfl) ?_
  obtain ⟨r1, dr1, y2, hr1, h, hRa, hRc⟩ := bd_k h hRa hRc
  refine zcalli (wr := [(a_lo, .inr (0, [.ref a_lq, .int c_ln, .int c_lt])), (a_lq, .inl (G.2.2.1, 50, .inl c_lb)), (a_ho, .inr (0, [.ref a_hq, .int c_hn, .int c_ht])), (a_hq, .inl (G.2.2.1, 50, .inl c_hb)), (a_bo, .inr (0, [.ref a_bq, .int c_bn, .int c_bt])), (a_bq, .inl (G.2.2.1, 50, .inl c_bb)), (a_uo, .inr (0, [.ref a_uq, .int c_un, .int c_ut])), (a_uq, .inl (G.2.2.1, 50, .inl c_ub)), (a_go, .inr (0, [.ref a_gq, .int c_gn, .int c_gt])), (a_gq, .inl (G.2.2.1, 50, .inl c_gb)), (a_m, .inr (6, [.int c_msort, .ref a_mfst, .ref a_msnd, .ref a_mlet, .ref a_mmany, .ref a_mval, .ref a_mord, .int c_cnt, .ref a_mfree, .int c_frees, .int c_cur, .int c_thr, .ref a_mcode, .ref a_mnext, .ref a_mcom, .ref a_mmet])), (a_mfst, .inl (G.2.2.2, 1503, .inr (.inl c_fst))), (a_msnd, .inl (G.2.2.2, 1503, .inr (.inl c_snd))), (a_mlet, .inl (G.2.1, 36072, .inl c_let)), (a_mmany, .inl (G.2.1, 1503, .inl c_many)), (a_mval, .inl (G.2.2.2, 1500, .inr (.inl c_val))), (a_mord, .inl (G.2.1, 1500, .inl c_ord)), (a_mfree, .inl (G.2.1, 1500, .inl c_free)), (a_mcode, .inl (G.2.1, 50, .inl c_code)), (a_mnext, .inl (G.2.1, 50, .inl c_next)), (a_mcom, .inl (G.2.1, 1500, .inl c_com)), (a_mmet, .inl (G.2.1, 50, .inl c_met))]) (w2 := fun (u3 : Nat × Nat) => (wB G a_s a_t a_ao a_bo a_uo a_go c_sort c_set ++ wT G a_t u3.1 u3.2 a_fr a_br a_e0 a_e1 a_e2 a_e3 a_lo a_ho r1.2.1 r1.2.2.1 c_mv c_ml r1.2.2.2.1 r1.2.2.2.2.1 r1.2.2.2.2.2.1 r1.2.2.2.2.2.2.1 c_fi c_st c_vz ++ wK G a_lo a_lq c_lb c_ln c_lt ++ wK G a_ho a_hq c_hb c_hn c_ht ++ wK G a_ao a_aq c_ab c_an c_at ++ wK G a_bo a_bq c_bb c_bn c_bt ++ wK G a_uo a_uq c_ub c_un c_ut ++ wK G a_go a_gq c_gb c_gn c_gt ++ wM G a_m a_mfst a_msnd a_mlet a_mmany a_mval a_mord a_mfree a_mcode a_mnext a_mcom a_mmet c_msort c_cnt c_frees c_cur c_thr c_fst c_snd c_let c_many c_val c_ord c_free c_code c_next c_com c_met ++ wO G a_out r1.2.2.2.2.2.2.2)) (fun hPc hDc => zrunSW (As := [.ref a_s, .ref a_out]) (rest := []) ⟨hx, hb, hml, hown, hts⟩ hN hTs hnA hS hK (c_Law_remove l G hfl H.size a_s a_t a_ao a_bo a_uo a_go q1 q2 a_fr a_br a_e0 a_e1 a_e2 a_e3 a_lo a_ho a_aq a_out c_sort c_set c_c c_cl c_mv c_ml c_en c_rt c_fr c_br c_fi c_st c_vz c_ab c_an c_at c_out r1 dr1 hr1) ⟨rfl, rfl⟩ kw_126 ⟨Nat.le_of_ble_eq_true rfl, Nat.le_of_ble_eq_true rfl⟩ rfl hl.1 (Nat.le_of_ble_eq_true rfl) d_law_582 ⟨by show _ ≤ 600128; omega, by show _ ≤ 7301064; omega⟩ hPc hDc) hP hD hS hA [0, 1, 2, 3, 4, 5, 6, 7, 8, 9, 14, 15, 34] [10, 11, 12, 13, 16, 17, 18, 19, 20, 21, 22, 23, 24, 25, 26, 27, 28, 29, 30, 31, 32, 33] [22, 23, 24, 25, 26, 27, 28, 29, 30, 31, 0, 1, 2, 3, 32, 33, 4, 5, 6, 7, 8, 9, 10, 11, 12, 13, 14, 15, 16, 17, 18, 19, 20, 21, 34] rfl rfl rfl rfl (by decide) rfl (fun _ => rfl) (fun rr u3 H locs hw hP hD hS => ?_)
  refine W.widen (k := k0 + dr1) (n := 1024 * (k0 + dr1)) (by omega) (by omega) ?_
  have hw := hw.symm
  subst hw
  refine lv_istore (lv' := [(5, .int r1.1), (0, .ref b), (1, .ref a_s), (2, .ref a_m), (3, .ref a_out), (4, .int x4)]) hx hb d_law_585 hl (by decide) rfl (fun ls hl => ?_)
  refine lv_aload_n hx hb d_law_587 rfl (lv_at hl 3 rfl) ?_
  obtain ⟨r4, hr4, h⟩ := ob h
  refine zcalll (wr := [(a_s, .inr (5, [.int c_sort, .ref a_t, .ref a_ao, .ref a_bo, .ref a_uo, .int c_set, .ref a_go])), (a_t, .inr (4, [.ref u3.1, .ref u3.2, .int r1.2.2.2.1, .int r1.2.2.2.2.1, .ref a_fr, .ref a_e0, .ref a_e1, .ref a_e2, .ref a_e3, .ref a_br, .ref a_lo, .ref a_ho, .long c_fi, .long c_st, .long c_vz])), (u3.1, .inl (G.2.1, r1.2.2.1, .inl r1.2.1)), (u3.2, .inl (G.2.1, c_ml, .inl c_mv)), (a_fr, .inl (G.2.1, 261, .inl r1.2.2.2.2.2.1)), (a_br, .inl (G.2.1, 4, .inl r1.2.2.2.2.2.2.1)), (a_e0, .inr (1, [.int 0, .int 9, .int 4, .int 5])), (a_e1, .inr (1, [.int 1, .int 24, .int 16, .int 8])), (a_e2, .inr (2, [.int 2, .int 116, .int 48])), (a_e3, .inr (3, [.int 3, .int 260, .int 256])), (a_lo, .inr (0, [.ref a_lq, .int c_ln, .int c_lt])), (a_lq, .inl (G.2.2.1, 50, .inl c_lb)), (a_ho, .inr (0, [.ref a_hq, .int c_hn, .int c_ht])), (a_hq, .inl (G.2.2.1, 50, .inl c_hb)), (a_ao, .inr (0, [.ref a_aq, .int c_an, .int c_at])), (a_aq, .inl (G.2.2.1, 50, .inl c_ab)), (a_bo, .inr (0, [.ref a_bq, .int c_bn, .int c_bt])), (a_bq, .inl (G.2.2.1, 50, .inl c_bb)), (a_uo, .inr (0, [.ref a_uq, .int c_un, .int c_ut])), (a_uq, .inl (G.2.2.1, 50, .inl c_ub)), (a_go, .inr (0, [.ref a_gq, .int c_gn, .int c_gt])), (a_gq, .inl (G.2.2.1, 50, .inl c_gb)), (a_out, .inl (G.2.2.2, 1, .inr (.inl r1.2.2.2.2.2.2.2)))]) (w2 := fun _ => (wB G a_s a_t a_ao a_bo a_uo a_go c_sort c_set ++ wT G a_t u3.1 u3.2 a_fr a_br a_e0 a_e1 a_e2 a_e3 a_lo a_ho r1.2.1 r1.2.2.1 c_mv c_ml r1.2.2.2.1 r1.2.2.2.2.1 r1.2.2.2.2.2.1 r1.2.2.2.2.2.2.1 c_fi c_st c_vz ++ wK G a_lo a_lq c_lb c_ln c_lt ++ wK G a_ho a_hq c_hb c_hn c_ht ++ wK G a_ao a_aq c_ab c_an c_at ++ wK G a_bo a_bq c_bb c_bn c_bt ++ wK G a_uo a_uq c_ub c_un c_ut ++ wK G a_go a_gq c_gb c_gn c_gt ++ wM G a_m a_mfst a_msnd a_mlet a_mmany a_mval a_mord a_mfree a_mcode a_mnext a_mcom a_mmet c_msort r4.2.1 r4.2.2.1 c_cur r4.2.2.2.1 c_fst c_snd c_let c_many c_val r4.2.2.2.2.1 r4.2.2.2.2.2 c_code c_next c_com c_met ++ wO G a_out r1.2.2.2.2.2.2.2)) (zrunV (As := []) (rest := []) ⟨hx, hb, hml, hown, hts⟩ hN hK (c_Model_remove l G H.size a_m a_mfst a_msnd a_mlet a_mmany a_mval a_mord a_mfree a_mcode a_mnext a_mcom a_mmet c_msort c_cnt c_frees c_cur c_thr c_fst c_snd c_let c_many c_val c_ord c_free c_code c_next c_com c_met r4 hr4) ⟨rfl, rfl⟩ kv_Law_128 ⟨Nat.le_of_ble_eq_true rfl, Nat.le_of_ble_eq_true rfl⟩ 0 rfl rfl rfl hl.1 (Nat.le_of_ble_eq_true rfl) d_law_588 ⟨by show _ ≤ 600128; omega, by show _ ≤ 7301064; omega⟩) hP hD hS hA [22, 23, 24, 25, 26, 27, 28, 29, 30, 31, 32, 33] [0, 1, 2, 3, 4, 5, 6, 7, 8, 9, 10, 11, 12, 13, 14, 15, 16, 17, 18, 19, 20, 21, 34] [0, 1, 2, 3, 4, 5, 6, 7, 8, 9, 10, 11, 12, 13, 14, 15, 16, 17, 18, 19, 20, 21, 23, 24, 25, 26, 27, 28, 29, 30, 31, 32, 33, 34, 22] rfl rfl rfl rfl (by decide) rfl (fun _ => rfl) (fun rr _ H locs hw hP hD hS => ?_)
  have hw := hw.symm
  subst hw
  refine lv_lstore (lv' := [(6, .long r4.1), (5, .int r1.1), (0, .ref b), (1, .ref a_s), (2, .ref a_m), (3, .ref a_out), (4, .int x4)]) hx hb d_law_591 hl (by decide) rfl (fun ls hl => ?_)
  refine lv_aload_n hx hb d_law_593 rfl (lv_at hl 4 rfl) ?_
  obtain ⟨r5, hr5, h⟩ := ob h
  refine zpcalli (wr := [(a_s, .inr (5, [.int c_sort, .ref a_t, .ref a_ao, .ref a_bo, .ref a_uo, .int c_set, .ref a_go])), (a_t, .inr (4, [.ref u3.1, .ref u3.2, .int r1.2.2.2.1, .int r1.2.2.2.2.1, .ref a_fr, .ref a_e0, .ref a_e1, .ref a_e2, .ref a_e3, .ref a_br, .ref a_lo, .ref a_ho, .long c_fi, .long c_st, .long c_vz])), (u3.1, .inl (G.2.1, r1.2.2.1, .inl r1.2.1)), (u3.2, .inl (G.2.1, c_ml, .inl c_mv)), (a_fr, .inl (G.2.1, 261, .inl r1.2.2.2.2.2.1)), (a_br, .inl (G.2.1, 4, .inl r1.2.2.2.2.2.2.1)), (a_e0, .inr (1, [.int 0, .int 9, .int 4, .int 5])), (a_e1, .inr (1, [.int 1, .int 24, .int 16, .int 8])), (a_e2, .inr (2, [.int 2, .int 116, .int 48])), (a_e3, .inr (3, [.int 3, .int 260, .int 256])), (a_lo, .inr (0, [.ref a_lq, .int c_ln, .int c_lt])), (a_lq, .inl (G.2.2.1, 50, .inl c_lb)), (a_ho, .inr (0, [.ref a_hq, .int c_hn, .int c_ht])), (a_hq, .inl (G.2.2.1, 50, .inl c_hb)), (a_ao, .inr (0, [.ref a_aq, .int c_an, .int c_at])), (a_aq, .inl (G.2.2.1, 50, .inl c_ab)), (a_bo, .inr (0, [.ref a_bq, .int c_bn, .int c_bt])), (a_bq, .inl (G.2.2.1, 50, .inl c_bb)), (a_uo, .inr (0, [.ref a_uq, .int c_un, .int c_ut])), (a_uq, .inl (G.2.2.1, 50, .inl c_ub)), (a_go, .inr (0, [.ref a_gq, .int c_gn, .int c_gt])), (a_gq, .inl (G.2.2.1, 50, .inl c_gb)), (a_out, .inl (G.2.2.2, 1, .inr (.inl r1.2.2.2.2.2.2.2)))]) (w2 := fun _ => (wB G a_s a_t a_ao a_bo a_uo a_go c_sort c_set ++ wT G a_t u3.1 u3.2 a_fr a_br a_e0 a_e1 a_e2 a_e3 a_lo a_ho r1.2.1 r1.2.2.1 c_mv c_ml r1.2.2.2.1 r1.2.2.2.2.1 r1.2.2.2.2.2.1 r1.2.2.2.2.2.2.1 c_fi c_st c_vz ++ wK G a_lo a_lq c_lb c_ln c_lt ++ wK G a_ho a_hq c_hb c_hn c_ht ++ wK G a_ao a_aq c_ab c_an c_at ++ wK G a_bo a_bq c_bb c_bn c_bt ++ wK G a_uo a_uq c_ub c_un c_ut ++ wK G a_go a_gq c_gb c_gn c_gt ++ wM G a_m a_mfst a_msnd a_mlet a_mmany a_mval a_mord a_mfree a_mcode a_mnext a_mcom a_mmet c_msort r4.2.1 r4.2.2.1 c_cur r4.2.2.2.1 c_fst c_snd c_let c_many c_val r4.2.2.2.2.1 r4.2.2.2.2.2 c_code c_next c_com c_met ++ wO G a_out r1.2.2.2.2.2.2.2)) (zrunV (As := []) (rest := []) ⟨hx, hb, hml, hown, hts⟩ hN hK (c_Model_thrown l G H.size a_m a_mfst a_msnd a_mlet a_mmany a_mval a_mord a_mfree a_mcode a_mnext a_mcom a_mmet c_msort r4.2.1 r4.2.2.1 c_cur r4.2.2.2.1 c_fst c_snd c_let c_many c_val r4.2.2.2.2.1 r4.2.2.2.2.2 c_code c_next c_com c_met r5 hr5) ⟨rfl, rfl⟩ kv_Law_95 ⟨Nat.le_of_ble_eq_true rfl, Nat.le_of_ble_eq_true rfl⟩ 0 rfl rfl rfl hl.1 (Nat.le_of_ble_eq_true rfl) d_law_594 ⟨by show _ ≤ 600128; omega, by show _ ≤ 7301064; omega⟩) hP hD hS hA [22, 23, 24, 25, 26, 27, 28, 29, 30, 31, 32, 33] [0, 1, 2, 3, 4, 5, 6, 7, 8, 9, 10, 11, 12, 13, 14, 15, 16, 17, 18, 19, 20, 21, 34] [0, 1, 2, 3, 4, 5, 6, 7, 8, 9, 10, 11, 12, 13, 14, 15, 16, 17, 18, 19, 20, 21, 23, 24, 25, 26, 27, 28, 29, 30, 31, 32, 33, 34, 22] rfl rfl rfl rfl (by decide) rfl (fun _ => rfl) (fun rr _ H hw hP hD hS => ?_)
  have hw := hw.symm
  subst hw
  refine lv_iload hx hb d_law_597 (lv_at hl 1 rfl) ?_
  refine lv_icmp_eq (tgt := 604) hx hb d_law_599 (by decide) (fun q6 => ?_) (fun q6 => ?_)
  · have h := it h q6
    refine lv_iload hx hb d_law_604 (lv_at hl 1 rfl) ?_
    refine lv_if_ne (tgt := 620) hx hb d_law_606 (by decide) (fun q7 => ?_) (fun q7 => ?_)
    · have h := ie h q7
      refine lv_goto (tgt := 1245) hx hb d_law_620 (by decide) ?_
      obtain ⟨v8, ev8⟩ : ∃ y : Int32, y = x4 + 6 := ⟨_, rfl⟩
      have h := nm_k h v8 ev8
      refine lv_iinc (v := v8) (lv' := [(4, .int v8), (6, .long r4.1), (5, .int r1.1), (0, .ref b), (1, .ref a_s), (2, .ref a_m), (3, .ref a_out)]) hx hb d_law_1245 hl (k := 6) rfl (by rw [ev8]; rfl) (by decide) rfl (fun ls hl => ?_)
      refine lv_goto (tgt := 33) hx hb d_law_1248 (by decide) ?_
      have ey := Option.some.inj h
      rw [← ey] at hRa hRc
      have hRc : k0 + d9 = k0 + dr1 + 0 := hRc
      obtain ⟨e8, he8, hP8⟩ := hc _ hRa
      exact hP8 (k0 + dr1) (by omega) u3.1 u3.2 H locs ls hP hD hS (lv_sub hl [3, 4, 5, 6, 0] rfl)
    · have h := it h q7
      refine lv_aload_n hx hb d_law_609 rfl (lv_at hl 5 rfl) ?_
      refine lv_iconst (v := 0) hx hb d_law_610 (by decide) ?_
      obtain ⟨h9, h⟩ := gi_k h
      refine va_lald hx hb hK hP 34 2 rfl rfl h9 d_law_611 ?_
      refine lv_lload hx hb d_law_612 (lv_at hl 0 rfl) ?_
      refine W.lcmp hx hb d_law_614 ?_
      refine lv_if_eq (tgt := 620) hx hb d_law_615 (by decide) (fun q10 => ?_) (fun q10 => ?_)
      · have h := it h q10
        refine lv_goto (tgt := 1245) hx hb d_law_620 (by decide) ?_
        obtain ⟨v11, ev11⟩ : ∃ y : Int32, y = x4 + 6 := ⟨_, rfl⟩
        have h := nm_k h v11 ev11
        refine lv_iinc (v := v11) (lv' := [(4, .int v11), (6, .long r4.1), (5, .int r1.1), (0, .ref b), (1, .ref a_s), (2, .ref a_m), (3, .ref a_out)]) hx hb d_law_1245 hl (k := 6) rfl (by rw [ev11]; rfl) (by decide) rfl (fun ls hl => ?_)
        refine lv_goto (tgt := 33) hx hb d_law_1248 (by decide) ?_
        have ey := Option.some.inj h
        rw [← ey] at hRa hRc
        have hRc : k0 + d9 = k0 + dr1 + 0 := hRc
        obtain ⟨e8, he8, hP8⟩ := hc _ hRa
        exact hP8 (k0 + dr1) (by omega) u3.1 u3.2 H locs ls hP hD hS (lv_sub hl [3, 4, 5, 6, 0] rfl)
      · have h := ie h q10
        refine lv_iconst (v := 0) hx hb d_law_618 (by decide) ?_
        have ey := Option.some.inj h
        rw [← ey] at hRa
        obtain ⟨ey2, ed9⟩ := he _ hRa
        exact absurd ey2 (by decide)
  · have h := ie h q6
    refine lv_iconst (v := 0) hx hb d_law_602 (by decide) ?_
    have ey := Option.some.inj h
    rw [← ey] at hRa
    obtain ⟨ey2, ed9⟩ := he _ hRa
    exact absurd ey2 (by decide)

noncomputable def k_Law_623 (sl : Nat) (sx : Nat → Int32) (c_sort c_msort : Int32) (c_set : Int32) (c_c : (Nat → Int32)) (c_cl : Nat) (c_mv : (Nat → Int32)) (c_ml : Nat) (c_en : Int32) (c_rt : Int32) (c_fr : (Nat → Int32)) (c_br : (Nat → Int32)) (c_fi : Int64) (c_st : Int64) (c_vz : Int64) (c_lb : (Nat → Int32)) (c_ln : Int32) (c_lt : Int32) (c_hb : (Nat → Int32)) (c_hn : Int32) (c_ht : Int32) (c_ab : (Nat → Int32)) (c_an : Int32) (c_at : Int32) (c_bb : (Nat → Int32)) (c_bn : Int32) (c_bt : Int32) (c_ub : (Nat → Int32)) (c_un : Int32) (c_ut : Int32) (c_gb : (Nat → Int32)) (c_gn : Int32) (c_gt : Int32) (c_cnt : Int32) (c_frees : Int32) (c_cur : Int32) (c_thr : Int32) (c_fst : (Nat → Int64)) (c_snd : (Nat → Int64)) (c_let : (Nat → Int32)) (c_many : (Nat → Int32)) (c_val : (Nat → Int64)) (c_ord : (Nat → Int32)) (c_free : (Nat → Int32)) (c_code : (Nat → Int32)) (c_next : (Nat → Int32)) (c_com : (Nat → Int32)) (c_met : (Nat → Int32)) (c_out : (Nat → Int64)) (x4 : Int32) : Option (((Int32 × Int32 × (Nat → Int32) × Nat × (Nat → Int32) × Nat × Int32 × Int32 × (Nat → Int32) × (Nat → Int32) × Int64 × Int64 × Int64 × (Nat → Int32) × Int32 × Int32 × (Nat → Int32) × Int32 × Int32 × (Nat → Int32) × Int32 × Int32 × (Nat → Int32) × Int32 × Int32 × (Nat → Int32) × Int32 × Int32 × (Nat → Int32) × Int32 × Int32 × Int32 × Int32 × Int32 × Int32 × (Nat → Int64) × (Nat → Int64) × (Nat → Int32) × (Nat → Int32) × (Nat → Int64) × (Nat → Int32) × (Nat → Int32) × (Nat → Int32) × (Nat → Int32) × (Nat → Int32) × (Nat → Int32) × (Nat → Int64)) ⊕ Int32) × Nat) :=
gi (x4 + 1) sl <|
bd (f_Law_seek c_set c_c c_cl c_rt c_ab c_an c_ub c_un c_ut c_out (sx (x4 + 1).toNatClampNeg)) fun r2 =>
gi (x4 + 1) sl <|
(f_Model_seek c_msort c_cnt c_cur c_thr c_fst c_snd c_let c_many c_ord (sx (x4 + 1).toNatClampNeg)).bind fun r6 =>
(f_Model_thrown r6.2.2.1).bind fun r8 =>
if r8 = r2.1 then
(if r2.1 = 0 then
(gi 0 1 <|
(if r6.1 = 0 then
(some 0)
else
(some 1)).bind fun y16 =>
if (lg_cmp (r2.2.2.2.2.2 (0 : Int32).toNatClampNeg) y16) = 0 then
(nm (x4 + 6) fun v19 =>
some (.inl (v19, r2.2.1, c_c, c_cl, c_mv, c_ml, c_en, c_rt, c_fr, c_br, c_fi, c_st, c_vz, c_lb, c_ln, c_lt, c_hb, c_hn, c_ht, c_ab, c_an, c_at, c_bb, c_bn, c_bt, r2.2.2.1, r2.2.2.2.1, r2.2.2.2.2.1, c_gb, c_gn, c_gt, c_cnt, c_frees, r6.2.1, r6.2.2.1, r6.2.2.2.1, r6.2.2.2.2.1, r6.2.2.2.2.2.1, r6.2.2.2.2.2.2, c_val, c_ord, c_free, c_code, c_next, c_com, c_met, r2.2.2.2.2.2), 0))
else
(some (.inr 0, 0)))
else
(nm (x4 + 6) fun v11 =>
some (.inl (v11, r2.2.1, c_c, c_cl, c_mv, c_ml, c_en, c_rt, c_fr, c_br, c_fi, c_st, c_vz, c_lb, c_ln, c_lt, c_hb, c_hn, c_ht, c_ab, c_an, c_at, c_bb, c_bn, c_bt, r2.2.2.1, r2.2.2.2.1, r2.2.2.2.2.1, c_gb, c_gn, c_gt, c_cnt, c_frees, r6.2.1, r6.2.2.1, r6.2.2.2.1, r6.2.2.2.2.1, r6.2.2.2.2.2.1, r6.2.2.2.2.2.2, c_val, c_ord, c_free, c_code, c_next, c_com, c_met, r2.2.2.2.2.2), 0)))
else
(some (.inr 0, 0))
set_option maxHeartbeats 8000000 in
set_option maxRecDepth 100000 in
theorem w_Law_623 (xp : Program) (l : Launch) (xe : Env) (xs : State) (xm : MethodId) (xb : List Frame) (xme : Method) (xc : Code) (Q : State → Prop) (A : Nat → Prop) (G : zG) (b rc : Nat) (a_s a_t a_ao a_bo a_uo a_go a_fr a_br a_e0 a_e1 a_e2 a_e3 a_lo a_ho a_lq a_hq a_aq a_bq a_uq a_gq a_m a_mfst a_msnd a_mlet a_mmany a_mval a_mord a_mfree a_mcode a_mnext a_mcom a_mmet a_out : Nat) (c_sort : Int32) (c_msort : Int32) (sl : Nat) (sx : Nat → Int32) (hfl : l.flags = flags0) (hB : rc ≤ 7129) (C0 : lwC xp xs xm xc A G b sl sx) (c_set : Int32) (c_c : (Nat → Int32)) (c_cl : Nat) (c_mv : (Nat → Int32)) (c_ml : Nat) (c_en : Int32) (c_rt : Int32) (c_fr : (Nat → Int32)) (c_br : (Nat → Int32)) (c_fi : Int64) (c_st : Int64) (c_vz : Int64) (c_lb : (Nat → Int32)) (c_ln : Int32) (c_lt : Int32) (c_hb : (Nat → Int32)) (c_hn : Int32) (c_ht : Int32) (c_ab : (Nat → Int32)) (c_an : Int32) (c_at : Int32) (c_bb : (Nat → Int32)) (c_bn : Int32) (c_bt : Int32) (c_ub : (Nat → Int32)) (c_un : Int32) (c_ut : Int32) (c_gb : (Nat → Int32)) (c_gn : Int32) (c_gt : Int32) (c_cnt : Int32) (c_frees : Int32) (c_cur : Int32) (c_thr : Int32) (c_fst : (Nat → Int64)) (c_snd : (Nat → Int64)) (c_let : (Nat → Int32)) (c_many : (Nat → Int32)) (c_val : (Nat → Int64)) (c_ord : (Nat → Int32)) (c_free : (Nat → Int32)) (c_code : (Nat → Int32)) (c_next : (Nat → Int32)) (c_com : (Nat → Int32)) (c_met : (Nat → Int32)) (c_out : (Nat → Int64)) (x4 : Int32) (x9 : (Int32 × Int32 × (Nat → Int32) × Nat × (Nat → Int32) × Nat × Int32 × Int32 × (Nat → Int32) × (Nat → Int32) × Int64 × Int64 × Int64 × (Nat → Int32) × Int32 × Int32 × (Nat → Int32) × Int32 × Int32 × (Nat → Int32) × Int32 × Int32 × (Nat → Int32) × Int32 × Int32 × (Nat → Int32) × Int32 × Int32 × (Nat → Int32) × Int32 × Int32 × Int32 × Int32 × Int32 × Int32 × (Nat → Int64) × (Nat → Int64) × (Nat → Int32) × (Nat → Int32) × (Nat → Int64) × (Nat → Int32) × (Nat → Int32) × (Nat → Int32) × (Nat → Int32) × (Nat → Int32) × (Nat → Int32) × (Nat → Int64)) ⊕ Int32) (d9 e9 : Nat) (h : k_Law_623 sl sx c_sort c_msort c_set c_c c_cl c_mv c_ml c_en c_rt c_fr c_br c_fi c_st c_vz c_lb c_ln c_lt c_hb c_hn c_ht c_ab c_an c_at c_bb c_bn c_bt c_ub c_un c_ut c_gb c_gn c_gt c_cnt c_frees c_cur c_thr c_fst c_snd c_let c_many c_val c_ord c_free c_code c_next c_com c_met c_out x4 = some (x9, d9)) (hc : ∀ v', x9 = .inl v' → ∃ e', e9 = d9 + e' ∧ lwPP xp l xe xs xm xb xme xc Q A G b rc a_s a_t a_ao a_bo a_uo a_go a_fr a_br a_e0 a_e1 a_e2 a_e3 a_lo a_ho a_lq a_hq a_aq a_bq a_uq a_gq a_m a_mfst a_msnd a_mlet a_mmany a_mval a_mord a_mfree a_mcode a_mnext a_mcom a_mmet a_out c_sort c_msort v' e') (he : ∀ t, x9 = .inr t → t = 1 ∧ e9 = d9) (hde : d9 ≤ e9) (k0 : Nat) (hk9 : rc = k0 + e9) (q1 q2 : Nat) (H : Heap) (locs : List Loc) (ls : Array Slot) (hP : va_P G.1 classes (wB G a_s a_t a_ao a_bo a_uo a_go c_sort c_set ++ wT G a_t q1 q2 a_fr a_br a_e0 a_e1 a_e2 a_e3 a_lo a_ho c_c c_cl c_mv c_ml c_en c_rt c_fr c_br c_fi c_st c_vz ++ wK G a_lo a_lq c_lb c_ln c_lt ++ wK G a_ho a_hq c_hb c_hn c_ht ++ wK G a_ao a_aq c_ab c_an c_at ++ wK G a_bo a_bq c_bb c_bn c_bt ++ wK G a_uo a_uq c_ub c_un c_ut ++ wK G a_go a_gq c_gb c_gn c_gt ++ wM G a_m a_mfst a_msnd a_mlet a_mmany a_mval a_mord a_mfree a_mcode a_mnext a_mcom a_mmet c_msort c_cnt c_frees c_cur c_thr c_fst c_snd c_let c_many c_val c_ord c_free c_code c_next c_com c_met ++ wO G a_out c_out) H) (hD : va_D A (wB G a_s a_t a_ao a_bo a_uo a_go c_sort c_set ++ wT G a_t q1 q2 a_fr a_br a_e0 a_e1 a_e2 a_e3 a_lo a_ho c_c c_cl c_mv c_ml c_en c_rt c_fr c_br c_fi c_st c_vz ++ wK G a_lo a_lq c_lb c_ln c_lt ++ wK G a_ho a_hq c_hb c_hn c_ht ++ wK G a_ao a_aq c_ab c_an c_at ++ wK G a_bo a_bq c_bb c_bn c_bt ++ wK G a_uo a_uq c_ub c_un c_ut ++ wK G a_go a_gq c_gb c_gn c_gt ++ wM G a_m a_mfst a_msnd a_mlet a_mmany a_mval a_mord a_mfree a_mcode a_mnext a_mcom a_mmet c_msort c_cnt c_frees c_cur c_thr c_fst c_snd c_let c_many c_val c_ord c_free c_code c_next c_com c_met ++ wO G a_out c_out)) (hS : va_S A xs.heap H locs) (hl : lv_has ls 8 [(0, .ref b), (1, .ref a_s), (2, .ref a_m), (3, .ref a_out), (4, .int x4)]) :
    W xp l xe room_1 xs xm #[Value.ref b] xb xme xc H locs k0 (1024 * k0) Q (F0 xm 623 ls []) := by
  obtain ⟨hx, hb, hts, hown, hml, hN, hTs, hK, hX, hbl, hA, hA2⟩ := C0
  have hbA : ¬ A b := fun h => absurd (hA2 b h) (Nat.not_le.mpr hbl)
  have hnA : ∀ (a : Nat) (cell : Cell), xs.heap[a]? = some cell → cell.vm.isStatics = true → ¬ A a := fun a cell hc _ h => absurd (hA2 a h) (Nat.not_le.mpr (Array.getElem?_eq_some_iff.mp hc).1)
  unfold k_Law_623 at h
  have hRa : x9 = (x9, d9).1 := rfl
  have hRc : k0 + d9 = k0 + (x9, d9).2 := rfl
  refine lv_aload_n hx hb d_law_623 rfl (lv_at hl 1 rfl) ?_
  refine lv_aload_n hx hb d_law_624 rfl (lv_at hl 0 rfl) ?_
  refine lv_iload hx hb d_law_625 (lv_at hl 4 rfl) ?_
  refine lv_iconst (v := 1) hx hb d_law_627 (by decide) ?_
  refine lv_iadd hx hb d_law_628 ?_
  obtain ⟨h1, h⟩ := gi_k h
  refine va_sld hx hb hX hbl hbA hS h1 d_law_629 ?_
  refine lv_aload_n hx hb d_law_630 rfl (lv_at hl 3 rfl) ?_
  obtain ⟨r2, dr2, y3, hr2, h, hRa, hRc⟩ := bd_k h hRa hRc
  refine zcalli (wr := [(a_lo, .inr (0, [.ref a_lq, .int c_ln, .int c_lt])), (a_lq, .inl (G.2.2.1, 50, .inl c_lb)), (a_ho, .inr (0, [.ref a_hq, .int c_hn, .int c_ht])), (a_hq, .inl (G.2.2.1, 50, .inl c_hb)), (a_bo, .inr (0, [.ref a_bq, .int c_bn, .int c_bt])), (a_bq, .inl (G.2.2.1, 50, .inl c_bb)), (a_go, .inr (0, [.ref a_gq, .int c_gn, .int c_gt])), (a_gq, .inl (G.2.2.1, 50, .inl c_gb)), (a_m, .inr (6, [.int c_msort, .ref a_mfst, .ref a_msnd, .ref a_mlet, .ref a_mmany, .ref a_mval, .ref a_mord, .int c_cnt, .ref a_mfree, .int c_frees, .int c_cur, .int c_thr, .ref a_mcode, .ref a_mnext, .ref a_mcom, .ref a_mmet])), (a_mfst, .inl (G.2.2.2, 1503, .inr (.inl c_fst))), (a_msnd, .inl (G.2.2.2, 1503, .inr (.inl c_snd))), (a_mlet, .inl (G.2.1, 36072, .inl c_let)), (a_mmany, .inl (G.2.1, 1503, .inl c_many)), (a_mval, .inl (G.2.2.2, 1500, .inr (.inl c_val))), (a_mord, .inl (G.2.1, 1500, .inl c_ord)), (a_mfree, .inl (G.2.1, 1500, .inl c_free)), (a_mcode, .inl (G.2.1, 50, .inl c_code)), (a_mnext, .inl (G.2.1, 50, .inl c_next)), (a_mcom, .inl (G.2.1, 1500, .inl c_com)), (a_mmet, .inl (G.2.1, 50, .inl c_met))]) (w2 := fun (u4 : Nat × Nat) => (wB G a_s a_t a_ao a_bo a_uo a_go c_sort r2.2.1 ++ wT G a_t u4.1 u4.2 a_fr a_br a_e0 a_e1 a_e2 a_e3 a_lo a_ho c_c c_cl c_mv c_ml c_en c_rt c_fr c_br c_fi c_st c_vz ++ wK G a_lo a_lq c_lb c_ln c_lt ++ wK G a_ho a_hq c_hb c_hn c_ht ++ wK G a_ao a_aq c_ab c_an c_at ++ wK G a_bo a_bq c_bb c_bn c_bt ++ wK G a_uo a_uq r2.2.2.1 r2.2.2.2.1 r2.2.2.2.2.1 ++ wK G a_go a_gq c_gb c_gn c_gt ++ wM G a_m a_mfst a_msnd a_mlet a_mmany a_mval a_mord a_mfree a_mcode a_mnext a_mcom a_mmet c_msort c_cnt c_frees c_cur c_thr c_fst c_snd c_let c_many c_val c_ord c_free c_code c_next c_com c_met ++ wO G a_out r2.2.2.2.2.2)) (fun hPc hDc => zrunSW (As := [.ref a_s, .int (sx (x4 + 1).toNatClampNeg), .ref a_out]) (rest := []) ⟨hx, hb, hml, hown, hts⟩ hN hTs hnA hS hK (c_Law_seek l G hfl H.size a_s a_t a_ao a_bo a_uo a_go q1 q2 a_fr a_br a_e0 a_e1 a_e2 a_e3 a_lo a_ho a_aq a_uq a_out c_sort c_set c_c c_cl c_mv c_ml c_en c_rt c_fr c_br c_fi c_st c_vz c_ab c_an c_at c_ub c_un c_ut c_out (sx (x4 + 1).toNatClampNeg) r2 dr2 hr2) ⟨rfl, rfl⟩ kw_129 ⟨Nat.le_of_ble_eq_true rfl, Nat.le_of_ble_eq_true rfl⟩ rfl hl.1 (Nat.le_of_ble_eq_true rfl) d_law_631 ⟨by show _ ≤ 600128; omega, by show _ ≤ 7301064; omega⟩ hPc hDc) hP hD hS hA [0, 1, 2, 3, 4, 5, 6, 7, 8, 9, 14, 15, 18, 19, 34] [10, 11, 12, 13, 16, 17, 20, 21, 22, 23, 24, 25, 26, 27, 28, 29, 30, 31, 32, 33] [20, 21, 22, 23, 24, 25, 26, 27, 28, 29, 0, 1, 2, 3, 30, 31, 4, 5, 32, 33, 6, 7, 8, 9, 10, 11, 12, 13, 14, 15, 16, 17, 18, 19, 34] rfl rfl rfl rfl (by decide) rfl (fun _ => rfl) (fun rr u4 H locs hw hP hD hS => ?_)
  refine W.widen (k := k0 + dr2) (n := 1024 * (k0 + dr2)) (by omega) (by omega) ?_
  have hw := hw.symm
  subst hw
  refine lv_istore (lv' := [(5, .int r2.1), (0, .ref b), (1, .ref a_s), (2, .ref a_m), (3, .ref a_out), (4, .int x4)]) hx hb d_law_634 hl (by decide) rfl (fun ls hl => ?_)
  refine lv_aload_n hx hb d_law_636 rfl (lv_at hl 3 rfl) ?_
  refine lv_aload_n hx hb d_law_637 rfl (lv_at hl 1 rfl) ?_
  refine lv_iload hx hb d_law_638 (lv_at hl 5 rfl) ?_
  refine lv_iconst (v := 1) hx hb d_law_640 (by decide) ?_
  refine lv_iadd hx hb d_law_641 ?_
  obtain ⟨h5, h⟩ := gi_k h
  refine va_sld hx hb hX hbl hbA hS h5 d_law_642 ?_
  obtain ⟨r6, hr6, h⟩ := ob h
  refine zcalli (wr := [(a_s, .inr (5, [.int c_sort, .ref a_t, .ref a_ao, .ref a_bo, .ref a_uo, .int r2.2.1, .ref a_go])), (a_t, .inr (4, [.ref u4.1, .ref u4.2, .int c_en, .int c_rt, .ref a_fr, .ref a_e0, .ref a_e1, .ref a_e2, .ref a_e3, .ref a_br, .ref a_lo, .ref a_ho, .long c_fi, .long c_st, .long c_vz])), (u4.1, .inl (G.2.1, c_cl, .inl c_c)), (u4.2, .inl (G.2.1, c_ml, .inl c_mv)), (a_fr, .inl (G.2.1, 261, .inl c_fr)), (a_br, .inl (G.2.1, 4, .inl c_br)), (a_e0, .inr (1, [.int 0, .int 9, .int 4, .int 5])), (a_e1, .inr (1, [.int 1, .int 24, .int 16, .int 8])), (a_e2, .inr (2, [.int 2, .int 116, .int 48])), (a_e3, .inr (3, [.int 3, .int 260, .int 256])), (a_lo, .inr (0, [.ref a_lq, .int c_ln, .int c_lt])), (a_lq, .inl (G.2.2.1, 50, .inl c_lb)), (a_ho, .inr (0, [.ref a_hq, .int c_hn, .int c_ht])), (a_hq, .inl (G.2.2.1, 50, .inl c_hb)), (a_ao, .inr (0, [.ref a_aq, .int c_an, .int c_at])), (a_aq, .inl (G.2.2.1, 50, .inl c_ab)), (a_bo, .inr (0, [.ref a_bq, .int c_bn, .int c_bt])), (a_bq, .inl (G.2.2.1, 50, .inl c_bb)), (a_uo, .inr (0, [.ref a_uq, .int r2.2.2.2.1, .int r2.2.2.2.2.1])), (a_uq, .inl (G.2.2.1, 50, .inl r2.2.2.1)), (a_go, .inr (0, [.ref a_gq, .int c_gn, .int c_gt])), (a_gq, .inl (G.2.2.1, 50, .inl c_gb)), (a_out, .inl (G.2.2.2, 1, .inr (.inl r2.2.2.2.2.2)))]) (w2 := fun _ => (wB G a_s a_t a_ao a_bo a_uo a_go c_sort r2.2.1 ++ wT G a_t u4.1 u4.2 a_fr a_br a_e0 a_e1 a_e2 a_e3 a_lo a_ho c_c c_cl c_mv c_ml c_en c_rt c_fr c_br c_fi c_st c_vz ++ wK G a_lo a_lq c_lb c_ln c_lt ++ wK G a_ho a_hq c_hb c_hn c_ht ++ wK G a_ao a_aq c_ab c_an c_at ++ wK G a_bo a_bq c_bb c_bn c_bt ++ wK G a_uo a_uq r2.2.2.1 r2.2.2.2.1 r2.2.2.2.2.1 ++ wK G a_go a_gq c_gb c_gn c_gt ++ wM G a_m a_mfst a_msnd a_mlet a_mmany a_mval a_mord a_mfree a_mcode a_mnext a_mcom a_mmet c_msort c_cnt c_frees r6.2.1 r6.2.2.1 r6.2.2.2.1 r6.2.2.2.2.1 r6.2.2.2.2.2.1 r6.2.2.2.2.2.2 c_val c_ord c_free c_code c_next c_com c_met ++ wO G a_out r2.2.2.2.2.2)) (zrunV (As := [.int (sx (x4 + 1).toNatClampNeg)]) (rest := []) ⟨hx, hb, hml, hown, hts⟩ hN hK (c_Model_seek l G H.size a_m a_mfst a_msnd a_mlet a_mmany a_mval a_mord a_mfree a_mcode a_mnext a_mcom a_mmet c_msort c_cnt c_frees c_cur c_thr c_fst c_snd c_let c_many c_val c_ord c_free c_code c_next c_com c_met (sx (x4 + 1).toNatClampNeg) r6 hr6) ⟨rfl, rfl⟩ kv_Law_131 ⟨Nat.le_of_ble_eq_true rfl, Nat.le_of_ble_eq_true rfl⟩ 0 rfl rfl rfl hl.1 (Nat.le_of_ble_eq_true rfl) d_law_643 ⟨by show _ ≤ 600128; omega, by show _ ≤ 7301064; omega⟩) hP hD hS hA [22, 23, 24, 25, 26, 27, 28, 29, 30, 31, 32, 33] [0, 1, 2, 3, 4, 5, 6, 7, 8, 9, 10, 11, 12, 13, 14, 15, 16, 17, 18, 19, 20, 21, 34] [0, 1, 2, 3, 4, 5, 6, 7, 8, 9, 10, 11, 12, 13, 14, 15, 16, 17, 18, 19, 20, 21, 23, 24, 25, 26, 27, 28, 29, 30, 31, 32, 33, 34, 22] rfl rfl rfl rfl (by decide) rfl (fun _ => rfl) (fun rr _ H locs hw hP hD hS => ?_)
  obtain ⟨hw, hz7⟩ := hw
  have hw := hw.symm
  subst hw
  refine lv_istore (lv' := [(6, .int r6.1), (5, .int r2.1), (0, .ref b), (1, .ref a_s), (2, .ref a_m), (3, .ref a_out), (4, .int x4)]) hx hb d_law_646 hl (by decide) rfl (fun ls hl => ?_)
  refine lv_aload_n hx hb d_law_648 rfl (lv_at hl 4 rfl) ?_
  obtain ⟨r8, hr8, h⟩ := ob h
  refine zpcalli (wr := [(a_s, .inr (5, [.int c_sort, .ref a_t, .ref a_ao, .ref a_bo, .ref a_uo, .int r2.2.1, .ref a_go])), (a_t, .inr (4, [.ref u4.1, .ref u4.2, .int c_en, .int c_rt, .ref a_fr, .ref a_e0, .ref a_e1, .ref a_e2, .ref a_e3, .ref a_br, .ref a_lo, .ref a_ho, .long c_fi, .long c_st, .long c_vz])), (u4.1, .inl (G.2.1, c_cl, .inl c_c)), (u4.2, .inl (G.2.1, c_ml, .inl c_mv)), (a_fr, .inl (G.2.1, 261, .inl c_fr)), (a_br, .inl (G.2.1, 4, .inl c_br)), (a_e0, .inr (1, [.int 0, .int 9, .int 4, .int 5])), (a_e1, .inr (1, [.int 1, .int 24, .int 16, .int 8])), (a_e2, .inr (2, [.int 2, .int 116, .int 48])), (a_e3, .inr (3, [.int 3, .int 260, .int 256])), (a_lo, .inr (0, [.ref a_lq, .int c_ln, .int c_lt])), (a_lq, .inl (G.2.2.1, 50, .inl c_lb)), (a_ho, .inr (0, [.ref a_hq, .int c_hn, .int c_ht])), (a_hq, .inl (G.2.2.1, 50, .inl c_hb)), (a_ao, .inr (0, [.ref a_aq, .int c_an, .int c_at])), (a_aq, .inl (G.2.2.1, 50, .inl c_ab)), (a_bo, .inr (0, [.ref a_bq, .int c_bn, .int c_bt])), (a_bq, .inl (G.2.2.1, 50, .inl c_bb)), (a_uo, .inr (0, [.ref a_uq, .int r2.2.2.2.1, .int r2.2.2.2.2.1])), (a_uq, .inl (G.2.2.1, 50, .inl r2.2.2.1)), (a_go, .inr (0, [.ref a_gq, .int c_gn, .int c_gt])), (a_gq, .inl (G.2.2.1, 50, .inl c_gb)), (a_out, .inl (G.2.2.2, 1, .inr (.inl r2.2.2.2.2.2)))]) (w2 := fun _ => (wB G a_s a_t a_ao a_bo a_uo a_go c_sort r2.2.1 ++ wT G a_t u4.1 u4.2 a_fr a_br a_e0 a_e1 a_e2 a_e3 a_lo a_ho c_c c_cl c_mv c_ml c_en c_rt c_fr c_br c_fi c_st c_vz ++ wK G a_lo a_lq c_lb c_ln c_lt ++ wK G a_ho a_hq c_hb c_hn c_ht ++ wK G a_ao a_aq c_ab c_an c_at ++ wK G a_bo a_bq c_bb c_bn c_bt ++ wK G a_uo a_uq r2.2.2.1 r2.2.2.2.1 r2.2.2.2.2.1 ++ wK G a_go a_gq c_gb c_gn c_gt ++ wM G a_m a_mfst a_msnd a_mlet a_mmany a_mval a_mord a_mfree a_mcode a_mnext a_mcom a_mmet c_msort c_cnt c_frees r6.2.1 r6.2.2.1 r6.2.2.2.1 r6.2.2.2.2.1 r6.2.2.2.2.2.1 r6.2.2.2.2.2.2 c_val c_ord c_free c_code c_next c_com c_met ++ wO G a_out r2.2.2.2.2.2)) (zrunV (As := []) (rest := []) ⟨hx, hb, hml, hown, hts⟩ hN hK (c_Model_thrown l G H.size a_m a_mfst a_msnd a_mlet a_mmany a_mval a_mord a_mfree a_mcode a_mnext a_mcom a_mmet c_msort c_cnt c_frees r6.2.1 r6.2.2.1 r6.2.2.2.1 r6.2.2.2.2.1 r6.2.2.2.2.2.1 r6.2.2.2.2.2.2 c_val c_ord c_free c_code c_next c_com c_met r8 hr8) ⟨rfl, rfl⟩ kv_Law_95 ⟨Nat.le_of_ble_eq_true rfl, Nat.le_of_ble_eq_true rfl⟩ 0 rfl rfl rfl hl.1 (Nat.le_of_ble_eq_true rfl) d_law_649 ⟨by show _ ≤ 600128; omega, by show _ ≤ 7301064; omega⟩) hP hD hS hA [22, 23, 24, 25, 26, 27, 28, 29, 30, 31, 32, 33] [0, 1, 2, 3, 4, 5, 6, 7, 8, 9, 10, 11, 12, 13, 14, 15, 16, 17, 18, 19, 20, 21, 34] [0, 1, 2, 3, 4, 5, 6, 7, 8, 9, 10, 11, 12, 13, 14, 15, 16, 17, 18, 19, 20, 21, 23, 24, 25, 26, 27, 28, 29, 30, 31, 32, 33, 34, 22] rfl rfl rfl rfl (by decide) rfl (fun _ => rfl) (fun rr _ H hw hP hD hS => ?_)
  have hw := hw.symm
  subst hw
  refine lv_iload hx hb d_law_652 (lv_at hl 1 rfl) ?_
  refine lv_icmp_eq (tgt := 659) hx hb d_law_654 (by decide) (fun q9 => ?_) (fun q9 => ?_)
  · have h := it h q9
    refine lv_iload hx hb d_law_659 (lv_at hl 1 rfl) ?_
    refine lv_if_ne (tgt := 683) hx hb d_law_661 (by decide) (fun q10 => ?_) (fun q10 => ?_)
    · have h := ie h q10
      refine lv_goto (tgt := 1245) hx hb d_law_683 (by decide) ?_
      obtain ⟨v11, ev11⟩ : ∃ y : Int32, y = x4 + 6 := ⟨_, rfl⟩
      have h := nm_k h v11 ev11
      refine lv_iinc (v := v11) (lv' := [(4, .int v11), (6, .int r6.1), (5, .int r2.1), (0, .ref b), (1, .ref a_s), (2, .ref a_m), (3, .ref a_out)]) hx hb d_law_1245 hl (k := 6) rfl (by rw [ev11]; rfl) (by decide) rfl (fun ls hl => ?_)
      refine lv_goto (tgt := 33) hx hb d_law_1248 (by decide) ?_
      have ey := Option.some.inj h
      rw [← ey] at hRa hRc
      have hRc : k0 + d9 = k0 + dr2 + 0 := hRc
      obtain ⟨e8, he8, hP8⟩ := hc _ hRa
      exact hP8 (k0 + dr2) (by omega) u4.1 u4.2 H locs ls hP hD hS (lv_sub hl [3, 4, 5, 6, 0] rfl)
    · have h := it h q10
      refine lv_aload_n hx hb d_law_664 rfl (lv_at hl 5 rfl) ?_
      refine lv_iconst (v := 0) hx hb d_law_665 (by decide) ?_
      obtain ⟨h12, h⟩ := gi_k h
      refine va_lald hx hb hK hP 34 2 rfl rfl h12 d_law_666 ?_
      refine lv_iload hx hb d_law_667 (lv_at hl 0 rfl) ?_
      obtain ⟨y15, hy15, h⟩ := ob h
      have J677 : ∀ (z17 : Int64), z17 = y15 → ∀ (H : Heap) (locs : List Loc) (ls : Array Slot), va_P G.1 classes (wB G a_s a_t a_ao a_bo a_uo a_go c_sort r2.2.1 ++ wT G a_t u4.1 u4.2 a_fr a_br a_e0 a_e1 a_e2 a_e3 a_lo a_ho c_c c_cl c_mv c_ml c_en c_rt c_fr c_br c_fi c_st c_vz ++ wK G a_lo a_lq c_lb c_ln c_lt ++ wK G a_ho a_hq c_hb c_hn c_ht ++ wK G a_ao a_aq c_ab c_an c_at ++ wK G a_bo a_bq c_bb c_bn c_bt ++ wK G a_uo a_uq r2.2.2.1 r2.2.2.2.1 r2.2.2.2.2.1 ++ wK G a_go a_gq c_gb c_gn c_gt ++ wM G a_m a_mfst a_msnd a_mlet a_mmany a_mval a_mord a_mfree a_mcode a_mnext a_mcom a_mmet c_msort c_cnt c_frees r6.2.1 r6.2.2.1 r6.2.2.2.1 r6.2.2.2.2.1 r6.2.2.2.2.2.1 r6.2.2.2.2.2.2 c_val c_ord c_free c_code c_next c_com c_met ++ wO G a_out r2.2.2.2.2.2) H → va_D A (wB G a_s a_t a_ao a_bo a_uo a_go c_sort r2.2.1 ++ wT G a_t u4.1 u4.2 a_fr a_br a_e0 a_e1 a_e2 a_e3 a_lo a_ho c_c c_cl c_mv c_ml c_en c_rt c_fr c_br c_fi c_st c_vz ++ wK G a_lo a_lq c_lb c_ln c_lt ++ wK G a_ho a_hq c_hb c_hn c_ht ++ wK G a_ao a_aq c_ab c_an c_at ++ wK G a_bo a_bq c_bb c_bn c_bt ++ wK G a_uo a_uq r2.2.2.1 r2.2.2.2.1 r2.2.2.2.2.1 ++ wK G a_go a_gq c_gb c_gn c_gt ++ wM G a_m a_mfst a_msnd a_mlet a_mmany a_mval a_mord a_mfree a_mcode a_mnext a_mcom a_mmet c_msort c_cnt c_frees r6.2.1 r6.2.2.1 r6.2.2.2.1 r6.2.2.2.2.1 r6.2.2.2.2.2.1 r6.2.2.2.2.2.2 c_val c_ord c_free c_code c_next c_com c_met ++ wO G a_out r2.2.2.2.2.2) → va_S A xs.heap H locs → lv_has ls 8 [(0, .ref b), (1, .ref a_s), (2, .ref a_m), (3, .ref a_out), (4, .int x4)] → W xp l xe room_1 xs xm #[Value.ref b] xb xme xc H locs (k0 + dr2) (1024 * (k0 + dr2)) Q (F0 xm 677 ls [.long z17, .long (r2.2.2.2.2.2 (0 : Int32).toNatClampNeg)]) := by
        intro z17 ey H locs ls hP hD hS hl
        subst ey
        try dsimp only at h
        refine W.lcmp hx hb d_law_677 ?_
        refine lv_if_eq (tgt := 683) hx hb d_law_678 (by decide) (fun q18 => ?_) (fun q18 => ?_)
        · have h := it h q18
          refine lv_goto (tgt := 1245) hx hb d_law_683 (by decide) ?_
          obtain ⟨v19, ev19⟩ : ∃ y : Int32, y = x4 + 6 := ⟨_, rfl⟩
          have h := nm_k h v19 ev19
          refine lv_iinc (v := v19) (lv' := [(4, .int v19), (0, .ref b), (1, .ref a_s), (2, .ref a_m), (3, .ref a_out)]) hx hb d_law_1245 hl (k := 4) rfl (by rw [ev19]; rfl) (by decide) rfl (fun ls hl => ?_)
          refine lv_goto (tgt := 33) hx hb d_law_1248 (by decide) ?_
          have ey := Option.some.inj h
          rw [← ey] at hRa hRc
          have hRc : k0 + d9 = k0 + dr2 + 0 := hRc
          obtain ⟨e8, he8, hP8⟩ := hc _ hRa
          exact hP8 (k0 + dr2) (by omega) u4.1 u4.2 H locs ls hP hD hS (lv_sub hl [1, 2, 3, 4, 0] rfl)
        · have h := ie h q18
          refine lv_iconst (v := 0) hx hb d_law_681 (by decide) ?_
          have ey := Option.some.inj h
          rw [← ey] at hRa
          obtain ⟨ey2, ed9⟩ := he _ hRa
          exact absurd ey2 (by decide)
      have h := hy15
      refine lv_if_eq (tgt := 676) hx hb d_law_669 (by decide) (fun q14 => ?_) (fun q14 => ?_)
      · have h := it h q14
        refine lv_lconst (v := 0) hx hb d_law_676 (by decide) ?_
        exact J677 0 (Option.some.inj h) H locs ls hP hD hS (lv_sub hl [2, 3, 4, 5, 6] rfl)
      · have h := ie h q14
        refine lv_lconst (v := 1) hx hb d_law_672 (by decide) ?_
        refine lv_goto (tgt := 677) hx hb d_law_673 (by decide) ?_
        exact J677 1 (Option.some.inj h) H locs ls hP hD hS (lv_sub hl [2, 3, 4, 5, 6] rfl)
  · have h := ie h q9
    refine lv_iconst (v := 0) hx hb d_law_657 (by decide) ?_
    have ey := Option.some.inj h
    rw [← ey] at hRa
    obtain ⟨ey2, ed9⟩ := he _ hRa
    exact absurd ey2 (by decide)

noncomputable def k_Law_686 (sl : Nat) (sx : Nat → Int32) (c_sort c_msort : Int32) (c_set : Int32) (c_c : (Nat → Int32)) (c_cl : Nat) (c_mv : (Nat → Int32)) (c_ml : Nat) (c_en : Int32) (c_rt : Int32) (c_fr : (Nat → Int32)) (c_br : (Nat → Int32)) (c_fi : Int64) (c_st : Int64) (c_vz : Int64) (c_lb : (Nat → Int32)) (c_ln : Int32) (c_lt : Int32) (c_hb : (Nat → Int32)) (c_hn : Int32) (c_ht : Int32) (c_ab : (Nat → Int32)) (c_an : Int32) (c_at : Int32) (c_bb : (Nat → Int32)) (c_bn : Int32) (c_bt : Int32) (c_ub : (Nat → Int32)) (c_un : Int32) (c_ut : Int32) (c_gb : (Nat → Int32)) (c_gn : Int32) (c_gt : Int32) (c_cnt : Int32) (c_frees : Int32) (c_cur : Int32) (c_thr : Int32) (c_fst : (Nat → Int64)) (c_snd : (Nat → Int64)) (c_let : (Nat → Int32)) (c_many : (Nat → Int32)) (c_val : (Nat → Int64)) (c_ord : (Nat → Int32)) (c_free : (Nat → Int32)) (c_code : (Nat → Int32)) (c_next : (Nat → Int32)) (c_com : (Nat → Int32)) (c_met : (Nat → Int32)) (c_out : (Nat → Int64)) (x4 : Int32) : Option (((Int32 × Int32 × (Nat → Int32) × Nat × (Nat → Int32) × Nat × Int32 × Int32 × (Nat → Int32) × (Nat → Int32) × Int64 × Int64 × Int64 × (Nat → Int32) × Int32 × Int32 × (Nat → Int32) × Int32 × Int32 × (Nat → Int32) × Int32 × Int32 × (Nat → Int32) × Int32 × Int32 × (Nat → Int32) × Int32 × Int32 × (Nat → Int32) × Int32 × Int32 × Int32 × Int32 × Int32 × Int32 × (Nat → Int64) × (Nat → Int64) × (Nat → Int32) × (Nat → Int32) × (Nat → Int64) × (Nat → Int32) × (Nat → Int32) × (Nat → Int32) × (Nat → Int32) × (Nat → Int32) × (Nat → Int32) × (Nat → Int64)) ⊕ Int32) × Nat) :=
gi (x4 + 1) sl <|
(if (sx (x4 + 1).toNatClampNeg) = 0 then
(some 0)
else
(some 1)).bind fun y5 =>
bd (f_Law_move c_set c_c c_cl c_rt c_ub c_un c_ut c_out y5) fun r7 =>
gi (x4 + 1) sl <|
(if (sx (x4 + 1).toNatClampNeg) = 0 then
(some 0)
else
(some 1)).bind fun y14 =>
(f_Model_move c_msort c_cnt c_cur c_thr c_fst c_snd c_let c_many c_ord y14).bind fun r16 =>
(f_Model_thrown r16.2.2.1).bind fun r18 =>
if r18 = r7.1 then
(if r7.1 = 0 then
(gi 0 1 <|
(if r16.1 = 0 then
(some 0)
else
(some 1)).bind fun y26 =>
if (lg_cmp (r7.2.2.2.2.2 (0 : Int32).toNatClampNeg) y26) = 0 then
(nm (x4 + 6) fun v29 =>
some (.inl (v29, r7.2.1, c_c, c_cl, c_mv, c_ml, c_en, c_rt, c_fr, c_br, c_fi, c_st, c_vz, c_lb, c_ln, c_lt, c_hb, c_hn, c_ht, c_ab, c_an, c_at, c_bb, c_bn, c_bt, r7.2.2.1, r7.2.2.2.1, r7.2.2.2.2.1, c_gb, c_gn, c_gt, c_cnt, c_frees, r16.2.1, r16.2.2.1, r16.2.2.2.1, r16.2.2.2.2.1, r16.2.2.2.2.2.1, r16.2.2.2.2.2.2, c_val, c_ord, c_free, c_code, c_next, c_com, c_met, r7.2.2.2.2.2), 0))
else
(some (.inr 0, 0)))
else
(nm (x4 + 6) fun v21 =>
some (.inl (v21, r7.2.1, c_c, c_cl, c_mv, c_ml, c_en, c_rt, c_fr, c_br, c_fi, c_st, c_vz, c_lb, c_ln, c_lt, c_hb, c_hn, c_ht, c_ab, c_an, c_at, c_bb, c_bn, c_bt, r7.2.2.1, r7.2.2.2.1, r7.2.2.2.2.1, c_gb, c_gn, c_gt, c_cnt, c_frees, r16.2.1, r16.2.2.1, r16.2.2.2.1, r16.2.2.2.2.1, r16.2.2.2.2.2.1, r16.2.2.2.2.2.2, c_val, c_ord, c_free, c_code, c_next, c_com, c_met, r7.2.2.2.2.2), 0)))
else
(some (.inr 0, 0))
set_option maxHeartbeats 8000000 in
set_option maxRecDepth 100000 in
theorem w_Law_686 (xp : Program) (l : Launch) (xe : Env) (xs : State) (xm : MethodId) (xb : List Frame) (xme : Method) (xc : Code) (Q : State → Prop) (A : Nat → Prop) (G : zG) (b rc : Nat) (a_s a_t a_ao a_bo a_uo a_go a_fr a_br a_e0 a_e1 a_e2 a_e3 a_lo a_ho a_lq a_hq a_aq a_bq a_uq a_gq a_m a_mfst a_msnd a_mlet a_mmany a_mval a_mord a_mfree a_mcode a_mnext a_mcom a_mmet a_out : Nat) (c_sort : Int32) (c_msort : Int32) (sl : Nat) (sx : Nat → Int32) (hfl : l.flags = flags0) (hB : rc ≤ 7129) (C0 : lwC xp xs xm xc A G b sl sx) (c_set : Int32) (c_c : (Nat → Int32)) (c_cl : Nat) (c_mv : (Nat → Int32)) (c_ml : Nat) (c_en : Int32) (c_rt : Int32) (c_fr : (Nat → Int32)) (c_br : (Nat → Int32)) (c_fi : Int64) (c_st : Int64) (c_vz : Int64) (c_lb : (Nat → Int32)) (c_ln : Int32) (c_lt : Int32) (c_hb : (Nat → Int32)) (c_hn : Int32) (c_ht : Int32) (c_ab : (Nat → Int32)) (c_an : Int32) (c_at : Int32) (c_bb : (Nat → Int32)) (c_bn : Int32) (c_bt : Int32) (c_ub : (Nat → Int32)) (c_un : Int32) (c_ut : Int32) (c_gb : (Nat → Int32)) (c_gn : Int32) (c_gt : Int32) (c_cnt : Int32) (c_frees : Int32) (c_cur : Int32) (c_thr : Int32) (c_fst : (Nat → Int64)) (c_snd : (Nat → Int64)) (c_let : (Nat → Int32)) (c_many : (Nat → Int32)) (c_val : (Nat → Int64)) (c_ord : (Nat → Int32)) (c_free : (Nat → Int32)) (c_code : (Nat → Int32)) (c_next : (Nat → Int32)) (c_com : (Nat → Int32)) (c_met : (Nat → Int32)) (c_out : (Nat → Int64)) (x4 : Int32) (x9 : (Int32 × Int32 × (Nat → Int32) × Nat × (Nat → Int32) × Nat × Int32 × Int32 × (Nat → Int32) × (Nat → Int32) × Int64 × Int64 × Int64 × (Nat → Int32) × Int32 × Int32 × (Nat → Int32) × Int32 × Int32 × (Nat → Int32) × Int32 × Int32 × (Nat → Int32) × Int32 × Int32 × (Nat → Int32) × Int32 × Int32 × (Nat → Int32) × Int32 × Int32 × Int32 × Int32 × Int32 × Int32 × (Nat → Int64) × (Nat → Int64) × (Nat → Int32) × (Nat → Int32) × (Nat → Int64) × (Nat → Int32) × (Nat → Int32) × (Nat → Int32) × (Nat → Int32) × (Nat → Int32) × (Nat → Int32) × (Nat → Int64)) ⊕ Int32) (d9 e9 : Nat) (h : k_Law_686 sl sx c_sort c_msort c_set c_c c_cl c_mv c_ml c_en c_rt c_fr c_br c_fi c_st c_vz c_lb c_ln c_lt c_hb c_hn c_ht c_ab c_an c_at c_bb c_bn c_bt c_ub c_un c_ut c_gb c_gn c_gt c_cnt c_frees c_cur c_thr c_fst c_snd c_let c_many c_val c_ord c_free c_code c_next c_com c_met c_out x4 = some (x9, d9)) (hc : ∀ v', x9 = .inl v' → ∃ e', e9 = d9 + e' ∧ lwPP xp l xe xs xm xb xme xc Q A G b rc a_s a_t a_ao a_bo a_uo a_go a_fr a_br a_e0 a_e1 a_e2 a_e3 a_lo a_ho a_lq a_hq a_aq a_bq a_uq a_gq a_m a_mfst a_msnd a_mlet a_mmany a_mval a_mord a_mfree a_mcode a_mnext a_mcom a_mmet a_out c_sort c_msort v' e') (he : ∀ t, x9 = .inr t → t = 1 ∧ e9 = d9) (hde : d9 ≤ e9) (k0 : Nat) (hk9 : rc = k0 + e9) (q1 q2 : Nat) (H : Heap) (locs : List Loc) (ls : Array Slot) (hP : va_P G.1 classes (wB G a_s a_t a_ao a_bo a_uo a_go c_sort c_set ++ wT G a_t q1 q2 a_fr a_br a_e0 a_e1 a_e2 a_e3 a_lo a_ho c_c c_cl c_mv c_ml c_en c_rt c_fr c_br c_fi c_st c_vz ++ wK G a_lo a_lq c_lb c_ln c_lt ++ wK G a_ho a_hq c_hb c_hn c_ht ++ wK G a_ao a_aq c_ab c_an c_at ++ wK G a_bo a_bq c_bb c_bn c_bt ++ wK G a_uo a_uq c_ub c_un c_ut ++ wK G a_go a_gq c_gb c_gn c_gt ++ wM G a_m a_mfst a_msnd a_mlet a_mmany a_mval a_mord a_mfree a_mcode a_mnext a_mcom a_mmet c_msort c_cnt c_frees c_cur c_thr c_fst c_snd c_let c_many c_val c_ord c_free c_code c_next c_com c_met ++ wO G a_out c_out) H) (hD : va_D A (wB G a_s a_t a_ao a_bo a_uo a_go c_sort c_set ++ wT G a_t q1 q2 a_fr a_br a_e0 a_e1 a_e2 a_e3 a_lo a_ho c_c c_cl c_mv c_ml c_en c_rt c_fr c_br c_fi c_st c_vz ++ wK G a_lo a_lq c_lb c_ln c_lt ++ wK G a_ho a_hq c_hb c_hn c_ht ++ wK G a_ao a_aq c_ab c_an c_at ++ wK G a_bo a_bq c_bb c_bn c_bt ++ wK G a_uo a_uq c_ub c_un c_ut ++ wK G a_go a_gq c_gb c_gn c_gt ++ wM G a_m a_mfst a_msnd a_mlet a_mmany a_mval a_mord a_mfree a_mcode a_mnext a_mcom a_mmet c_msort c_cnt c_frees c_cur c_thr c_fst c_snd c_let c_many c_val c_ord c_free c_code c_next c_com c_met ++ wO G a_out c_out)) (hS : va_S A xs.heap H locs) (hl : lv_has ls 8 [(0, .ref b), (1, .ref a_s), (2, .ref a_m), (3, .ref a_out), (4, .int x4)]) :
    W xp l xe room_1 xs xm #[Value.ref b] xb xme xc H locs k0 (1024 * k0) Q (F0 xm 686 ls []) := by
  obtain ⟨hx, hb, hts, hown, hml, hN, hTs, hK, hX, hbl, hA, hA2⟩ := C0
  have hbA : ¬ A b := fun h => absurd (hA2 b h) (Nat.not_le.mpr hbl)
  have hnA : ∀ (a : Nat) (cell : Cell), xs.heap[a]? = some cell → cell.vm.isStatics = true → ¬ A a := fun a cell hc _ h => absurd (hA2 a h) (Nat.not_le.mpr (Array.getElem?_eq_some_iff.mp hc).1)
  unfold k_Law_686 at h
  have hRa : x9 = (x9, d9).1 := rfl
  have hRc : k0 + d9 = k0 + (x9, d9).2 := rfl
  refine lv_aload_n hx hb d_law_686 rfl (lv_at hl 1 rfl) ?_
  refine lv_aload_n hx hb d_law_687 rfl (lv_at hl 0 rfl) ?_
  refine lv_iload hx hb d_law_688 (lv_at hl 4 rfl) ?_
  refine lv_iconst (v := 1) hx hb d_law_690 (by decide) ?_
  refine lv_iadd hx hb d_law_691 ?_
  obtain ⟨h1, h⟩ := gi_k h
  refine va_sld hx hb hX hbl hbA hS h1 d_law_692 ?_
  obtain ⟨y4, hy4, h⟩ := ob h
  have J701 : ∀ (z6 : Int32), narrow .boolean (.int z6) = .int z6 → z6 = y4 → ∀ (H : Heap) (locs : List Loc) (ls : Array Slot), va_P G.1 classes (wB G a_s a_t a_ao a_bo a_uo a_go c_sort c_set ++ wT G a_t q1 q2 a_fr a_br a_e0 a_e1 a_e2 a_e3 a_lo a_ho c_c c_cl c_mv c_ml c_en c_rt c_fr c_br c_fi c_st c_vz ++ wK G a_lo a_lq c_lb c_ln c_lt ++ wK G a_ho a_hq c_hb c_hn c_ht ++ wK G a_ao a_aq c_ab c_an c_at ++ wK G a_bo a_bq c_bb c_bn c_bt ++ wK G a_uo a_uq c_ub c_un c_ut ++ wK G a_go a_gq c_gb c_gn c_gt ++ wM G a_m a_mfst a_msnd a_mlet a_mmany a_mval a_mord a_mfree a_mcode a_mnext a_mcom a_mmet c_msort c_cnt c_frees c_cur c_thr c_fst c_snd c_let c_many c_val c_ord c_free c_code c_next c_com c_met ++ wO G a_out c_out) H → va_D A (wB G a_s a_t a_ao a_bo a_uo a_go c_sort c_set ++ wT G a_t q1 q2 a_fr a_br a_e0 a_e1 a_e2 a_e3 a_lo a_ho c_c c_cl c_mv c_ml c_en c_rt c_fr c_br c_fi c_st c_vz ++ wK G a_lo a_lq c_lb c_ln c_lt ++ wK G a_ho a_hq c_hb c_hn c_ht ++ wK G a_ao a_aq c_ab c_an c_at ++ wK G a_bo a_bq c_bb c_bn c_bt ++ wK G a_uo a_uq c_ub c_un c_ut ++ wK G a_go a_gq c_gb c_gn c_gt ++ wM G a_m a_mfst a_msnd a_mlet a_mmany a_mval a_mord a_mfree a_mcode a_mnext a_mcom a_mmet c_msort c_cnt c_frees c_cur c_thr c_fst c_snd c_let c_many c_val c_ord c_free c_code c_next c_com c_met ++ wO G a_out c_out) → va_S A xs.heap H locs → lv_has ls 8 [(0, .ref b), (1, .ref a_s), (2, .ref a_m), (3, .ref a_out), (4, .int x4)] → W xp l xe room_1 xs xm #[Value.ref b] xb xme xc H locs (k0) (1024 * (k0)) Q (F0 xm 701 ls [.int z6, .ref a_s]) := by
    intro z6 hzz6 ey H locs ls hP hD hS hl
    subst ey
    try dsimp only at h
    refine lv_aload_n hx hb d_law_701 rfl (lv_at hl 3 rfl) ?_
    obtain ⟨r7, dr7, y8, hr7, h, hRa, hRc⟩ := bd_k h hRa hRc
    refine zcalli (wr := [(a_lo, .inr (0, [.ref a_lq, .int c_ln, .int c_lt])), (a_lq, .inl (G.2.2.1, 50, .inl c_lb)), (a_ho, .inr (0, [.ref a_hq, .int c_hn, .int c_ht])), (a_hq, .inl (G.2.2.1, 50, .inl c_hb)), (a_ao, .inr (0, [.ref a_aq, .int c_an, .int c_at])), (a_aq, .inl (G.2.2.1, 50, .inl c_ab)), (a_bo, .inr (0, [.ref a_bq, .int c_bn, .int c_bt])), (a_bq, .inl (G.2.2.1, 50, .inl c_bb)), (a_go, .inr (0, [.ref a_gq, .int c_gn, .int c_gt])), (a_gq, .inl (G.2.2.1, 50, .inl c_gb)), (a_m, .inr (6, [.int c_msort, .ref a_mfst, .ref a_msnd, .ref a_mlet, .ref a_mmany, .ref a_mval, .ref a_mord, .int c_cnt, .ref a_mfree, .int c_frees, .int c_cur, .int c_thr, .ref a_mcode, .ref a_mnext, .ref a_mcom, .ref a_mmet])), (a_mfst, .inl (G.2.2.2, 1503, .inr (.inl c_fst))), (a_msnd, .inl (G.2.2.2, 1503, .inr (.inl c_snd))), (a_mlet, .inl (G.2.1, 36072, .inl c_let)), (a_mmany, .inl (G.2.1, 1503, .inl c_many)), (a_mval, .inl (G.2.2.2, 1500, .inr (.inl c_val))), (a_mord, .inl (G.2.1, 1500, .inl c_ord)), (a_mfree, .inl (G.2.1, 1500, .inl c_free)), (a_mcode, .inl (G.2.1, 50, .inl c_code)), (a_mnext, .inl (G.2.1, 50, .inl c_next)), (a_mcom, .inl (G.2.1, 1500, .inl c_com)), (a_mmet, .inl (G.2.1, 50, .inl c_met))]) (w2 := fun (u9 : Nat × Nat) => (wB G a_s a_t a_ao a_bo a_uo a_go c_sort r7.2.1 ++ wT G a_t u9.1 u9.2 a_fr a_br a_e0 a_e1 a_e2 a_e3 a_lo a_ho c_c c_cl c_mv c_ml c_en c_rt c_fr c_br c_fi c_st c_vz ++ wK G a_lo a_lq c_lb c_ln c_lt ++ wK G a_ho a_hq c_hb c_hn c_ht ++ wK G a_ao a_aq c_ab c_an c_at ++ wK G a_bo a_bq c_bb c_bn c_bt ++ wK G a_uo a_uq r7.2.2.1 r7.2.2.2.1 r7.2.2.2.2.1 ++ wK G a_go a_gq c_gb c_gn c_gt ++ wM G a_m a_mfst a_msnd a_mlet a_mmany a_mval a_mord a_mfree a_mcode a_mnext a_mcom a_mmet c_msort c_cnt c_frees c_cur c_thr c_fst c_snd c_let c_many c_val c_ord c_free c_code c_next c_com c_met ++ wO G a_out r7.2.2.2.2.2)) (fun hPc hDc => zrunSW (As := [.ref a_s, .int z6, .ref a_out]) (rest := []) ⟨hx, hb, hml, hown, hts⟩ hN hTs hnA hS hK (c_Law_move l G hfl H.size a_s a_t a_ao a_bo a_uo a_go q1 q2 a_fr a_br a_e0 a_e1 a_e2 a_e3 a_lo a_ho a_uq a_out c_sort c_set c_c c_cl c_mv c_ml c_en c_rt c_fr c_br c_fi c_st c_vz c_ub c_un c_ut c_out z6 hzz6 r7 dr7 hr7) ⟨rfl, rfl⟩ kw_132 ⟨Nat.le_of_ble_eq_true rfl, Nat.le_of_ble_eq_true rfl⟩ rfl hl.1 (Nat.le_of_ble_eq_true rfl) d_law_702 ⟨by show _ ≤ 600128; omega, by show _ ≤ 7301064; omega⟩ hPc hDc) hP hD hS hA [0, 1, 2, 3, 4, 5, 6, 7, 8, 9, 18, 19, 34] [10, 11, 12, 13, 14, 15, 16, 17, 20, 21, 22, 23, 24, 25, 26, 27, 28, 29, 30, 31, 32, 33] [22, 23, 24, 25, 26, 27, 28, 29, 30, 31, 0, 1, 2, 3, 4, 5, 6, 7, 32, 33, 8, 9, 10, 11, 12, 13, 14, 15, 16, 17, 18, 19, 20, 21, 34] rfl rfl rfl rfl (by decide) rfl (fun _ => rfl) (fun rr u9 H locs hw hP hD hS => ?_)
    refine W.widen (k := k0 + dr7) (n := 1024 * (k0 + dr7)) (by omega) (by omega) ?_
    have hw := hw.symm
    subst hw
    refine lv_istore (lv' := [(5, .int r7.1), (0, .ref b), (1, .ref a_s), (2, .ref a_m), (3, .ref a_out), (4, .int x4)]) hx hb d_law_705 hl (by decide) rfl (fun ls hl => ?_)
    refine lv_aload_n hx hb d_law_707 rfl (lv_at hl 3 rfl) ?_
    refine lv_aload_n hx hb d_law_708 rfl (lv_at hl 1 rfl) ?_
    refine lv_iload hx hb d_law_709 (lv_at hl 5 rfl) ?_
    refine lv_iconst (v := 1) hx hb d_law_711 (by decide) ?_
    refine lv_iadd hx hb d_law_712 ?_
    obtain ⟨h10, h⟩ := gi_k h
    refine va_sld hx hb hX hbl hbA hS h10 d_law_713 ?_
    obtain ⟨y13, hy13, h⟩ := ob h
    have J722 : ∀ (z15 : Int32), narrow .boolean (.int z15) = .int z15 → z15 = y13 → ∀ (H : Heap) (locs : List Loc) (ls : Array Slot), va_P G.1 classes (wB G a_s a_t a_ao a_bo a_uo a_go c_sort r7.2.1 ++ wT G a_t u9.1 u9.2 a_fr a_br a_e0 a_e1 a_e2 a_e3 a_lo a_ho c_c c_cl c_mv c_ml c_en c_rt c_fr c_br c_fi c_st c_vz ++ wK G a_lo a_lq c_lb c_ln c_lt ++ wK G a_ho a_hq c_hb c_hn c_ht ++ wK G a_ao a_aq c_ab c_an c_at ++ wK G a_bo a_bq c_bb c_bn c_bt ++ wK G a_uo a_uq r7.2.2.1 r7.2.2.2.1 r7.2.2.2.2.1 ++ wK G a_go a_gq c_gb c_gn c_gt ++ wM G a_m a_mfst a_msnd a_mlet a_mmany a_mval a_mord a_mfree a_mcode a_mnext a_mcom a_mmet c_msort c_cnt c_frees c_cur c_thr c_fst c_snd c_let c_many c_val c_ord c_free c_code c_next c_com c_met ++ wO G a_out r7.2.2.2.2.2) H → va_D A (wB G a_s a_t a_ao a_bo a_uo a_go c_sort r7.2.1 ++ wT G a_t u9.1 u9.2 a_fr a_br a_e0 a_e1 a_e2 a_e3 a_lo a_ho c_c c_cl c_mv c_ml c_en c_rt c_fr c_br c_fi c_st c_vz ++ wK G a_lo a_lq c_lb c_ln c_lt ++ wK G a_ho a_hq c_hb c_hn c_ht ++ wK G a_ao a_aq c_ab c_an c_at ++ wK G a_bo a_bq c_bb c_bn c_bt ++ wK G a_uo a_uq r7.2.2.1 r7.2.2.2.1 r7.2.2.2.2.1 ++ wK G a_go a_gq c_gb c_gn c_gt ++ wM G a_m a_mfst a_msnd a_mlet a_mmany a_mval a_mord a_mfree a_mcode a_mnext a_mcom a_mmet c_msort c_cnt c_frees c_cur c_thr c_fst c_snd c_let c_many c_val c_ord c_free c_code c_next c_com c_met ++ wO G a_out r7.2.2.2.2.2) → va_S A xs.heap H locs → lv_has ls 8 [(0, .ref b), (1, .ref a_s), (2, .ref a_m), (3, .ref a_out), (4, .int x4), (5, .int r7.1)] → W xp l xe room_1 xs xm #[Value.ref b] xb xme xc H locs (k0 + dr7) (1024 * (k0 + dr7)) Q (F0 xm 722 ls [.int z15, .ref a_m]) := by
      intro z15 hzz15 ey H locs ls hP hD hS hl
      subst ey
      try dsimp only at h
      obtain ⟨r16, hr16, h⟩ := ob h
      refine zcalli (wr := [(a_s, .inr (5, [.int c_sort, .ref a_t, .ref a_ao, .ref a_bo, .ref a_uo, .int r7.2.1, .ref a_go])), (a_t, .inr (4, [.ref u9.1, .ref u9.2, .int c_en, .int c_rt, .ref a_fr, .ref a_e0, .ref a_e1, .ref a_e2, .ref a_e3, .ref a_br, .ref a_lo, .ref a_ho, .long c_fi, .long c_st, .long c_vz])), (u9.1, .inl (G.2.1, c_cl, .inl c_c)), (u9.2, .inl (G.2.1, c_ml, .inl c_mv)), (a_fr, .inl (G.2.1, 261, .inl c_fr)), (a_br, .inl (G.2.1, 4, .inl c_br)), (a_e0, .inr (1, [.int 0, .int 9, .int 4, .int 5])), (a_e1, .inr (1, [.int 1, .int 24, .int 16, .int 8])), (a_e2, .inr (2, [.int 2, .int 116, .int 48])), (a_e3, .inr (3, [.int 3, .int 260, .int 256])), (a_lo, .inr (0, [.ref a_lq, .int c_ln, .int c_lt])), (a_lq, .inl (G.2.2.1, 50, .inl c_lb)), (a_ho, .inr (0, [.ref a_hq, .int c_hn, .int c_ht])), (a_hq, .inl (G.2.2.1, 50, .inl c_hb)), (a_ao, .inr (0, [.ref a_aq, .int c_an, .int c_at])), (a_aq, .inl (G.2.2.1, 50, .inl c_ab)), (a_bo, .inr (0, [.ref a_bq, .int c_bn, .int c_bt])), (a_bq, .inl (G.2.2.1, 50, .inl c_bb)), (a_uo, .inr (0, [.ref a_uq, .int r7.2.2.2.1, .int r7.2.2.2.2.1])), (a_uq, .inl (G.2.2.1, 50, .inl r7.2.2.1)), (a_go, .inr (0, [.ref a_gq, .int c_gn, .int c_gt])), (a_gq, .inl (G.2.2.1, 50, .inl c_gb)), (a_out, .inl (G.2.2.2, 1, .inr (.inl r7.2.2.2.2.2)))]) (w2 := fun _ => (wB G a_s a_t a_ao a_bo a_uo a_go c_sort r7.2.1 ++ wT G a_t u9.1 u9.2 a_fr a_br a_e0 a_e1 a_e2 a_e3 a_lo a_ho c_c c_cl c_mv c_ml c_en c_rt c_fr c_br c_fi c_st c_vz ++ wK G a_lo a_lq c_lb c_ln c_lt ++ wK G a_ho a_hq c_hb c_hn c_ht ++ wK G a_ao a_aq c_ab c_an c_at ++ wK G a_bo a_bq c_bb c_bn c_bt ++ wK G a_uo a_uq r7.2.2.1 r7.2.2.2.1 r7.2.2.2.2.1 ++ wK G a_go a_gq c_gb c_gn c_gt ++ wM G a_m a_mfst a_msnd a_mlet a_mmany a_mval a_mord a_mfree a_mcode a_mnext a_mcom a_mmet c_msort c_cnt c_frees r16.2.1 r16.2.2.1 r16.2.2.2.1 r16.2.2.2.2.1 r16.2.2.2.2.2.1 r16.2.2.2.2.2.2 c_val c_ord c_free c_code c_next c_com c_met ++ wO G a_out r7.2.2.2.2.2)) (zrunV (As := [.int z15]) (rest := []) ⟨hx, hb, hml, hown, hts⟩ hN hK (c_Model_move l G H.size a_m a_mfst a_msnd a_mlet a_mmany a_mval a_mord a_mfree a_mcode a_mnext a_mcom a_mmet c_msort c_cnt c_frees c_cur c_thr c_fst c_snd c_let c_many c_val c_ord c_free c_code c_next c_com c_met z15 hzz15 r16 hr16) ⟨rfl, rfl⟩ kv_Law_135 ⟨Nat.le_of_ble_eq_true rfl, Nat.le_of_ble_eq_true rfl⟩ 0 rfl rfl rfl hl.1 (Nat.le_of_ble_eq_true rfl) d_law_722 ⟨by show _ ≤ 600128; omega, by show _ ≤ 7301064; omega⟩) hP hD hS hA [22, 23, 24, 25, 26, 27, 28, 29, 30, 31, 32, 33] [0, 1, 2, 3, 4, 5, 6, 7, 8, 9, 10, 11, 12, 13, 14, 15, 16, 17, 18, 19, 20, 21, 34] [0, 1, 2, 3, 4, 5, 6, 7, 8, 9, 10, 11, 12, 13, 14, 15, 16, 17, 18, 19, 20, 21, 23, 24, 25, 26, 27, 28, 29, 30, 31, 32, 33, 34, 22] rfl rfl rfl rfl (by decide) rfl (fun _ => rfl) (fun rr _ H locs hw hP hD hS => ?_)
      obtain ⟨hw, hz17⟩ := hw
      have hw := hw.symm
      subst hw
      refine lv_istore (lv' := [(6, .int r16.1), (0, .ref b), (1, .ref a_s), (2, .ref a_m), (3, .ref a_out), (4, .int x4), (5, .int r7.1)]) hx hb d_law_725 hl (by decide) rfl (fun ls hl => ?_)
      refine lv_aload_n hx hb d_law_727 rfl (lv_at hl 3 rfl) ?_
      obtain ⟨r18, hr18, h⟩ := ob h
      refine zpcalli (wr := [(a_s, .inr (5, [.int c_sort, .ref a_t, .ref a_ao, .ref a_bo, .ref a_uo, .int r7.2.1, .ref a_go])), (a_t, .inr (4, [.ref u9.1, .ref u9.2, .int c_en, .int c_rt, .ref a_fr, .ref a_e0, .ref a_e1, .ref a_e2, .ref a_e3, .ref a_br, .ref a_lo, .ref a_ho, .long c_fi, .long c_st, .long c_vz])), (u9.1, .inl (G.2.1, c_cl, .inl c_c)), (u9.2, .inl (G.2.1, c_ml, .inl c_mv)), (a_fr, .inl (G.2.1, 261, .inl c_fr)), (a_br, .inl (G.2.1, 4, .inl c_br)), (a_e0, .inr (1, [.int 0, .int 9, .int 4, .int 5])), (a_e1, .inr (1, [.int 1, .int 24, .int 16, .int 8])), (a_e2, .inr (2, [.int 2, .int 116, .int 48])), (a_e3, .inr (3, [.int 3, .int 260, .int 256])), (a_lo, .inr (0, [.ref a_lq, .int c_ln, .int c_lt])), (a_lq, .inl (G.2.2.1, 50, .inl c_lb)), (a_ho, .inr (0, [.ref a_hq, .int c_hn, .int c_ht])), (a_hq, .inl (G.2.2.1, 50, .inl c_hb)), (a_ao, .inr (0, [.ref a_aq, .int c_an, .int c_at])), (a_aq, .inl (G.2.2.1, 50, .inl c_ab)), (a_bo, .inr (0, [.ref a_bq, .int c_bn, .int c_bt])), (a_bq, .inl (G.2.2.1, 50, .inl c_bb)), (a_uo, .inr (0, [.ref a_uq, .int r7.2.2.2.1, .int r7.2.2.2.2.1])), (a_uq, .inl (G.2.2.1, 50, .inl r7.2.2.1)), (a_go, .inr (0, [.ref a_gq, .int c_gn, .int c_gt])), (a_gq, .inl (G.2.2.1, 50, .inl c_gb)), (a_out, .inl (G.2.2.2, 1, .inr (.inl r7.2.2.2.2.2)))]) (w2 := fun _ => (wB G a_s a_t a_ao a_bo a_uo a_go c_sort r7.2.1 ++ wT G a_t u9.1 u9.2 a_fr a_br a_e0 a_e1 a_e2 a_e3 a_lo a_ho c_c c_cl c_mv c_ml c_en c_rt c_fr c_br c_fi c_st c_vz ++ wK G a_lo a_lq c_lb c_ln c_lt ++ wK G a_ho a_hq c_hb c_hn c_ht ++ wK G a_ao a_aq c_ab c_an c_at ++ wK G a_bo a_bq c_bb c_bn c_bt ++ wK G a_uo a_uq r7.2.2.1 r7.2.2.2.1 r7.2.2.2.2.1 ++ wK G a_go a_gq c_gb c_gn c_gt ++ wM G a_m a_mfst a_msnd a_mlet a_mmany a_mval a_mord a_mfree a_mcode a_mnext a_mcom a_mmet c_msort c_cnt c_frees r16.2.1 r16.2.2.1 r16.2.2.2.1 r16.2.2.2.2.1 r16.2.2.2.2.2.1 r16.2.2.2.2.2.2 c_val c_ord c_free c_code c_next c_com c_met ++ wO G a_out r7.2.2.2.2.2)) (zrunV (As := []) (rest := []) ⟨hx, hb, hml, hown, hts⟩ hN hK (c_Model_thrown l G H.size a_m a_mfst a_msnd a_mlet a_mmany a_mval a_mord a_mfree a_mcode a_mnext a_mcom a_mmet c_msort c_cnt c_frees r16.2.1 r16.2.2.1 r16.2.2.2.1 r16.2.2.2.2.1 r16.2.2.2.2.2.1 r16.2.2.2.2.2.2 c_val c_ord c_free c_code c_next c_com c_met r18 hr18) ⟨rfl, rfl⟩ kv_Law_95 ⟨Nat.le_of_ble_eq_true rfl, Nat.le_of_ble_eq_true rfl⟩ 0 rfl rfl rfl hl.1 (Nat.le_of_ble_eq_true rfl) d_law_728 ⟨by show _ ≤ 600128; omega, by show _ ≤ 7301064; omega⟩) hP hD hS hA [22, 23, 24, 25, 26, 27, 28, 29, 30, 31, 32, 33] [0, 1, 2, 3, 4, 5, 6, 7, 8, 9, 10, 11, 12, 13, 14, 15, 16, 17, 18, 19, 20, 21, 34] [0, 1, 2, 3, 4, 5, 6, 7, 8, 9, 10, 11, 12, 13, 14, 15, 16, 17, 18, 19, 20, 21, 23, 24, 25, 26, 27, 28, 29, 30, 31, 32, 33, 34, 22] rfl rfl rfl rfl (by decide) rfl (fun _ => rfl) (fun rr _ H hw hP hD hS => ?_)
      have hw := hw.symm
      subst hw
      refine lv_iload hx hb d_law_731 (lv_at hl 6 rfl) ?_
      refine lv_icmp_eq (tgt := 738) hx hb d_law_733 (by decide) (fun q19 => ?_) (fun q19 => ?_)
      · have h := it h q19
        refine lv_iload hx hb d_law_738 (lv_at hl 6 rfl) ?_
        refine lv_if_ne (tgt := 762) hx hb d_law_740 (by decide) (fun q20 => ?_) (fun q20 => ?_)
        · have h := ie h q20
          refine lv_goto (tgt := 1245) hx hb d_law_762 (by decide) ?_
          obtain ⟨v21, ev21⟩ : ∃ y : Int32, y = x4 + 6 := ⟨_, rfl⟩
          have h := nm_k h v21 ev21
          refine lv_iinc (v := v21) (lv' := [(4, .int v21), (6, .int r16.1), (0, .ref b), (1, .ref a_s), (2, .ref a_m), (3, .ref a_out), (5, .int r7.1)]) hx hb d_law_1245 hl (k := 5) rfl (by rw [ev21]; rfl) (by decide) rfl (fun ls hl => ?_)
          refine lv_goto (tgt := 33) hx hb d_law_1248 (by decide) ?_
          have ey := Option.some.inj h
          rw [← ey] at hRa hRc
          have hRc : k0 + d9 = k0 + dr7 + 0 := hRc
          obtain ⟨e8, he8, hP8⟩ := hc _ hRa
          exact hP8 (k0 + dr7) (by omega) u9.1 u9.2 H locs ls hP hD hS (lv_sub hl [2, 3, 4, 5, 0] rfl)
        · have h := it h q20
          refine lv_aload_n hx hb d_law_743 rfl (lv_at hl 4 rfl) ?_
          refine lv_iconst (v := 0) hx hb d_law_744 (by decide) ?_
          obtain ⟨h22, h⟩ := gi_k h
          refine va_lald hx hb hK hP 34 2 rfl rfl h22 d_law_745 ?_
          refine lv_iload hx hb d_law_746 (lv_at hl 0 rfl) ?_
          obtain ⟨y25, hy25, h⟩ := ob h
          have J756 : ∀ (z27 : Int64), z27 = y25 → ∀ (H : Heap) (locs : List Loc) (ls : Array Slot), va_P G.1 classes (wB G a_s a_t a_ao a_bo a_uo a_go c_sort r7.2.1 ++ wT G a_t u9.1 u9.2 a_fr a_br a_e0 a_e1 a_e2 a_e3 a_lo a_ho c_c c_cl c_mv c_ml c_en c_rt c_fr c_br c_fi c_st c_vz ++ wK G a_lo a_lq c_lb c_ln c_lt ++ wK G a_ho a_hq c_hb c_hn c_ht ++ wK G a_ao a_aq c_ab c_an c_at ++ wK G a_bo a_bq c_bb c_bn c_bt ++ wK G a_uo a_uq r7.2.2.1 r7.2.2.2.1 r7.2.2.2.2.1 ++ wK G a_go a_gq c_gb c_gn c_gt ++ wM G a_m a_mfst a_msnd a_mlet a_mmany a_mval a_mord a_mfree a_mcode a_mnext a_mcom a_mmet c_msort c_cnt c_frees r16.2.1 r16.2.2.1 r16.2.2.2.1 r16.2.2.2.2.1 r16.2.2.2.2.2.1 r16.2.2.2.2.2.2 c_val c_ord c_free c_code c_next c_com c_met ++ wO G a_out r7.2.2.2.2.2) H → va_D A (wB G a_s a_t a_ao a_bo a_uo a_go c_sort r7.2.1 ++ wT G a_t u9.1 u9.2 a_fr a_br a_e0 a_e1 a_e2 a_e3 a_lo a_ho c_c c_cl c_mv c_ml c_en c_rt c_fr c_br c_fi c_st c_vz ++ wK G a_lo a_lq c_lb c_ln c_lt ++ wK G a_ho a_hq c_hb c_hn c_ht ++ wK G a_ao a_aq c_ab c_an c_at ++ wK G a_bo a_bq c_bb c_bn c_bt ++ wK G a_uo a_uq r7.2.2.1 r7.2.2.2.1 r7.2.2.2.2.1 ++ wK G a_go a_gq c_gb c_gn c_gt ++ wM G a_m a_mfst a_msnd a_mlet a_mmany a_mval a_mord a_mfree a_mcode a_mnext a_mcom a_mmet c_msort c_cnt c_frees r16.2.1 r16.2.2.1 r16.2.2.2.1 r16.2.2.2.2.1 r16.2.2.2.2.2.1 r16.2.2.2.2.2.2 c_val c_ord c_free c_code c_next c_com c_met ++ wO G a_out r7.2.2.2.2.2) → va_S A xs.heap H locs → lv_has ls 8 [(0, .ref b), (1, .ref a_s), (2, .ref a_m), (3, .ref a_out), (4, .int x4)] → W xp l xe room_1 xs xm #[Value.ref b] xb xme xc H locs (k0 + dr7) (1024 * (k0 + dr7)) Q (F0 xm 756 ls [.long z27, .long (r7.2.2.2.2.2 (0 : Int32).toNatClampNeg)]) := by
            intro z27 ey H locs ls hP hD hS hl
            subst ey
            try dsimp only at h
            refine W.lcmp hx hb d_law_756 ?_
            refine lv_if_eq (tgt := 762) hx hb d_law_757 (by decide) (fun q28 => ?_) (fun q28 => ?_)
            · have h := it h q28
              refine lv_goto (tgt := 1245) hx hb d_law_762 (by decide) ?_
              obtain ⟨v29, ev29⟩ : ∃ y : Int32, y = x4 + 6 := ⟨_, rfl⟩
              have h := nm_k h v29 ev29
              refine lv_iinc (v := v29) (lv' := [(4, .int v29), (0, .ref b), (1, .ref a_s), (2, .ref a_m), (3, .ref a_out)]) hx hb d_law_1245 hl (k := 4) rfl (by rw [ev29]; rfl) (by decide) rfl (fun ls hl => ?_)
              refine lv_goto (tgt := 33) hx hb d_law_1248 (by decide) ?_
              have ey := Option.some.inj h
              rw [← ey] at hRa hRc
              have hRc : k0 + d9 = k0 + dr7 + 0 := hRc
              obtain ⟨e8, he8, hP8⟩ := hc _ hRa
              exact hP8 (k0 + dr7) (by omega) u9.1 u9.2 H locs ls hP hD hS (lv_sub hl [1, 2, 3, 4, 0] rfl)
            · have h := ie h q28
              refine lv_iconst (v := 0) hx hb d_law_760 (by decide) ?_
              have ey := Option.some.inj h
              rw [← ey] at hRa
              obtain ⟨ey2, ed9⟩ := he _ hRa
              exact absurd ey2 (by decide)
          have h := hy25
          refine lv_if_eq (tgt := 755) hx hb d_law_748 (by decide) (fun q24 => ?_) (fun q24 => ?_)
          · have h := it h q24
            refine lv_lconst (v := 0) hx hb d_law_755 (by decide) ?_
            exact J756 0 (Option.some.inj h) H locs ls hP hD hS (lv_sub hl [1, 2, 3, 4, 5] rfl)
          · have h := ie h q24
            refine lv_lconst (v := 1) hx hb d_law_751 (by decide) ?_
            refine lv_goto (tgt := 756) hx hb d_law_752 (by decide) ?_
            exact J756 1 (Option.some.inj h) H locs ls hP hD hS (lv_sub hl [1, 2, 3, 4, 5] rfl)
      · have h := ie h q19
        refine lv_iconst (v := 0) hx hb d_law_736 (by decide) ?_
        have ey := Option.some.inj h
        rw [← ey] at hRa
        obtain ⟨ey2, ed9⟩ := he _ hRa
        exact absurd ey2 (by decide)
    have h := hy13
    refine lv_if_eq (tgt := 721) hx hb d_law_714 (by decide) (fun q12 => ?_) (fun q12 => ?_)
    · have h := it h q12
      refine lv_iconst (v := 0) hx hb d_law_721 (by decide) ?_
      exact J722 0 rfl (Option.some.inj h) H locs ls hP hD hS (lv_sub hl [1, 2, 3, 4, 5, 0] rfl)
    · have h := ie h q12
      refine lv_iconst (v := 1) hx hb d_law_717 (by decide) ?_
      refine lv_goto (tgt := 722) hx hb d_law_718 (by decide) ?_
      exact J722 1 rfl (Option.some.inj h) H locs ls hP hD hS (lv_sub hl [1, 2, 3, 4, 5, 0] rfl)
  have h := hy4
  refine lv_if_eq (tgt := 700) hx hb d_law_693 (by decide) (fun q3 => ?_) (fun q3 => ?_)
  · have h := it h q3
    refine lv_iconst (v := 0) hx hb d_law_700 (by decide) ?_
    exact J701 0 rfl (Option.some.inj h) H locs ls hP hD hS (lv_sub hl [0, 1, 2, 3, 4] rfl)
  · have h := ie h q3
    refine lv_iconst (v := 1) hx hb d_law_696 (by decide) ?_
    refine lv_goto (tgt := 701) hx hb d_law_697 (by decide) ?_
    exact J701 1 rfl (Option.some.inj h) H locs ls hP hD hS (lv_sub hl [0, 1, 2, 3, 4] rfl)

noncomputable def k_Law_765 (sl : Nat) (sx : Nat → Int32) (c_sort c_msort : Int32) (c_set : Int32) (c_c : (Nat → Int32)) (c_cl : Nat) (c_mv : (Nat → Int32)) (c_ml : Nat) (c_en : Int32) (c_rt : Int32) (c_fr : (Nat → Int32)) (c_br : (Nat → Int32)) (c_fi : Int64) (c_st : Int64) (c_vz : Int64) (c_lb : (Nat → Int32)) (c_ln : Int32) (c_lt : Int32) (c_hb : (Nat → Int32)) (c_hn : Int32) (c_ht : Int32) (c_ab : (Nat → Int32)) (c_an : Int32) (c_at : Int32) (c_bb : (Nat → Int32)) (c_bn : Int32) (c_bt : Int32) (c_ub : (Nat → Int32)) (c_un : Int32) (c_ut : Int32) (c_gb : (Nat → Int32)) (c_gn : Int32) (c_gt : Int32) (c_cnt : Int32) (c_frees : Int32) (c_cur : Int32) (c_thr : Int32) (c_fst : (Nat → Int64)) (c_snd : (Nat → Int64)) (c_let : (Nat → Int32)) (c_many : (Nat → Int32)) (c_val : (Nat → Int64)) (c_ord : (Nat → Int32)) (c_free : (Nat → Int32)) (c_code : (Nat → Int32)) (c_next : (Nat → Int32)) (c_com : (Nat → Int32)) (c_met : (Nat → Int32)) (c_out : (Nat → Int64)) (x4 : Int32) : Option (((Int32 × Int32 × (Nat → Int32) × Nat × (Nat → Int32) × Nat × Int32 × Int32 × (Nat → Int32) × (Nat → Int32) × Int64 × Int64 × Int64 × (Nat → Int32) × Int32 × Int32 × (Nat → Int32) × Int32 × Int32 × (Nat → Int32) × Int32 × Int32 × (Nat → Int32) × Int32 × Int32 × (Nat → Int32) × Int32 × Int32 × (Nat → Int32) × Int32 × Int32 × Int32 × Int32 × Int32 × Int32 × (Nat → Int64) × (Nat → Int64) × (Nat → Int32) × (Nat → Int32) × (Nat → Int64) × (Nat → Int32) × (Nat → Int32) × (Nat → Int32) × (Nat → Int32) × (Nat → Int32) × (Nat → Int32) × (Nat → Int64)) ⊕ Int32) × Nat) :=
(f_Store_there c_set c_c c_cl c_rt c_ub c_un).bind fun r1 =>
(f_Model_there c_msort c_cnt c_cur c_thr c_fst c_snd c_let c_many c_ord).bind fun r3 =>
if r1 = r3.1 then
(nm (x4 + 6) fun v6 =>
some (.inl (v6, c_set, c_c, c_cl, c_mv, c_ml, c_en, c_rt, c_fr, c_br, c_fi, c_st, c_vz, c_lb, c_ln, c_lt, c_hb, c_hn, c_ht, c_ab, c_an, c_at, c_bb, c_bn, c_bt, c_ub, c_un, c_ut, c_gb, c_gn, c_gt, c_cnt, c_frees, c_cur, r3.2, c_fst, c_snd, c_let, c_many, c_val, c_ord, c_free, c_code, c_next, c_com, c_met, c_out), 0))
else
(some (.inr 0, 0))
set_option maxHeartbeats 8000000 in
set_option maxRecDepth 100000 in
theorem w_Law_765 (xp : Program) (l : Launch) (xe : Env) (xs : State) (xm : MethodId) (xb : List Frame) (xme : Method) (xc : Code) (Q : State → Prop) (A : Nat → Prop) (G : zG) (b rc : Nat) (a_s a_t a_ao a_bo a_uo a_go a_fr a_br a_e0 a_e1 a_e2 a_e3 a_lo a_ho a_lq a_hq a_aq a_bq a_uq a_gq a_m a_mfst a_msnd a_mlet a_mmany a_mval a_mord a_mfree a_mcode a_mnext a_mcom a_mmet a_out : Nat) (c_sort : Int32) (c_msort : Int32) (sl : Nat) (sx : Nat → Int32) (hfl : l.flags = flags0) (hB : rc ≤ 7129) (C0 : lwC xp xs xm xc A G b sl sx) (c_set : Int32) (c_c : (Nat → Int32)) (c_cl : Nat) (c_mv : (Nat → Int32)) (c_ml : Nat) (c_en : Int32) (c_rt : Int32) (c_fr : (Nat → Int32)) (c_br : (Nat → Int32)) (c_fi : Int64) (c_st : Int64) (c_vz : Int64) (c_lb : (Nat → Int32)) (c_ln : Int32) (c_lt : Int32) (c_hb : (Nat → Int32)) (c_hn : Int32) (c_ht : Int32) (c_ab : (Nat → Int32)) (c_an : Int32) (c_at : Int32) (c_bb : (Nat → Int32)) (c_bn : Int32) (c_bt : Int32) (c_ub : (Nat → Int32)) (c_un : Int32) (c_ut : Int32) (c_gb : (Nat → Int32)) (c_gn : Int32) (c_gt : Int32) (c_cnt : Int32) (c_frees : Int32) (c_cur : Int32) (c_thr : Int32) (c_fst : (Nat → Int64)) (c_snd : (Nat → Int64)) (c_let : (Nat → Int32)) (c_many : (Nat → Int32)) (c_val : (Nat → Int64)) (c_ord : (Nat → Int32)) (c_free : (Nat → Int32)) (c_code : (Nat → Int32)) (c_next : (Nat → Int32)) (c_com : (Nat → Int32)) (c_met : (Nat → Int32)) (c_out : (Nat → Int64)) (x4 : Int32) (x9 : (Int32 × Int32 × (Nat → Int32) × Nat × (Nat → Int32) × Nat × Int32 × Int32 × (Nat → Int32) × (Nat → Int32) × Int64 × Int64 × Int64 × (Nat → Int32) × Int32 × Int32 × (Nat → Int32) × Int32 × Int32 × (Nat → Int32) × Int32 × Int32 × (Nat → Int32) × Int32 × Int32 × (Nat → Int32) × Int32 × Int32 × (Nat → Int32) × Int32 × Int32 × Int32 × Int32 × Int32 × Int32 × (Nat → Int64) × (Nat → Int64) × (Nat → Int32) × (Nat → Int32) × (Nat → Int64) × (Nat → Int32) × (Nat → Int32) × (Nat → Int32) × (Nat → Int32) × (Nat → Int32) × (Nat → Int32) × (Nat → Int64)) ⊕ Int32) (d9 e9 : Nat) (h : k_Law_765 sl sx c_sort c_msort c_set c_c c_cl c_mv c_ml c_en c_rt c_fr c_br c_fi c_st c_vz c_lb c_ln c_lt c_hb c_hn c_ht c_ab c_an c_at c_bb c_bn c_bt c_ub c_un c_ut c_gb c_gn c_gt c_cnt c_frees c_cur c_thr c_fst c_snd c_let c_many c_val c_ord c_free c_code c_next c_com c_met c_out x4 = some (x9, d9)) (hc : ∀ v', x9 = .inl v' → ∃ e', e9 = d9 + e' ∧ lwPP xp l xe xs xm xb xme xc Q A G b rc a_s a_t a_ao a_bo a_uo a_go a_fr a_br a_e0 a_e1 a_e2 a_e3 a_lo a_ho a_lq a_hq a_aq a_bq a_uq a_gq a_m a_mfst a_msnd a_mlet a_mmany a_mval a_mord a_mfree a_mcode a_mnext a_mcom a_mmet a_out c_sort c_msort v' e') (he : ∀ t, x9 = .inr t → t = 1 ∧ e9 = d9) (hde : d9 ≤ e9) (k0 : Nat) (hk9 : rc = k0 + e9) (q1 q2 : Nat) (H : Heap) (locs : List Loc) (ls : Array Slot) (hP : va_P G.1 classes (wB G a_s a_t a_ao a_bo a_uo a_go c_sort c_set ++ wT G a_t q1 q2 a_fr a_br a_e0 a_e1 a_e2 a_e3 a_lo a_ho c_c c_cl c_mv c_ml c_en c_rt c_fr c_br c_fi c_st c_vz ++ wK G a_lo a_lq c_lb c_ln c_lt ++ wK G a_ho a_hq c_hb c_hn c_ht ++ wK G a_ao a_aq c_ab c_an c_at ++ wK G a_bo a_bq c_bb c_bn c_bt ++ wK G a_uo a_uq c_ub c_un c_ut ++ wK G a_go a_gq c_gb c_gn c_gt ++ wM G a_m a_mfst a_msnd a_mlet a_mmany a_mval a_mord a_mfree a_mcode a_mnext a_mcom a_mmet c_msort c_cnt c_frees c_cur c_thr c_fst c_snd c_let c_many c_val c_ord c_free c_code c_next c_com c_met ++ wO G a_out c_out) H) (hD : va_D A (wB G a_s a_t a_ao a_bo a_uo a_go c_sort c_set ++ wT G a_t q1 q2 a_fr a_br a_e0 a_e1 a_e2 a_e3 a_lo a_ho c_c c_cl c_mv c_ml c_en c_rt c_fr c_br c_fi c_st c_vz ++ wK G a_lo a_lq c_lb c_ln c_lt ++ wK G a_ho a_hq c_hb c_hn c_ht ++ wK G a_ao a_aq c_ab c_an c_at ++ wK G a_bo a_bq c_bb c_bn c_bt ++ wK G a_uo a_uq c_ub c_un c_ut ++ wK G a_go a_gq c_gb c_gn c_gt ++ wM G a_m a_mfst a_msnd a_mlet a_mmany a_mval a_mord a_mfree a_mcode a_mnext a_mcom a_mmet c_msort c_cnt c_frees c_cur c_thr c_fst c_snd c_let c_many c_val c_ord c_free c_code c_next c_com c_met ++ wO G a_out c_out)) (hS : va_S A xs.heap H locs) (hl : lv_has ls 8 [(0, .ref b), (1, .ref a_s), (2, .ref a_m), (3, .ref a_out), (4, .int x4)]) :
    W xp l xe room_1 xs xm #[Value.ref b] xb xme xc H locs k0 (1024 * k0) Q (F0 xm 765 ls []) := by
  obtain ⟨hx, hb, hts, hown, hml, hN, hTs, hK, hX, hbl, hA, hA2⟩ := C0
  have hbA : ¬ A b := fun h => absurd (hA2 b h) (Nat.not_le.mpr hbl)
  have hnA : ∀ (a : Nat) (cell : Cell), xs.heap[a]? = some cell → cell.vm.isStatics = true → ¬ A a := fun a cell hc _ h => absurd (hA2 a h) (Nat.not_le.mpr (Array.getElem?_eq_some_iff.mp hc).1)
  unfold k_Law_765 at h
  have hRa : x9 = (x9, d9).1 := rfl
  have hRc : k0 + d9 = k0 + (x9, d9).2 := rfl
  refine lv_aload_n hx hb d_law_765 rfl (lv_at hl 1 rfl) ?_
  obtain ⟨r1, hr1, h⟩ := ob h
  refine zpcalli (wr := [(a_lo, .inr (0, [.ref a_lq, .int c_ln, .int c_lt])), (a_lq, .inl (G.2.2.1, 50, .inl c_lb)), (a_ho, .inr (0, [.ref a_hq, .int c_hn, .int c_ht])), (a_hq, .inl (G.2.2.1, 50, .inl c_hb)), (a_ao, .inr (0, [.ref a_aq, .int c_an, .int c_at])), (a_aq, .inl (G.2.2.1, 50, .inl c_ab)), (a_bo, .inr (0, [.ref a_bq, .int c_bn, .int c_bt])), (a_bq, .inl (G.2.2.1, 50, .inl c_bb)), (a_go, .inr (0, [.ref a_gq, .int c_gn, .int c_gt])), (a_gq, .inl (G.2.2.1, 50, .inl c_gb)), (a_m, .inr (6, [.int c_msort, .ref a_mfst, .ref a_msnd, .ref a_mlet, .ref a_mmany, .ref a_mval, .ref a_mord, .int c_cnt, .ref a_mfree, .int c_frees, .int c_cur, .int c_thr, .ref a_mcode, .ref a_mnext, .ref a_mcom, .ref a_mmet])), (a_mfst, .inl (G.2.2.2, 1503, .inr (.inl c_fst))), (a_msnd, .inl (G.2.2.2, 1503, .inr (.inl c_snd))), (a_mlet, .inl (G.2.1, 36072, .inl c_let)), (a_mmany, .inl (G.2.1, 1503, .inl c_many)), (a_mval, .inl (G.2.2.2, 1500, .inr (.inl c_val))), (a_mord, .inl (G.2.1, 1500, .inl c_ord)), (a_mfree, .inl (G.2.1, 1500, .inl c_free)), (a_mcode, .inl (G.2.1, 50, .inl c_code)), (a_mnext, .inl (G.2.1, 50, .inl c_next)), (a_mcom, .inl (G.2.1, 1500, .inl c_com)), (a_mmet, .inl (G.2.1, 50, .inl c_met)), (a_out, .inl (G.2.2.2, 1, .inr (.inl c_out)))]) (w2 := fun _ => (wB G a_s a_t a_ao a_bo a_uo a_go c_sort c_set ++ wT G a_t q1 q2 a_fr a_br a_e0 a_e1 a_e2 a_e3 a_lo a_ho c_c c_cl c_mv c_ml c_en c_rt c_fr c_br c_fi c_st c_vz ++ wK G a_lo a_lq c_lb c_ln c_lt ++ wK G a_ho a_hq c_hb c_hn c_ht ++ wK G a_ao a_aq c_ab c_an c_at ++ wK G a_bo a_bq c_bb c_bn c_bt ++ wK G a_uo a_uq c_ub c_un c_ut ++ wK G a_go a_gq c_gb c_gn c_gt ++ wM G a_m a_mfst a_msnd a_mlet a_mmany a_mval a_mord a_mfree a_mcode a_mnext a_mcom a_mmet c_msort c_cnt c_frees c_cur c_thr c_fst c_snd c_let c_many c_val c_ord c_free c_code c_next c_com c_met ++ wO G a_out c_out)) (zrunV (As := []) (rest := []) ⟨hx, hb, hml, hown, hts⟩ hN hK (c_Store_there l G H.size a_s a_t a_ao a_bo a_uo a_go q1 q2 a_fr a_br a_e0 a_e1 a_e2 a_e3 a_lo a_ho a_uq c_sort c_set c_c c_cl c_mv c_ml c_en c_rt c_fr c_br c_fi c_st c_vz c_ub c_un c_ut r1 hr1) ⟨rfl, rfl⟩ kv_Law_136 ⟨Nat.le_of_ble_eq_true rfl, Nat.le_of_ble_eq_true rfl⟩ 0 rfl rfl rfl hl.1 (Nat.le_of_ble_eq_true rfl) d_law_766 ⟨by show _ ≤ 600128; omega, by show _ ≤ 7301064; omega⟩) hP hD hS hA [0, 1, 2, 3, 4, 5, 6, 7, 8, 9, 18, 19] [10, 11, 12, 13, 14, 15, 16, 17, 20, 21, 22, 23, 24, 25, 26, 27, 28, 29, 30, 31, 32, 33, 34] [23, 24, 25, 26, 27, 28, 29, 30, 31, 32, 0, 1, 2, 3, 4, 5, 6, 7, 33, 34, 8, 9, 10, 11, 12, 13, 14, 15, 16, 17, 18, 19, 20, 21, 22] rfl rfl rfl rfl (by decide) rfl (fun _ => rfl) (fun rr _ H hw hP hD hS => ?_)
  obtain ⟨hw, hz2⟩ := hw
  have hw := hw.symm
  subst hw
  refine lv_aload_n hx hb d_law_769 rfl (lv_at hl 2 rfl) ?_
  obtain ⟨r3, hr3, h⟩ := ob h
  refine zcalli (wr := [(a_s, .inr (5, [.int c_sort, .ref a_t, .ref a_ao, .ref a_bo, .ref a_uo, .int c_set, .ref a_go])), (a_t, .inr (4, [.ref q1, .ref q2, .int c_en, .int c_rt, .ref a_fr, .ref a_e0, .ref a_e1, .ref a_e2, .ref a_e3, .ref a_br, .ref a_lo, .ref a_ho, .long c_fi, .long c_st, .long c_vz])), (q1, .inl (G.2.1, c_cl, .inl c_c)), (q2, .inl (G.2.1, c_ml, .inl c_mv)), (a_fr, .inl (G.2.1, 261, .inl c_fr)), (a_br, .inl (G.2.1, 4, .inl c_br)), (a_e0, .inr (1, [.int 0, .int 9, .int 4, .int 5])), (a_e1, .inr (1, [.int 1, .int 24, .int 16, .int 8])), (a_e2, .inr (2, [.int 2, .int 116, .int 48])), (a_e3, .inr (3, [.int 3, .int 260, .int 256])), (a_lo, .inr (0, [.ref a_lq, .int c_ln, .int c_lt])), (a_lq, .inl (G.2.2.1, 50, .inl c_lb)), (a_ho, .inr (0, [.ref a_hq, .int c_hn, .int c_ht])), (a_hq, .inl (G.2.2.1, 50, .inl c_hb)), (a_ao, .inr (0, [.ref a_aq, .int c_an, .int c_at])), (a_aq, .inl (G.2.2.1, 50, .inl c_ab)), (a_bo, .inr (0, [.ref a_bq, .int c_bn, .int c_bt])), (a_bq, .inl (G.2.2.1, 50, .inl c_bb)), (a_uo, .inr (0, [.ref a_uq, .int c_un, .int c_ut])), (a_uq, .inl (G.2.2.1, 50, .inl c_ub)), (a_go, .inr (0, [.ref a_gq, .int c_gn, .int c_gt])), (a_gq, .inl (G.2.2.1, 50, .inl c_gb)), (a_out, .inl (G.2.2.2, 1, .inr (.inl c_out)))]) (w2 := fun _ => (wB G a_s a_t a_ao a_bo a_uo a_go c_sort c_set ++ wT G a_t q1 q2 a_fr a_br a_e0 a_e1 a_e2 a_e3 a_lo a_ho c_c c_cl c_mv c_ml c_en c_rt c_fr c_br c_fi c_st c_vz ++ wK G a_lo a_lq c_lb c_ln c_lt ++ wK G a_ho a_hq c_hb c_hn c_ht ++ wK G a_ao a_aq c_ab c_an c_at ++ wK G a_bo a_bq c_bb c_bn c_bt ++ wK G a_uo a_uq c_ub c_un c_ut ++ wK G a_go a_gq c_gb c_gn c_gt ++ wM G a_m a_mfst a_msnd a_mlet a_mmany a_mval a_mord a_mfree a_mcode a_mnext a_mcom a_mmet c_msort c_cnt c_frees c_cur r3.2 c_fst c_snd c_let c_many c_val c_ord c_free c_code c_next c_com c_met ++ wO G a_out c_out)) (zrunV (As := []) (rest := [.int r1]) ⟨hx, hb, hml, hown, hts⟩ hN hK (c_Model_there l G H.size a_m a_mfst a_msnd a_mlet a_mmany a_mval a_mord a_mfree a_mcode a_mnext a_mcom a_mmet c_msort c_cnt c_frees c_cur c_thr c_fst c_snd c_let c_many c_val c_ord c_free c_code c_next c_com c_met r3 hr3) ⟨rfl, rfl⟩ kv_Law_140 ⟨Nat.le_of_ble_eq_true rfl, Nat.le_of_ble_eq_true rfl⟩ 0 rfl rfl rfl hl.1 (Nat.le_of_ble_eq_true rfl) d_law_770 ⟨by show _ ≤ 600128; omega, by show _ ≤ 7301064; omega⟩) hP hD hS hA [22, 23, 24, 25, 26, 27, 28, 29, 30, 31, 32, 33] [0, 1, 2, 3, 4, 5, 6, 7, 8, 9, 10, 11, 12, 13, 14, 15, 16, 17, 18, 19, 20, 21, 34] [0, 1, 2, 3, 4, 5, 6, 7, 8, 9, 10, 11, 12, 13, 14, 15, 16, 17, 18, 19, 20, 21, 23, 24, 25, 26, 27, 28, 29, 30, 31, 32, 33, 34, 22] rfl rfl rfl rfl (by decide) rfl (fun _ => rfl) (fun rr _ H locs hw hP hD hS => ?_)
  obtain ⟨hw, hz4⟩ := hw
  have hw := hw.symm
  subst hw
  refine lv_icmp_eq (tgt := 1245) hx hb d_law_773 (by decide) (fun q5 => ?_) (fun q5 => ?_)
  · have h := it h q5
    obtain ⟨v6, ev6⟩ : ∃ y : Int32, y = x4 + 6 := ⟨_, rfl⟩
    have h := nm_k h v6 ev6
    refine lv_iinc (v := v6) (lv' := [(4, .int v6), (0, .ref b), (1, .ref a_s), (2, .ref a_m), (3, .ref a_out)]) hx hb d_law_1245 hl (k := 4) rfl (by rw [ev6]; rfl) (by decide) rfl (fun ls hl => ?_)
    refine lv_goto (tgt := 33) hx hb d_law_1248 (by decide) ?_
    have ey := Option.some.inj h
    rw [← ey] at hRa hRc
    have hRc : k0 + d9 = k0 + 0 := hRc
    obtain ⟨e8, he8, hP8⟩ := hc _ hRa
    exact hP8 (k0) (by omega) q1 q2 H locs ls hP hD hS (lv_sub hl [1, 2, 3, 4, 0] rfl)
  · have h := ie h q5
    refine lv_iconst (v := 0) hx hb d_law_776 (by decide) ?_
    have ey := Option.some.inj h
    rw [← ey] at hRa
    obtain ⟨ey2, ed9⟩ := he _ hRa
    exact absurd ey2 (by decide)

noncomputable def k_Law_778 (sl : Nat) (sx : Nat → Int32) (c_sort c_msort : Int32) (c_set : Int32) (c_c : (Nat → Int32)) (c_cl : Nat) (c_mv : (Nat → Int32)) (c_ml : Nat) (c_en : Int32) (c_rt : Int32) (c_fr : (Nat → Int32)) (c_br : (Nat → Int32)) (c_fi : Int64) (c_st : Int64) (c_vz : Int64) (c_lb : (Nat → Int32)) (c_ln : Int32) (c_lt : Int32) (c_hb : (Nat → Int32)) (c_hn : Int32) (c_ht : Int32) (c_ab : (Nat → Int32)) (c_an : Int32) (c_at : Int32) (c_bb : (Nat → Int32)) (c_bn : Int32) (c_bt : Int32) (c_ub : (Nat → Int32)) (c_un : Int32) (c_ut : Int32) (c_gb : (Nat → Int32)) (c_gn : Int32) (c_gt : Int32) (c_cnt : Int32) (c_frees : Int32) (c_cur : Int32) (c_thr : Int32) (c_fst : (Nat → Int64)) (c_snd : (Nat → Int64)) (c_let : (Nat → Int32)) (c_many : (Nat → Int32)) (c_val : (Nat → Int64)) (c_ord : (Nat → Int32)) (c_free : (Nat → Int32)) (c_code : (Nat → Int32)) (c_next : (Nat → Int32)) (c_com : (Nat → Int32)) (c_met : (Nat → Int32)) (c_out : (Nat → Int64)) (x4 : Int32) : Option (((Int32 × Int32 × (Nat → Int32) × Nat × (Nat → Int32) × Nat × Int32 × Int32 × (Nat → Int32) × (Nat → Int32) × Int64 × Int64 × Int64 × (Nat → Int32) × Int32 × Int32 × (Nat → Int32) × Int32 × Int32 × (Nat → Int32) × Int32 × Int32 × (Nat → Int32) × Int32 × Int32 × (Nat → Int32) × Int32 × Int32 × (Nat → Int32) × Int32 × Int32 × Int32 × Int32 × Int32 × Int32 × (Nat → Int64) × (Nat → Int64) × (Nat → Int32) × (Nat → Int32) × (Nat → Int64) × (Nat → Int32) × (Nat → Int32) × (Nat → Int32) × (Nat → Int32) × (Nat → Int32) × (Nat → Int32) × (Nat → Int64)) ⊕ Int32) × Nat) :=
bd (f_Law_length c_sort c_set c_ut c_out) fun r1 =>
(f_Model_length c_msort c_cur c_thr c_many).bind fun r3 =>
(f_Model_thrown r3.2).bind fun r4 =>
if r4 = r1.1 then
(if r1.1 = 0 then
(gi 0 1 <|
if (lg_cmp (r1.2 (0 : Int32).toNatClampNeg) r3.1.toInt64) = 0 then
(nm (x4 + 6) fun v10 =>
some (.inl (v10, c_set, c_c, c_cl, c_mv, c_ml, c_en, c_rt, c_fr, c_br, c_fi, c_st, c_vz, c_lb, c_ln, c_lt, c_hb, c_hn, c_ht, c_ab, c_an, c_at, c_bb, c_bn, c_bt, c_ub, c_un, c_ut, c_gb, c_gn, c_gt, c_cnt, c_frees, c_cur, r3.2, c_fst, c_snd, c_let, c_many, c_val, c_ord, c_free, c_code, c_next, c_com, c_met, r1.2), 0))
else
(some (.inr 0, 0)))
else
(nm (x4 + 6) fun v7 =>
some (.inl (v7, c_set, c_c, c_cl, c_mv, c_ml, c_en, c_rt, c_fr, c_br, c_fi, c_st, c_vz, c_lb, c_ln, c_lt, c_hb, c_hn, c_ht, c_ab, c_an, c_at, c_bb, c_bn, c_bt, c_ub, c_un, c_ut, c_gb, c_gn, c_gt, c_cnt, c_frees, c_cur, r3.2, c_fst, c_snd, c_let, c_many, c_val, c_ord, c_free, c_code, c_next, c_com, c_met, r1.2), 0)))
else
(some (.inr 0, 0))
set_option maxHeartbeats 8000000 in
set_option maxRecDepth 100000 in
theorem w_Law_778 (xp : Program) (l : Launch) (xe : Env) (xs : State) (xm : MethodId) (xb : List Frame) (xme : Method) (xc : Code) (Q : State → Prop) (A : Nat → Prop) (G : zG) (b rc : Nat) (a_s a_t a_ao a_bo a_uo a_go a_fr a_br a_e0 a_e1 a_e2 a_e3 a_lo a_ho a_lq a_hq a_aq a_bq a_uq a_gq a_m a_mfst a_msnd a_mlet a_mmany a_mval a_mord a_mfree a_mcode a_mnext a_mcom a_mmet a_out : Nat) (c_sort : Int32) (c_msort : Int32) (sl : Nat) (sx : Nat → Int32) (hfl : l.flags = flags0) (hB : rc ≤ 7129) (C0 : lwC xp xs xm xc A G b sl sx) (c_set : Int32) (c_c : (Nat → Int32)) (c_cl : Nat) (c_mv : (Nat → Int32)) (c_ml : Nat) (c_en : Int32) (c_rt : Int32) (c_fr : (Nat → Int32)) (c_br : (Nat → Int32)) (c_fi : Int64) (c_st : Int64) (c_vz : Int64) (c_lb : (Nat → Int32)) (c_ln : Int32) (c_lt : Int32) (c_hb : (Nat → Int32)) (c_hn : Int32) (c_ht : Int32) (c_ab : (Nat → Int32)) (c_an : Int32) (c_at : Int32) (c_bb : (Nat → Int32)) (c_bn : Int32) (c_bt : Int32) (c_ub : (Nat → Int32)) (c_un : Int32) (c_ut : Int32) (c_gb : (Nat → Int32)) (c_gn : Int32) (c_gt : Int32) (c_cnt : Int32) (c_frees : Int32) (c_cur : Int32) (c_thr : Int32) (c_fst : (Nat → Int64)) (c_snd : (Nat → Int64)) (c_let : (Nat → Int32)) (c_many : (Nat → Int32)) (c_val : (Nat → Int64)) (c_ord : (Nat → Int32)) (c_free : (Nat → Int32)) (c_code : (Nat → Int32)) (c_next : (Nat → Int32)) (c_com : (Nat → Int32)) (c_met : (Nat → Int32)) (c_out : (Nat → Int64)) (x4 : Int32) (x9 : (Int32 × Int32 × (Nat → Int32) × Nat × (Nat → Int32) × Nat × Int32 × Int32 × (Nat → Int32) × (Nat → Int32) × Int64 × Int64 × Int64 × (Nat → Int32) × Int32 × Int32 × (Nat → Int32) × Int32 × Int32 × (Nat → Int32) × Int32 × Int32 × (Nat → Int32) × Int32 × Int32 × (Nat → Int32) × Int32 × Int32 × (Nat → Int32) × Int32 × Int32 × Int32 × Int32 × Int32 × Int32 × (Nat → Int64) × (Nat → Int64) × (Nat → Int32) × (Nat → Int32) × (Nat → Int64) × (Nat → Int32) × (Nat → Int32) × (Nat → Int32) × (Nat → Int32) × (Nat → Int32) × (Nat → Int32) × (Nat → Int64)) ⊕ Int32) (d9 e9 : Nat) (h : k_Law_778 sl sx c_sort c_msort c_set c_c c_cl c_mv c_ml c_en c_rt c_fr c_br c_fi c_st c_vz c_lb c_ln c_lt c_hb c_hn c_ht c_ab c_an c_at c_bb c_bn c_bt c_ub c_un c_ut c_gb c_gn c_gt c_cnt c_frees c_cur c_thr c_fst c_snd c_let c_many c_val c_ord c_free c_code c_next c_com c_met c_out x4 = some (x9, d9)) (hc : ∀ v', x9 = .inl v' → ∃ e', e9 = d9 + e' ∧ lwPP xp l xe xs xm xb xme xc Q A G b rc a_s a_t a_ao a_bo a_uo a_go a_fr a_br a_e0 a_e1 a_e2 a_e3 a_lo a_ho a_lq a_hq a_aq a_bq a_uq a_gq a_m a_mfst a_msnd a_mlet a_mmany a_mval a_mord a_mfree a_mcode a_mnext a_mcom a_mmet a_out c_sort c_msort v' e') (he : ∀ t, x9 = .inr t → t = 1 ∧ e9 = d9) (hde : d9 ≤ e9) (k0 : Nat) (hk9 : rc = k0 + e9) (q1 q2 : Nat) (H : Heap) (locs : List Loc) (ls : Array Slot) (hP : va_P G.1 classes (wB G a_s a_t a_ao a_bo a_uo a_go c_sort c_set ++ wT G a_t q1 q2 a_fr a_br a_e0 a_e1 a_e2 a_e3 a_lo a_ho c_c c_cl c_mv c_ml c_en c_rt c_fr c_br c_fi c_st c_vz ++ wK G a_lo a_lq c_lb c_ln c_lt ++ wK G a_ho a_hq c_hb c_hn c_ht ++ wK G a_ao a_aq c_ab c_an c_at ++ wK G a_bo a_bq c_bb c_bn c_bt ++ wK G a_uo a_uq c_ub c_un c_ut ++ wK G a_go a_gq c_gb c_gn c_gt ++ wM G a_m a_mfst a_msnd a_mlet a_mmany a_mval a_mord a_mfree a_mcode a_mnext a_mcom a_mmet c_msort c_cnt c_frees c_cur c_thr c_fst c_snd c_let c_many c_val c_ord c_free c_code c_next c_com c_met ++ wO G a_out c_out) H) (hD : va_D A (wB G a_s a_t a_ao a_bo a_uo a_go c_sort c_set ++ wT G a_t q1 q2 a_fr a_br a_e0 a_e1 a_e2 a_e3 a_lo a_ho c_c c_cl c_mv c_ml c_en c_rt c_fr c_br c_fi c_st c_vz ++ wK G a_lo a_lq c_lb c_ln c_lt ++ wK G a_ho a_hq c_hb c_hn c_ht ++ wK G a_ao a_aq c_ab c_an c_at ++ wK G a_bo a_bq c_bb c_bn c_bt ++ wK G a_uo a_uq c_ub c_un c_ut ++ wK G a_go a_gq c_gb c_gn c_gt ++ wM G a_m a_mfst a_msnd a_mlet a_mmany a_mval a_mord a_mfree a_mcode a_mnext a_mcom a_mmet c_msort c_cnt c_frees c_cur c_thr c_fst c_snd c_let c_many c_val c_ord c_free c_code c_next c_com c_met ++ wO G a_out c_out)) (hS : va_S A xs.heap H locs) (hl : lv_has ls 8 [(0, .ref b), (1, .ref a_s), (2, .ref a_m), (3, .ref a_out), (4, .int x4)]) :
    W xp l xe room_1 xs xm #[Value.ref b] xb xme xc H locs k0 (1024 * k0) Q (F0 xm 778 ls []) := by
  obtain ⟨hx, hb, hts, hown, hml, hN, hTs, hK, hX, hbl, hA, hA2⟩ := C0
  have hbA : ¬ A b := fun h => absurd (hA2 b h) (Nat.not_le.mpr hbl)
  have hnA : ∀ (a : Nat) (cell : Cell), xs.heap[a]? = some cell → cell.vm.isStatics = true → ¬ A a := fun a cell hc _ h => absurd (hA2 a h) (Nat.not_le.mpr (Array.getElem?_eq_some_iff.mp hc).1)
  unfold k_Law_778 at h
  have hRa : x9 = (x9, d9).1 := rfl
  have hRc : k0 + d9 = k0 + (x9, d9).2 := rfl
  refine lv_aload_n hx hb d_law_778 rfl (lv_at hl 1 rfl) ?_
  refine lv_aload_n hx hb d_law_779 rfl (lv_at hl 3 rfl) ?_
  obtain ⟨r1, dr1, y2, hr1, h, hRa, hRc⟩ := bd_k h hRa hRc
  refine zcalli (wr := [(a_t, .inr (4, [.ref q1, .ref q2, .int c_en, .int c_rt, .ref a_fr, .ref a_e0, .ref a_e1, .ref a_e2, .ref a_e3, .ref a_br, .ref a_lo, .ref a_ho, .long c_fi, .long c_st, .long c_vz])), (q1, .inl (G.2.1, c_cl, .inl c_c)), (q2, .inl (G.2.1, c_ml, .inl c_mv)), (a_fr, .inl (G.2.1, 261, .inl c_fr)), (a_br, .inl (G.2.1, 4, .inl c_br)), (a_e0, .inr (1, [.int 0, .int 9, .int 4, .int 5])), (a_e1, .inr (1, [.int 1, .int 24, .int 16, .int 8])), (a_e2, .inr (2, [.int 2, .int 116, .int 48])), (a_e3, .inr (3, [.int 3, .int 260, .int 256])), (a_lo, .inr (0, [.ref a_lq, .int c_ln, .int c_lt])), (a_lq, .inl (G.2.2.1, 50, .inl c_lb)), (a_ho, .inr (0, [.ref a_hq, .int c_hn, .int c_ht])), (a_hq, .inl (G.2.2.1, 50, .inl c_hb)), (a_ao, .inr (0, [.ref a_aq, .int c_an, .int c_at])), (a_aq, .inl (G.2.2.1, 50, .inl c_ab)), (a_bo, .inr (0, [.ref a_bq, .int c_bn, .int c_bt])), (a_bq, .inl (G.2.2.1, 50, .inl c_bb)), (a_go, .inr (0, [.ref a_gq, .int c_gn, .int c_gt])), (a_gq, .inl (G.2.2.1, 50, .inl c_gb)), (a_m, .inr (6, [.int c_msort, .ref a_mfst, .ref a_msnd, .ref a_mlet, .ref a_mmany, .ref a_mval, .ref a_mord, .int c_cnt, .ref a_mfree, .int c_frees, .int c_cur, .int c_thr, .ref a_mcode, .ref a_mnext, .ref a_mcom, .ref a_mmet])), (a_mfst, .inl (G.2.2.2, 1503, .inr (.inl c_fst))), (a_msnd, .inl (G.2.2.2, 1503, .inr (.inl c_snd))), (a_mlet, .inl (G.2.1, 36072, .inl c_let)), (a_mmany, .inl (G.2.1, 1503, .inl c_many)), (a_mval, .inl (G.2.2.2, 1500, .inr (.inl c_val))), (a_mord, .inl (G.2.1, 1500, .inl c_ord)), (a_mfree, .inl (G.2.1, 1500, .inl c_free)), (a_mcode, .inl (G.2.1, 50, .inl c_code)), (a_mnext, .inl (G.2.1, 50, .inl c_next)), (a_mcom, .inl (G.2.1, 1500, .inl c_com)), (a_mmet, .inl (G.2.1, 50, .inl c_met))]) (w2 := fun _ => (wB G a_s a_t a_ao a_bo a_uo a_go c_sort c_set ++ wT G a_t q1 q2 a_fr a_br a_e0 a_e1 a_e2 a_e3 a_lo a_ho c_c c_cl c_mv c_ml c_en c_rt c_fr c_br c_fi c_st c_vz ++ wK G a_lo a_lq c_lb c_ln c_lt ++ wK G a_ho a_hq c_hb c_hn c_ht ++ wK G a_ao a_aq c_ab c_an c_at ++ wK G a_bo a_bq c_bb c_bn c_bt ++ wK G a_uo a_uq c_ub c_un c_ut ++ wK G a_go a_gq c_gb c_gn c_gt ++ wM G a_m a_mfst a_msnd a_mlet a_mmany a_mval a_mord a_mfree a_mcode a_mnext a_mcom a_mmet c_msort c_cnt c_frees c_cur c_thr c_fst c_snd c_let c_many c_val c_ord c_free c_code c_next c_com c_met ++ wO G a_out r1.2)) (fun hPc hDc => zrunSW (As := [.ref a_s, .ref a_out]) (rest := []) ⟨hx, hb, hml, hown, hts⟩ hN hTs hnA hS hK (c_Law_length l G hfl H.size a_s a_t a_ao a_bo a_uo a_go a_uq a_out c_sort c_set c_ub c_un c_ut c_out r1 dr1 hr1) ⟨rfl, rfl⟩ kw_141 ⟨Nat.le_of_ble_eq_true rfl, Nat.le_of_ble_eq_true rfl⟩ rfl hl.1 (Nat.le_of_ble_eq_true rfl) d_law_780 ⟨by show _ ≤ 600128; omega, by show _ ≤ 7301064; omega⟩ hPc hDc) hP hD hS hA [0, 18, 19, 34] [1, 2, 3, 4, 5, 6, 7, 8, 9, 10, 11, 12, 13, 14, 15, 16, 17, 20, 21, 22, 23, 24, 25, 26, 27, 28, 29, 30, 31, 32, 33] [31, 0, 1, 2, 3, 4, 5, 6, 7, 8, 9, 10, 11, 12, 13, 14, 15, 16, 32, 33, 17, 18, 19, 20, 21, 22, 23, 24, 25, 26, 27, 28, 29, 30, 34] rfl rfl rfl rfl (by decide) rfl (fun _ => rfl) (fun rr _ H locs hw hP hD hS => ?_)
  refine W.widen (k := k0 + dr1) (n := 1024 * (k0 + dr1)) (by omega) (by omega) ?_
  have hw := hw.symm
  subst hw
  refine lv_istore (lv' := [(5, .int r1.1), (0, .ref b), (1, .ref a_s), (2, .ref a_m), (3, .ref a_out), (4, .int x4)]) hx hb d_law_783 hl (by decide) rfl (fun ls hl => ?_)
  refine lv_aload_n hx hb d_law_785 rfl (lv_at hl 3 rfl) ?_
  obtain ⟨r3, hr3, h⟩ := ob h
  refine zcalli (wr := [(a_s, .inr (5, [.int c_sort, .ref a_t, .ref a_ao, .ref a_bo, .ref a_uo, .int c_set, .ref a_go])), (a_t, .inr (4, [.ref q1, .ref q2, .int c_en, .int c_rt, .ref a_fr, .ref a_e0, .ref a_e1, .ref a_e2, .ref a_e3, .ref a_br, .ref a_lo, .ref a_ho, .long c_fi, .long c_st, .long c_vz])), (q1, .inl (G.2.1, c_cl, .inl c_c)), (q2, .inl (G.2.1, c_ml, .inl c_mv)), (a_fr, .inl (G.2.1, 261, .inl c_fr)), (a_br, .inl (G.2.1, 4, .inl c_br)), (a_e0, .inr (1, [.int 0, .int 9, .int 4, .int 5])), (a_e1, .inr (1, [.int 1, .int 24, .int 16, .int 8])), (a_e2, .inr (2, [.int 2, .int 116, .int 48])), (a_e3, .inr (3, [.int 3, .int 260, .int 256])), (a_lo, .inr (0, [.ref a_lq, .int c_ln, .int c_lt])), (a_lq, .inl (G.2.2.1, 50, .inl c_lb)), (a_ho, .inr (0, [.ref a_hq, .int c_hn, .int c_ht])), (a_hq, .inl (G.2.2.1, 50, .inl c_hb)), (a_ao, .inr (0, [.ref a_aq, .int c_an, .int c_at])), (a_aq, .inl (G.2.2.1, 50, .inl c_ab)), (a_bo, .inr (0, [.ref a_bq, .int c_bn, .int c_bt])), (a_bq, .inl (G.2.2.1, 50, .inl c_bb)), (a_uo, .inr (0, [.ref a_uq, .int c_un, .int c_ut])), (a_uq, .inl (G.2.2.1, 50, .inl c_ub)), (a_go, .inr (0, [.ref a_gq, .int c_gn, .int c_gt])), (a_gq, .inl (G.2.2.1, 50, .inl c_gb)), (a_out, .inl (G.2.2.2, 1, .inr (.inl r1.2)))]) (w2 := fun _ => (wB G a_s a_t a_ao a_bo a_uo a_go c_sort c_set ++ wT G a_t q1 q2 a_fr a_br a_e0 a_e1 a_e2 a_e3 a_lo a_ho c_c c_cl c_mv c_ml c_en c_rt c_fr c_br c_fi c_st c_vz ++ wK G a_lo a_lq c_lb c_ln c_lt ++ wK G a_ho a_hq c_hb c_hn c_ht ++ wK G a_ao a_aq c_ab c_an c_at ++ wK G a_bo a_bq c_bb c_bn c_bt ++ wK G a_uo a_uq c_ub c_un c_ut ++ wK G a_go a_gq c_gb c_gn c_gt ++ wM G a_m a_mfst a_msnd a_mlet a_mmany a_mval a_mord a_mfree a_mcode a_mnext a_mcom a_mmet c_msort c_cnt c_frees c_cur r3.2 c_fst c_snd c_let c_many c_val c_ord c_free c_code c_next c_com c_met ++ wO G a_out r1.2)) (zrunV (As := []) (rest := []) ⟨hx, hb, hml, hown, hts⟩ hN hK (c_Model_length l G H.size a_m a_mfst a_msnd a_mlet a_mmany a_mval a_mord a_mfree a_mcode a_mnext a_mcom a_mmet c_msort c_cnt c_frees c_cur c_thr c_fst c_snd c_let c_many c_val c_ord c_free c_code c_next c_com c_met r3 hr3) ⟨rfl, rfl⟩ kv_Law_143 ⟨Nat.le_of_ble_eq_true rfl, Nat.le_of_ble_eq_true rfl⟩ 0 rfl rfl rfl hl.1 (Nat.le_of_ble_eq_true rfl) d_law_786 ⟨by show _ ≤ 600128; omega, by show _ ≤ 7301064; omega⟩) hP hD hS hA [22, 23, 24, 25, 26, 27, 28, 29, 30, 31, 32, 33] [0, 1, 2, 3, 4, 5, 6, 7, 8, 9, 10, 11, 12, 13, 14, 15, 16, 17, 18, 19, 20, 21, 34] [0, 1, 2, 3, 4, 5, 6, 7, 8, 9, 10, 11, 12, 13, 14, 15, 16, 17, 18, 19, 20, 21, 23, 24, 25, 26, 27, 28, 29, 30, 31, 32, 33, 34, 22] rfl rfl rfl rfl (by decide) rfl (fun _ => rfl) (fun rr _ H locs hw hP hD hS => ?_)
  have hw := hw.symm
  subst hw
  refine lv_istore (lv' := [(6, .int r3.1), (5, .int r1.1), (0, .ref b), (1, .ref a_s), (2, .ref a_m), (3, .ref a_out), (4, .int x4)]) hx hb d_law_789 hl (by decide) rfl (fun ls hl => ?_)
  refine lv_aload_n hx hb d_law_791 rfl (lv_at hl 4 rfl) ?_
  obtain ⟨r4, hr4, h⟩ := ob h
  refine zpcalli (wr := [(a_s, .inr (5, [.int c_sort, .ref a_t, .ref a_ao, .ref a_bo, .ref a_uo, .int c_set, .ref a_go])), (a_t, .inr (4, [.ref q1, .ref q2, .int c_en, .int c_rt, .ref a_fr, .ref a_e0, .ref a_e1, .ref a_e2, .ref a_e3, .ref a_br, .ref a_lo, .ref a_ho, .long c_fi, .long c_st, .long c_vz])), (q1, .inl (G.2.1, c_cl, .inl c_c)), (q2, .inl (G.2.1, c_ml, .inl c_mv)), (a_fr, .inl (G.2.1, 261, .inl c_fr)), (a_br, .inl (G.2.1, 4, .inl c_br)), (a_e0, .inr (1, [.int 0, .int 9, .int 4, .int 5])), (a_e1, .inr (1, [.int 1, .int 24, .int 16, .int 8])), (a_e2, .inr (2, [.int 2, .int 116, .int 48])), (a_e3, .inr (3, [.int 3, .int 260, .int 256])), (a_lo, .inr (0, [.ref a_lq, .int c_ln, .int c_lt])), (a_lq, .inl (G.2.2.1, 50, .inl c_lb)), (a_ho, .inr (0, [.ref a_hq, .int c_hn, .int c_ht])), (a_hq, .inl (G.2.2.1, 50, .inl c_hb)), (a_ao, .inr (0, [.ref a_aq, .int c_an, .int c_at])), (a_aq, .inl (G.2.2.1, 50, .inl c_ab)), (a_bo, .inr (0, [.ref a_bq, .int c_bn, .int c_bt])), (a_bq, .inl (G.2.2.1, 50, .inl c_bb)), (a_uo, .inr (0, [.ref a_uq, .int c_un, .int c_ut])), (a_uq, .inl (G.2.2.1, 50, .inl c_ub)), (a_go, .inr (0, [.ref a_gq, .int c_gn, .int c_gt])), (a_gq, .inl (G.2.2.1, 50, .inl c_gb)), (a_out, .inl (G.2.2.2, 1, .inr (.inl r1.2)))]) (w2 := fun _ => (wB G a_s a_t a_ao a_bo a_uo a_go c_sort c_set ++ wT G a_t q1 q2 a_fr a_br a_e0 a_e1 a_e2 a_e3 a_lo a_ho c_c c_cl c_mv c_ml c_en c_rt c_fr c_br c_fi c_st c_vz ++ wK G a_lo a_lq c_lb c_ln c_lt ++ wK G a_ho a_hq c_hb c_hn c_ht ++ wK G a_ao a_aq c_ab c_an c_at ++ wK G a_bo a_bq c_bb c_bn c_bt ++ wK G a_uo a_uq c_ub c_un c_ut ++ wK G a_go a_gq c_gb c_gn c_gt ++ wM G a_m a_mfst a_msnd a_mlet a_mmany a_mval a_mord a_mfree a_mcode a_mnext a_mcom a_mmet c_msort c_cnt c_frees c_cur r3.2 c_fst c_snd c_let c_many c_val c_ord c_free c_code c_next c_com c_met ++ wO G a_out r1.2)) (zrunV (As := []) (rest := []) ⟨hx, hb, hml, hown, hts⟩ hN hK (c_Model_thrown l G H.size a_m a_mfst a_msnd a_mlet a_mmany a_mval a_mord a_mfree a_mcode a_mnext a_mcom a_mmet c_msort c_cnt c_frees c_cur r3.2 c_fst c_snd c_let c_many c_val c_ord c_free c_code c_next c_com c_met r4 hr4) ⟨rfl, rfl⟩ kv_Law_95 ⟨Nat.le_of_ble_eq_true rfl, Nat.le_of_ble_eq_true rfl⟩ 0 rfl rfl rfl hl.1 (Nat.le_of_ble_eq_true rfl) d_law_792 ⟨by show _ ≤ 600128; omega, by show _ ≤ 7301064; omega⟩) hP hD hS hA [22, 23, 24, 25, 26, 27, 28, 29, 30, 31, 32, 33] [0, 1, 2, 3, 4, 5, 6, 7, 8, 9, 10, 11, 12, 13, 14, 15, 16, 17, 18, 19, 20, 21, 34] [0, 1, 2, 3, 4, 5, 6, 7, 8, 9, 10, 11, 12, 13, 14, 15, 16, 17, 18, 19, 20, 21, 23, 24, 25, 26, 27, 28, 29, 30, 31, 32, 33, 34, 22] rfl rfl rfl rfl (by decide) rfl (fun _ => rfl) (fun rr _ H hw hP hD hS => ?_)
  have hw := hw.symm
  subst hw
  refine lv_iload hx hb d_law_795 (lv_at hl 1 rfl) ?_
  refine lv_icmp_eq (tgt := 802) hx hb d_law_797 (by decide) (fun q5 => ?_) (fun q5 => ?_)
  · have h := it h q5
    refine lv_iload hx hb d_law_802 (lv_at hl 1 rfl) ?_
    refine lv_if_ne (tgt := 819) hx hb d_law_804 (by decide) (fun q6 => ?_) (fun q6 => ?_)
    · have h := ie h q6
      refine lv_goto (tgt := 1245) hx hb d_law_819 (by decide) ?_
      obtain ⟨v7, ev7⟩ : ∃ y : Int32, y = x4 + 6 := ⟨_, rfl⟩
      have h := nm_k h v7 ev7
      refine lv_iinc (v := v7) (lv' := [(4, .int v7), (6, .int r3.1), (5, .int r1.1), (0, .ref b), (1, .ref a_s), (2, .ref a_m), (3, .ref a_out)]) hx hb d_law_1245 hl (k := 6) rfl (by rw [ev7]; rfl) (by decide) rfl (fun ls hl => ?_)
      refine lv_goto (tgt := 33) hx hb d_law_1248 (by decide) ?_
      have ey := Option.some.inj h
      rw [← ey] at hRa hRc
      have hRc : k0 + d9 = k0 + dr1 + 0 := hRc
      obtain ⟨e8, he8, hP8⟩ := hc _ hRa
      exact hP8 (k0 + dr1) (by omega) q1 q2 H locs ls hP hD hS (lv_sub hl [3, 4, 5, 6, 0] rfl)
    · have h := it h q6
      refine lv_aload_n hx hb d_law_807 rfl (lv_at hl 5 rfl) ?_
      refine lv_iconst (v := 0) hx hb d_law_808 (by decide) ?_
      obtain ⟨h8, h⟩ := gi_k h
      refine va_lald hx hb hK hP 34 2 rfl rfl h8 d_law_809 ?_
      refine lv_iload hx hb d_law_810 (lv_at hl 0 rfl) ?_
      refine lv_i2l (v := r3.1.toInt64) hx hb d_law_812 rfl ?_
      refine W.lcmp hx hb d_law_813 ?_
      refine lv_if_eq (tgt := 819) hx hb d_law_814 (by decide) (fun q9 => ?_) (fun q9 => ?_)
      · have h := it h q9
        refine lv_goto (tgt := 1245) hx hb d_law_819 (by decide) ?_
        obtain ⟨v10, ev10⟩ : ∃ y : Int32, y = x4 + 6 := ⟨_, rfl⟩
        have h := nm_k h v10 ev10
        refine lv_iinc (v := v10) (lv' := [(4, .int v10), (6, .int r3.1), (5, .int r1.1), (0, .ref b), (1, .ref a_s), (2, .ref a_m), (3, .ref a_out)]) hx hb d_law_1245 hl (k := 6) rfl (by rw [ev10]; rfl) (by decide) rfl (fun ls hl => ?_)
        refine lv_goto (tgt := 33) hx hb d_law_1248 (by decide) ?_
        have ey := Option.some.inj h
        rw [← ey] at hRa hRc
        have hRc : k0 + d9 = k0 + dr1 + 0 := hRc
        obtain ⟨e8, he8, hP8⟩ := hc _ hRa
        exact hP8 (k0 + dr1) (by omega) q1 q2 H locs ls hP hD hS (lv_sub hl [3, 4, 5, 6, 0] rfl)
      · have h := ie h q9
        refine lv_iconst (v := 0) hx hb d_law_817 (by decide) ?_
        have ey := Option.some.inj h
        rw [← ey] at hRa
        obtain ⟨ey2, ed9⟩ := he _ hRa
        exact absurd ey2 (by decide)
  · have h := ie h q5
    refine lv_iconst (v := 0) hx hb d_law_800 (by decide) ?_
    have ey := Option.some.inj h
    rw [← ey] at hRa
    obtain ⟨ey2, ed9⟩ := he _ hRa
    exact absurd ey2 (by decide)

noncomputable def k_Law_822 (sl : Nat) (sx : Nat → Int32) (c_sort c_msort : Int32) (c_set : Int32) (c_c : (Nat → Int32)) (c_cl : Nat) (c_mv : (Nat → Int32)) (c_ml : Nat) (c_en : Int32) (c_rt : Int32) (c_fr : (Nat → Int32)) (c_br : (Nat → Int32)) (c_fi : Int64) (c_st : Int64) (c_vz : Int64) (c_lb : (Nat → Int32)) (c_ln : Int32) (c_lt : Int32) (c_hb : (Nat → Int32)) (c_hn : Int32) (c_ht : Int32) (c_ab : (Nat → Int32)) (c_an : Int32) (c_at : Int32) (c_bb : (Nat → Int32)) (c_bn : Int32) (c_bt : Int32) (c_ub : (Nat → Int32)) (c_un : Int32) (c_ut : Int32) (c_gb : (Nat → Int32)) (c_gn : Int32) (c_gt : Int32) (c_cnt : Int32) (c_frees : Int32) (c_cur : Int32) (c_thr : Int32) (c_fst : (Nat → Int64)) (c_snd : (Nat → Int64)) (c_let : (Nat → Int32)) (c_many : (Nat → Int32)) (c_val : (Nat → Int64)) (c_ord : (Nat → Int32)) (c_free : (Nat → Int32)) (c_code : (Nat → Int32)) (c_next : (Nat → Int32)) (c_com : (Nat → Int32)) (c_met : (Nat → Int32)) (c_out : (Nat → Int64)) (x4 : Int32) : Option (((Int32 × Int32 × (Nat → Int32) × Nat × (Nat → Int32) × Nat × Int32 × Int32 × (Nat → Int32) × (Nat → Int32) × Int64 × Int64 × Int64 × (Nat → Int32) × Int32 × Int32 × (Nat → Int32) × Int32 × Int32 × (Nat → Int32) × Int32 × Int32 × (Nat → Int32) × Int32 × Int32 × (Nat → Int32) × Int32 × Int32 × (Nat → Int32) × Int32 × Int32 × Int32 × Int32 × Int32 × Int32 × (Nat → Int64) × (Nat → Int64) × (Nat → Int32) × (Nat → Int32) × (Nat → Int64) × (Nat → Int32) × (Nat → Int32) × (Nat → Int32) × (Nat → Int32) × (Nat → Int32) × (Nat → Int32) × (Nat → Int64)) ⊕ Int32) × Nat) :=
gi (x4 + 1) sl <|
bd (f_Law_part c_sort c_set c_ub c_ut c_out (sx (x4 + 1).toNatClampNeg)) fun r2 =>
gi (x4 + 1) sl <|
(f_Model_part c_msort c_cur c_thr c_fst c_snd c_let c_many (sx (x4 + 1).toNatClampNeg)).bind fun r5 =>
(f_Model_thrown r5.2).bind fun r6 =>
if r6 = r2.1 then
(if r2.1 = 0 then
(gi 0 1 <|
if (lg_cmp (r2.2 (0 : Int32).toNatClampNeg) r5.1) = 0 then
(nm (x4 + 6) fun v12 =>
some (.inl (v12, c_set, c_c, c_cl, c_mv, c_ml, c_en, c_rt, c_fr, c_br, c_fi, c_st, c_vz, c_lb, c_ln, c_lt, c_hb, c_hn, c_ht, c_ab, c_an, c_at, c_bb, c_bn, c_bt, c_ub, c_un, c_ut, c_gb, c_gn, c_gt, c_cnt, c_frees, c_cur, r5.2, c_fst, c_snd, c_let, c_many, c_val, c_ord, c_free, c_code, c_next, c_com, c_met, r2.2), 0))
else
(some (.inr 0, 0)))
else
(nm (x4 + 6) fun v9 =>
some (.inl (v9, c_set, c_c, c_cl, c_mv, c_ml, c_en, c_rt, c_fr, c_br, c_fi, c_st, c_vz, c_lb, c_ln, c_lt, c_hb, c_hn, c_ht, c_ab, c_an, c_at, c_bb, c_bn, c_bt, c_ub, c_un, c_ut, c_gb, c_gn, c_gt, c_cnt, c_frees, c_cur, r5.2, c_fst, c_snd, c_let, c_many, c_val, c_ord, c_free, c_code, c_next, c_com, c_met, r2.2), 0)))
else
(some (.inr 0, 0))
set_option maxHeartbeats 8000000 in
set_option maxRecDepth 100000 in
theorem w_Law_822 (xp : Program) (l : Launch) (xe : Env) (xs : State) (xm : MethodId) (xb : List Frame) (xme : Method) (xc : Code) (Q : State → Prop) (A : Nat → Prop) (G : zG) (b rc : Nat) (a_s a_t a_ao a_bo a_uo a_go a_fr a_br a_e0 a_e1 a_e2 a_e3 a_lo a_ho a_lq a_hq a_aq a_bq a_uq a_gq a_m a_mfst a_msnd a_mlet a_mmany a_mval a_mord a_mfree a_mcode a_mnext a_mcom a_mmet a_out : Nat) (c_sort : Int32) (c_msort : Int32) (sl : Nat) (sx : Nat → Int32) (hfl : l.flags = flags0) (hB : rc ≤ 7129) (C0 : lwC xp xs xm xc A G b sl sx) (c_set : Int32) (c_c : (Nat → Int32)) (c_cl : Nat) (c_mv : (Nat → Int32)) (c_ml : Nat) (c_en : Int32) (c_rt : Int32) (c_fr : (Nat → Int32)) (c_br : (Nat → Int32)) (c_fi : Int64) (c_st : Int64) (c_vz : Int64) (c_lb : (Nat → Int32)) (c_ln : Int32) (c_lt : Int32) (c_hb : (Nat → Int32)) (c_hn : Int32) (c_ht : Int32) (c_ab : (Nat → Int32)) (c_an : Int32) (c_at : Int32) (c_bb : (Nat → Int32)) (c_bn : Int32) (c_bt : Int32) (c_ub : (Nat → Int32)) (c_un : Int32) (c_ut : Int32) (c_gb : (Nat → Int32)) (c_gn : Int32) (c_gt : Int32) (c_cnt : Int32) (c_frees : Int32) (c_cur : Int32) (c_thr : Int32) (c_fst : (Nat → Int64)) (c_snd : (Nat → Int64)) (c_let : (Nat → Int32)) (c_many : (Nat → Int32)) (c_val : (Nat → Int64)) (c_ord : (Nat → Int32)) (c_free : (Nat → Int32)) (c_code : (Nat → Int32)) (c_next : (Nat → Int32)) (c_com : (Nat → Int32)) (c_met : (Nat → Int32)) (c_out : (Nat → Int64)) (x4 : Int32) (x9 : (Int32 × Int32 × (Nat → Int32) × Nat × (Nat → Int32) × Nat × Int32 × Int32 × (Nat → Int32) × (Nat → Int32) × Int64 × Int64 × Int64 × (Nat → Int32) × Int32 × Int32 × (Nat → Int32) × Int32 × Int32 × (Nat → Int32) × Int32 × Int32 × (Nat → Int32) × Int32 × Int32 × (Nat → Int32) × Int32 × Int32 × (Nat → Int32) × Int32 × Int32 × Int32 × Int32 × Int32 × Int32 × (Nat → Int64) × (Nat → Int64) × (Nat → Int32) × (Nat → Int32) × (Nat → Int64) × (Nat → Int32) × (Nat → Int32) × (Nat → Int32) × (Nat → Int32) × (Nat → Int32) × (Nat → Int32) × (Nat → Int64)) ⊕ Int32) (d9 e9 : Nat) (h : k_Law_822 sl sx c_sort c_msort c_set c_c c_cl c_mv c_ml c_en c_rt c_fr c_br c_fi c_st c_vz c_lb c_ln c_lt c_hb c_hn c_ht c_ab c_an c_at c_bb c_bn c_bt c_ub c_un c_ut c_gb c_gn c_gt c_cnt c_frees c_cur c_thr c_fst c_snd c_let c_many c_val c_ord c_free c_code c_next c_com c_met c_out x4 = some (x9, d9)) (hc : ∀ v', x9 = .inl v' → ∃ e', e9 = d9 + e' ∧ lwPP xp l xe xs xm xb xme xc Q A G b rc a_s a_t a_ao a_bo a_uo a_go a_fr a_br a_e0 a_e1 a_e2 a_e3 a_lo a_ho a_lq a_hq a_aq a_bq a_uq a_gq a_m a_mfst a_msnd a_mlet a_mmany a_mval a_mord a_mfree a_mcode a_mnext a_mcom a_mmet a_out c_sort c_msort v' e') (he : ∀ t, x9 = .inr t → t = 1 ∧ e9 = d9) (hde : d9 ≤ e9) (k0 : Nat) (hk9 : rc = k0 + e9) (q1 q2 : Nat) (H : Heap) (locs : List Loc) (ls : Array Slot) (hP : va_P G.1 classes (wB G a_s a_t a_ao a_bo a_uo a_go c_sort c_set ++ wT G a_t q1 q2 a_fr a_br a_e0 a_e1 a_e2 a_e3 a_lo a_ho c_c c_cl c_mv c_ml c_en c_rt c_fr c_br c_fi c_st c_vz ++ wK G a_lo a_lq c_lb c_ln c_lt ++ wK G a_ho a_hq c_hb c_hn c_ht ++ wK G a_ao a_aq c_ab c_an c_at ++ wK G a_bo a_bq c_bb c_bn c_bt ++ wK G a_uo a_uq c_ub c_un c_ut ++ wK G a_go a_gq c_gb c_gn c_gt ++ wM G a_m a_mfst a_msnd a_mlet a_mmany a_mval a_mord a_mfree a_mcode a_mnext a_mcom a_mmet c_msort c_cnt c_frees c_cur c_thr c_fst c_snd c_let c_many c_val c_ord c_free c_code c_next c_com c_met ++ wO G a_out c_out) H) (hD : va_D A (wB G a_s a_t a_ao a_bo a_uo a_go c_sort c_set ++ wT G a_t q1 q2 a_fr a_br a_e0 a_e1 a_e2 a_e3 a_lo a_ho c_c c_cl c_mv c_ml c_en c_rt c_fr c_br c_fi c_st c_vz ++ wK G a_lo a_lq c_lb c_ln c_lt ++ wK G a_ho a_hq c_hb c_hn c_ht ++ wK G a_ao a_aq c_ab c_an c_at ++ wK G a_bo a_bq c_bb c_bn c_bt ++ wK G a_uo a_uq c_ub c_un c_ut ++ wK G a_go a_gq c_gb c_gn c_gt ++ wM G a_m a_mfst a_msnd a_mlet a_mmany a_mval a_mord a_mfree a_mcode a_mnext a_mcom a_mmet c_msort c_cnt c_frees c_cur c_thr c_fst c_snd c_let c_many c_val c_ord c_free c_code c_next c_com c_met ++ wO G a_out c_out)) (hS : va_S A xs.heap H locs) (hl : lv_has ls 8 [(0, .ref b), (1, .ref a_s), (2, .ref a_m), (3, .ref a_out), (4, .int x4)]) :
    W xp l xe room_1 xs xm #[Value.ref b] xb xme xc H locs k0 (1024 * k0) Q (F0 xm 822 ls []) := by
  obtain ⟨hx, hb, hts, hown, hml, hN, hTs, hK, hX, hbl, hA, hA2⟩ := C0
  have hbA : ¬ A b := fun h => absurd (hA2 b h) (Nat.not_le.mpr hbl)
  have hnA : ∀ (a : Nat) (cell : Cell), xs.heap[a]? = some cell → cell.vm.isStatics = true → ¬ A a := fun a cell hc _ h => absurd (hA2 a h) (Nat.not_le.mpr (Array.getElem?_eq_some_iff.mp hc).1)
  unfold k_Law_822 at h
  have hRa : x9 = (x9, d9).1 := rfl
  have hRc : k0 + d9 = k0 + (x9, d9).2 := rfl
  refine lv_aload_n hx hb d_law_822 rfl (lv_at hl 1 rfl) ?_
  refine lv_aload_n hx hb d_law_823 rfl (lv_at hl 0 rfl) ?_
  refine lv_iload hx hb d_law_824 (lv_at hl 4 rfl) ?_
  refine lv_iconst (v := 1) hx hb d_law_826 (by decide) ?_
  refine lv_iadd hx hb d_law_827 ?_
  obtain ⟨h1, h⟩ := gi_k h
  refine va_sld hx hb hX hbl hbA hS h1 d_law_828 ?_
  refine lv_aload_n hx hb d_law_829 rfl (lv_at hl 3 rfl) ?_
  obtain ⟨r2, dr2, y3, hr2, h, hRa, hRc⟩ := bd_k h hRa hRc
  refine zcalli (wr := [(a_t, .inr (4, [.ref q1, .ref q2, .int c_en, .int c_rt, .ref a_fr, .ref a_e0, .ref a_e1, .ref a_e2, .ref a_e3, .ref a_br, .ref a_lo, .ref a_ho, .long c_fi, .long c_st, .long c_vz])), (q1, .inl (G.2.1, c_cl, .inl c_c)), (q2, .inl (G.2.1, c_ml, .inl c_mv)), (a_fr, .inl (G.2.1, 261, .inl c_fr)), (a_br, .inl (G.2.1, 4, .inl c_br)), (a_e0, .inr (1, [.int 0, .int 9, .int 4, .int 5])), (a_e1, .inr (1, [.int 1, .int 24, .int 16, .int 8])), (a_e2, .inr (2, [.int 2, .int 116, .int 48])), (a_e3, .inr (3, [.int 3, .int 260, .int 256])), (a_lo, .inr (0, [.ref a_lq, .int c_ln, .int c_lt])), (a_lq, .inl (G.2.2.1, 50, .inl c_lb)), (a_ho, .inr (0, [.ref a_hq, .int c_hn, .int c_ht])), (a_hq, .inl (G.2.2.1, 50, .inl c_hb)), (a_ao, .inr (0, [.ref a_aq, .int c_an, .int c_at])), (a_aq, .inl (G.2.2.1, 50, .inl c_ab)), (a_bo, .inr (0, [.ref a_bq, .int c_bn, .int c_bt])), (a_bq, .inl (G.2.2.1, 50, .inl c_bb)), (a_go, .inr (0, [.ref a_gq, .int c_gn, .int c_gt])), (a_gq, .inl (G.2.2.1, 50, .inl c_gb)), (a_m, .inr (6, [.int c_msort, .ref a_mfst, .ref a_msnd, .ref a_mlet, .ref a_mmany, .ref a_mval, .ref a_mord, .int c_cnt, .ref a_mfree, .int c_frees, .int c_cur, .int c_thr, .ref a_mcode, .ref a_mnext, .ref a_mcom, .ref a_mmet])), (a_mfst, .inl (G.2.2.2, 1503, .inr (.inl c_fst))), (a_msnd, .inl (G.2.2.2, 1503, .inr (.inl c_snd))), (a_mlet, .inl (G.2.1, 36072, .inl c_let)), (a_mmany, .inl (G.2.1, 1503, .inl c_many)), (a_mval, .inl (G.2.2.2, 1500, .inr (.inl c_val))), (a_mord, .inl (G.2.1, 1500, .inl c_ord)), (a_mfree, .inl (G.2.1, 1500, .inl c_free)), (a_mcode, .inl (G.2.1, 50, .inl c_code)), (a_mnext, .inl (G.2.1, 50, .inl c_next)), (a_mcom, .inl (G.2.1, 1500, .inl c_com)), (a_mmet, .inl (G.2.1, 50, .inl c_met))]) (w2 := fun _ => (wB G a_s a_t a_ao a_bo a_uo a_go c_sort c_set ++ wT G a_t q1 q2 a_fr a_br a_e0 a_e1 a_e2 a_e3 a_lo a_ho c_c c_cl c_mv c_ml c_en c_rt c_fr c_br c_fi c_st c_vz ++ wK G a_lo a_lq c_lb c_ln c_lt ++ wK G a_ho a_hq c_hb c_hn c_ht ++ wK G a_ao a_aq c_ab c_an c_at ++ wK G a_bo a_bq c_bb c_bn c_bt ++ wK G a_uo a_uq c_ub c_un c_ut ++ wK G a_go a_gq c_gb c_gn c_gt ++ wM G a_m a_mfst a_msnd a_mlet a_mmany a_mval a_mord a_mfree a_mcode a_mnext a_mcom a_mmet c_msort c_cnt c_frees c_cur c_thr c_fst c_snd c_let c_many c_val c_ord c_free c_code c_next c_com c_met ++ wO G a_out r2.2)) (fun hPc hDc => zrunSW (As := [.ref a_s, .int (sx (x4 + 1).toNatClampNeg), .ref a_out]) (rest := []) ⟨hx, hb, hml, hown, hts⟩ hN hTs hnA hS hK (c_Law_part l G hfl H.size a_s a_t a_ao a_bo a_uo a_go a_uq a_out c_sort c_set c_ub c_un c_ut c_out (sx (x4 + 1).toNatClampNeg) r2 dr2 hr2) ⟨rfl, rfl⟩ kw_144 ⟨Nat.le_of_ble_eq_true rfl, Nat.le_of_ble_eq_true rfl⟩ rfl hl.1 (Nat.le_of_ble_eq_true rfl) d_law_830 ⟨by show _ ≤ 600128; omega, by show _ ≤ 7301064; omega⟩ hPc hDc) hP hD hS hA [0, 18, 19, 34] [1, 2, 3, 4, 5, 6, 7, 8, 9, 10, 11, 12, 13, 14, 15, 16, 17, 20, 21, 22, 23, 24, 25, 26, 27, 28, 29, 30, 31, 32, 33] [31, 0, 1, 2, 3, 4, 5, 6, 7, 8, 9, 10, 11, 12, 13, 14, 15, 16, 32, 33, 17, 18, 19, 20, 21, 22, 23, 24, 25, 26, 27, 28, 29, 30, 34] rfl rfl rfl rfl (by decide) rfl (fun _ => rfl) (fun rr _ H locs hw hP hD hS => ?_)
  refine W.widen (k := k0 + dr2) (n := 1024 * (k0 + dr2)) (by omega) (by omega) ?_
  have hw := hw.symm
  subst hw
  refine lv_istore (lv' := [(5, .int r2.1), (0, .ref b), (1, .ref a_s), (2, .ref a_m), (3, .ref a_out), (4, .int x4)]) hx hb d_law_833 hl (by decide) rfl (fun ls hl => ?_)
  refine lv_aload_n hx hb d_law_835 rfl (lv_at hl 3 rfl) ?_
  refine lv_aload_n hx hb d_law_836 rfl (lv_at hl 1 rfl) ?_
  refine lv_iload hx hb d_law_837 (lv_at hl 5 rfl) ?_
  refine lv_iconst (v := 1) hx hb d_law_839 (by decide) ?_
  refine lv_iadd hx hb d_law_840 ?_
  obtain ⟨h4, h⟩ := gi_k h
  refine va_sld hx hb hX hbl hbA hS h4 d_law_841 ?_
  obtain ⟨r5, hr5, h⟩ := ob h
  refine zcalll (wr := [(a_s, .inr (5, [.int c_sort, .ref a_t, .ref a_ao, .ref a_bo, .ref a_uo, .int c_set, .ref a_go])), (a_t, .inr (4, [.ref q1, .ref q2, .int c_en, .int c_rt, .ref a_fr, .ref a_e0, .ref a_e1, .ref a_e2, .ref a_e3, .ref a_br, .ref a_lo, .ref a_ho, .long c_fi, .long c_st, .long c_vz])), (q1, .inl (G.2.1, c_cl, .inl c_c)), (q2, .inl (G.2.1, c_ml, .inl c_mv)), (a_fr, .inl (G.2.1, 261, .inl c_fr)), (a_br, .inl (G.2.1, 4, .inl c_br)), (a_e0, .inr (1, [.int 0, .int 9, .int 4, .int 5])), (a_e1, .inr (1, [.int 1, .int 24, .int 16, .int 8])), (a_e2, .inr (2, [.int 2, .int 116, .int 48])), (a_e3, .inr (3, [.int 3, .int 260, .int 256])), (a_lo, .inr (0, [.ref a_lq, .int c_ln, .int c_lt])), (a_lq, .inl (G.2.2.1, 50, .inl c_lb)), (a_ho, .inr (0, [.ref a_hq, .int c_hn, .int c_ht])), (a_hq, .inl (G.2.2.1, 50, .inl c_hb)), (a_ao, .inr (0, [.ref a_aq, .int c_an, .int c_at])), (a_aq, .inl (G.2.2.1, 50, .inl c_ab)), (a_bo, .inr (0, [.ref a_bq, .int c_bn, .int c_bt])), (a_bq, .inl (G.2.2.1, 50, .inl c_bb)), (a_uo, .inr (0, [.ref a_uq, .int c_un, .int c_ut])), (a_uq, .inl (G.2.2.1, 50, .inl c_ub)), (a_go, .inr (0, [.ref a_gq, .int c_gn, .int c_gt])), (a_gq, .inl (G.2.2.1, 50, .inl c_gb)), (a_out, .inl (G.2.2.2, 1, .inr (.inl r2.2)))]) (w2 := fun _ => (wB G a_s a_t a_ao a_bo a_uo a_go c_sort c_set ++ wT G a_t q1 q2 a_fr a_br a_e0 a_e1 a_e2 a_e3 a_lo a_ho c_c c_cl c_mv c_ml c_en c_rt c_fr c_br c_fi c_st c_vz ++ wK G a_lo a_lq c_lb c_ln c_lt ++ wK G a_ho a_hq c_hb c_hn c_ht ++ wK G a_ao a_aq c_ab c_an c_at ++ wK G a_bo a_bq c_bb c_bn c_bt ++ wK G a_uo a_uq c_ub c_un c_ut ++ wK G a_go a_gq c_gb c_gn c_gt ++ wM G a_m a_mfst a_msnd a_mlet a_mmany a_mval a_mord a_mfree a_mcode a_mnext a_mcom a_mmet c_msort c_cnt c_frees c_cur r5.2 c_fst c_snd c_let c_many c_val c_ord c_free c_code c_next c_com c_met ++ wO G a_out r2.2)) (zrunV (As := [.int (sx (x4 + 1).toNatClampNeg)]) (rest := []) ⟨hx, hb, hml, hown, hts⟩ hN hK (c_Model_part l G H.size a_m a_mfst a_msnd a_mlet a_mmany a_mval a_mord a_mfree a_mcode a_mnext a_mcom a_mmet c_msort c_cnt c_frees c_cur c_thr c_fst c_snd c_let c_many c_val c_ord c_free c_code c_next c_com c_met (sx (x4 + 1).toNatClampNeg) r5 hr5) ⟨rfl, rfl⟩ kv_Law_146 ⟨Nat.le_of_ble_eq_true rfl, Nat.le_of_ble_eq_true rfl⟩ 0 rfl rfl rfl hl.1 (Nat.le_of_ble_eq_true rfl) d_law_842 ⟨by show _ ≤ 600128; omega, by show _ ≤ 7301064; omega⟩) hP hD hS hA [22, 23, 24, 25, 26, 27, 28, 29, 30, 31, 32, 33] [0, 1, 2, 3, 4, 5, 6, 7, 8, 9, 10, 11, 12, 13, 14, 15, 16, 17, 18, 19, 20, 21, 34] [0, 1, 2, 3, 4, 5, 6, 7, 8, 9, 10, 11, 12, 13, 14, 15, 16, 17, 18, 19, 20, 21, 23, 24, 25, 26, 27, 28, 29, 30, 31, 32, 33, 34, 22] rfl rfl rfl rfl (by decide) rfl (fun _ => rfl) (fun rr _ H locs hw hP hD hS => ?_)
  have hw := hw.symm
  subst hw
  refine lv_lstore (lv' := [(6, .long r5.1), (5, .int r2.1), (0, .ref b), (1, .ref a_s), (2, .ref a_m), (3, .ref a_out), (4, .int x4)]) hx hb d_law_845 hl (by decide) rfl (fun ls hl => ?_)
  refine lv_aload_n hx hb d_law_847 rfl (lv_at hl 4 rfl) ?_
  obtain ⟨r6, hr6, h⟩ := ob h
  refine zpcalli (wr := [(a_s, .inr (5, [.int c_sort, .ref a_t, .ref a_ao, .ref a_bo, .ref a_uo, .int c_set, .ref a_go])), (a_t, .inr (4, [.ref q1, .ref q2, .int c_en, .int c_rt, .ref a_fr, .ref a_e0, .ref a_e1, .ref a_e2, .ref a_e3, .ref a_br, .ref a_lo, .ref a_ho, .long c_fi, .long c_st, .long c_vz])), (q1, .inl (G.2.1, c_cl, .inl c_c)), (q2, .inl (G.2.1, c_ml, .inl c_mv)), (a_fr, .inl (G.2.1, 261, .inl c_fr)), (a_br, .inl (G.2.1, 4, .inl c_br)), (a_e0, .inr (1, [.int 0, .int 9, .int 4, .int 5])), (a_e1, .inr (1, [.int 1, .int 24, .int 16, .int 8])), (a_e2, .inr (2, [.int 2, .int 116, .int 48])), (a_e3, .inr (3, [.int 3, .int 260, .int 256])), (a_lo, .inr (0, [.ref a_lq, .int c_ln, .int c_lt])), (a_lq, .inl (G.2.2.1, 50, .inl c_lb)), (a_ho, .inr (0, [.ref a_hq, .int c_hn, .int c_ht])), (a_hq, .inl (G.2.2.1, 50, .inl c_hb)), (a_ao, .inr (0, [.ref a_aq, .int c_an, .int c_at])), (a_aq, .inl (G.2.2.1, 50, .inl c_ab)), (a_bo, .inr (0, [.ref a_bq, .int c_bn, .int c_bt])), (a_bq, .inl (G.2.2.1, 50, .inl c_bb)), (a_uo, .inr (0, [.ref a_uq, .int c_un, .int c_ut])), (a_uq, .inl (G.2.2.1, 50, .inl c_ub)), (a_go, .inr (0, [.ref a_gq, .int c_gn, .int c_gt])), (a_gq, .inl (G.2.2.1, 50, .inl c_gb)), (a_out, .inl (G.2.2.2, 1, .inr (.inl r2.2)))]) (w2 := fun _ => (wB G a_s a_t a_ao a_bo a_uo a_go c_sort c_set ++ wT G a_t q1 q2 a_fr a_br a_e0 a_e1 a_e2 a_e3 a_lo a_ho c_c c_cl c_mv c_ml c_en c_rt c_fr c_br c_fi c_st c_vz ++ wK G a_lo a_lq c_lb c_ln c_lt ++ wK G a_ho a_hq c_hb c_hn c_ht ++ wK G a_ao a_aq c_ab c_an c_at ++ wK G a_bo a_bq c_bb c_bn c_bt ++ wK G a_uo a_uq c_ub c_un c_ut ++ wK G a_go a_gq c_gb c_gn c_gt ++ wM G a_m a_mfst a_msnd a_mlet a_mmany a_mval a_mord a_mfree a_mcode a_mnext a_mcom a_mmet c_msort c_cnt c_frees c_cur r5.2 c_fst c_snd c_let c_many c_val c_ord c_free c_code c_next c_com c_met ++ wO G a_out r2.2)) (zrunV (As := []) (rest := []) ⟨hx, hb, hml, hown, hts⟩ hN hK (c_Model_thrown l G H.size a_m a_mfst a_msnd a_mlet a_mmany a_mval a_mord a_mfree a_mcode a_mnext a_mcom a_mmet c_msort c_cnt c_frees c_cur r5.2 c_fst c_snd c_let c_many c_val c_ord c_free c_code c_next c_com c_met r6 hr6) ⟨rfl, rfl⟩ kv_Law_95 ⟨Nat.le_of_ble_eq_true rfl, Nat.le_of_ble_eq_true rfl⟩ 0 rfl rfl rfl hl.1 (Nat.le_of_ble_eq_true rfl) d_law_848 ⟨by show _ ≤ 600128; omega, by show _ ≤ 7301064; omega⟩) hP hD hS hA [22, 23, 24, 25, 26, 27, 28, 29, 30, 31, 32, 33] [0, 1, 2, 3, 4, 5, 6, 7, 8, 9, 10, 11, 12, 13, 14, 15, 16, 17, 18, 19, 20, 21, 34] [0, 1, 2, 3, 4, 5, 6, 7, 8, 9, 10, 11, 12, 13, 14, 15, 16, 17, 18, 19, 20, 21, 23, 24, 25, 26, 27, 28, 29, 30, 31, 32, 33, 34, 22] rfl rfl rfl rfl (by decide) rfl (fun _ => rfl) (fun rr _ H hw hP hD hS => ?_)
  have hw := hw.symm
  subst hw
  refine lv_iload hx hb d_law_851 (lv_at hl 1 rfl) ?_
  refine lv_icmp_eq (tgt := 858) hx hb d_law_853 (by decide) (fun q7 => ?_) (fun q7 => ?_)
  · have h := it h q7
    refine lv_iload hx hb d_law_858 (lv_at hl 1 rfl) ?_
    refine lv_if_ne (tgt := 874) hx hb d_law_860 (by decide) (fun q8 => ?_) (fun q8 => ?_)
    · have h := ie h q8
      refine lv_goto (tgt := 1245) hx hb d_law_874 (by decide) ?_
      obtain ⟨v9, ev9⟩ : ∃ y : Int32, y = x4 + 6 := ⟨_, rfl⟩
      have h := nm_k h v9 ev9
      refine lv_iinc (v := v9) (lv' := [(4, .int v9), (6, .long r5.1), (5, .int r2.1), (0, .ref b), (1, .ref a_s), (2, .ref a_m), (3, .ref a_out)]) hx hb d_law_1245 hl (k := 6) rfl (by rw [ev9]; rfl) (by decide) rfl (fun ls hl => ?_)
      refine lv_goto (tgt := 33) hx hb d_law_1248 (by decide) ?_
      have ey := Option.some.inj h
      rw [← ey] at hRa hRc
      have hRc : k0 + d9 = k0 + dr2 + 0 := hRc
      obtain ⟨e8, he8, hP8⟩ := hc _ hRa
      exact hP8 (k0 + dr2) (by omega) q1 q2 H locs ls hP hD hS (lv_sub hl [3, 4, 5, 6, 0] rfl)
    · have h := it h q8
      refine lv_aload_n hx hb d_law_863 rfl (lv_at hl 5 rfl) ?_
      refine lv_iconst (v := 0) hx hb d_law_864 (by decide) ?_
      obtain ⟨h10, h⟩ := gi_k h
      refine va_lald hx hb hK hP 34 2 rfl rfl h10 d_law_865 ?_
      refine lv_lload hx hb d_law_866 (lv_at hl 0 rfl) ?_
      refine W.lcmp hx hb d_law_868 ?_
      refine lv_if_eq (tgt := 874) hx hb d_law_869 (by decide) (fun q11 => ?_) (fun q11 => ?_)
      · have h := it h q11
        refine lv_goto (tgt := 1245) hx hb d_law_874 (by decide) ?_
        obtain ⟨v12, ev12⟩ : ∃ y : Int32, y = x4 + 6 := ⟨_, rfl⟩
        have h := nm_k h v12 ev12
        refine lv_iinc (v := v12) (lv' := [(4, .int v12), (6, .long r5.1), (5, .int r2.1), (0, .ref b), (1, .ref a_s), (2, .ref a_m), (3, .ref a_out)]) hx hb d_law_1245 hl (k := 6) rfl (by rw [ev12]; rfl) (by decide) rfl (fun ls hl => ?_)
        refine lv_goto (tgt := 33) hx hb d_law_1248 (by decide) ?_
        have ey := Option.some.inj h
        rw [← ey] at hRa hRc
        have hRc : k0 + d9 = k0 + dr2 + 0 := hRc
        obtain ⟨e8, he8, hP8⟩ := hc _ hRa
        exact hP8 (k0 + dr2) (by omega) q1 q2 H locs ls hP hD hS (lv_sub hl [3, 4, 5, 6, 0] rfl)
      · have h := ie h q11
        refine lv_iconst (v := 0) hx hb d_law_872 (by decide) ?_
        have ey := Option.some.inj h
        rw [← ey] at hRa
        obtain ⟨ey2, ed9⟩ := he _ hRa
        exact absurd ey2 (by decide)
  · have h := ie h q7
    refine lv_iconst (v := 0) hx hb d_law_856 (by decide) ?_
    have ey := Option.some.inj h
    rw [← ey] at hRa
    obtain ⟨ey2, ed9⟩ := he _ hRa
    exact absurd ey2 (by decide)

noncomputable def k_Law_877 (sl : Nat) (sx : Nat → Int32) (c_sort c_msort : Int32) (c_set : Int32) (c_c : (Nat → Int32)) (c_cl : Nat) (c_mv : (Nat → Int32)) (c_ml : Nat) (c_en : Int32) (c_rt : Int32) (c_fr : (Nat → Int32)) (c_br : (Nat → Int32)) (c_fi : Int64) (c_st : Int64) (c_vz : Int64) (c_lb : (Nat → Int32)) (c_ln : Int32) (c_lt : Int32) (c_hb : (Nat → Int32)) (c_hn : Int32) (c_ht : Int32) (c_ab : (Nat → Int32)) (c_an : Int32) (c_at : Int32) (c_bb : (Nat → Int32)) (c_bn : Int32) (c_bt : Int32) (c_ub : (Nat → Int32)) (c_un : Int32) (c_ut : Int32) (c_gb : (Nat → Int32)) (c_gn : Int32) (c_gt : Int32) (c_cnt : Int32) (c_frees : Int32) (c_cur : Int32) (c_thr : Int32) (c_fst : (Nat → Int64)) (c_snd : (Nat → Int64)) (c_let : (Nat → Int32)) (c_many : (Nat → Int32)) (c_val : (Nat → Int64)) (c_ord : (Nat → Int32)) (c_free : (Nat → Int32)) (c_code : (Nat → Int32)) (c_next : (Nat → Int32)) (c_com : (Nat → Int32)) (c_met : (Nat → Int32)) (c_out : (Nat → Int64)) (x4 : Int32) : Option (((Int32 × Int32 × (Nat → Int32) × Nat × (Nat → Int32) × Nat × Int32 × Int32 × (Nat → Int32) × (Nat → Int32) × Int64 × Int64 × Int64 × (Nat → Int32) × Int32 × Int32 × (Nat → Int32) × Int32 × Int32 × (Nat → Int32) × Int32 × Int32 × (Nat → Int32) × Int32 × Int32 × (Nat → Int32) × Int32 × Int32 × (Nat → Int32) × Int32 × Int32 × Int32 × Int32 × Int32 × Int32 × (Nat → Int64) × (Nat → Int64) × (Nat → Int32) × (Nat → Int32) × (Nat → Int64) × (Nat → Int32) × (Nat → Int32) × (Nat → Int32) × (Nat → Int32) × (Nat → Int32) × (Nat → Int32) × (Nat → Int64)) ⊕ Int32) × Nat) :=
bd (f_Law_value c_set c_c c_cl c_rt c_ub c_un c_out) fun r1 =>
(f_Model_value c_msort c_cnt c_cur c_thr c_fst c_snd c_let c_many c_val c_ord).bind fun r4 =>
(f_Model_thrown r4.2).bind fun r5 =>
if r5 = r1.1 then
(if r1.1 = 0 then
(gi 0 1 <|
if (lg_cmp (r1.2 (0 : Int32).toNatClampNeg) r4.1) = 0 then
(nm (x4 + 6) fun v11 =>
some (.inl (v11, c_set, c_c, c_cl, c_mv, c_ml, c_en, c_rt, c_fr, c_br, c_fi, c_st, c_vz, c_lb, c_ln, c_lt, c_hb, c_hn, c_ht, c_ab, c_an, c_at, c_bb, c_bn, c_bt, c_ub, c_un, c_ut, c_gb, c_gn, c_gt, c_cnt, c_frees, c_cur, r4.2, c_fst, c_snd, c_let, c_many, c_val, c_ord, c_free, c_code, c_next, c_com, c_met, r1.2), 0))
else
(some (.inr 0, 0)))
else
(nm (x4 + 6) fun v8 =>
some (.inl (v8, c_set, c_c, c_cl, c_mv, c_ml, c_en, c_rt, c_fr, c_br, c_fi, c_st, c_vz, c_lb, c_ln, c_lt, c_hb, c_hn, c_ht, c_ab, c_an, c_at, c_bb, c_bn, c_bt, c_ub, c_un, c_ut, c_gb, c_gn, c_gt, c_cnt, c_frees, c_cur, r4.2, c_fst, c_snd, c_let, c_many, c_val, c_ord, c_free, c_code, c_next, c_com, c_met, r1.2), 0)))
else
(some (.inr 0, 0))
set_option maxHeartbeats 8000000 in
set_option maxRecDepth 100000 in
theorem w_Law_877 (xp : Program) (l : Launch) (xe : Env) (xs : State) (xm : MethodId) (xb : List Frame) (xme : Method) (xc : Code) (Q : State → Prop) (A : Nat → Prop) (G : zG) (b rc : Nat) (a_s a_t a_ao a_bo a_uo a_go a_fr a_br a_e0 a_e1 a_e2 a_e3 a_lo a_ho a_lq a_hq a_aq a_bq a_uq a_gq a_m a_mfst a_msnd a_mlet a_mmany a_mval a_mord a_mfree a_mcode a_mnext a_mcom a_mmet a_out : Nat) (c_sort : Int32) (c_msort : Int32) (sl : Nat) (sx : Nat → Int32) (hfl : l.flags = flags0) (hB : rc ≤ 7129) (C0 : lwC xp xs xm xc A G b sl sx) (c_set : Int32) (c_c : (Nat → Int32)) (c_cl : Nat) (c_mv : (Nat → Int32)) (c_ml : Nat) (c_en : Int32) (c_rt : Int32) (c_fr : (Nat → Int32)) (c_br : (Nat → Int32)) (c_fi : Int64) (c_st : Int64) (c_vz : Int64) (c_lb : (Nat → Int32)) (c_ln : Int32) (c_lt : Int32) (c_hb : (Nat → Int32)) (c_hn : Int32) (c_ht : Int32) (c_ab : (Nat → Int32)) (c_an : Int32) (c_at : Int32) (c_bb : (Nat → Int32)) (c_bn : Int32) (c_bt : Int32) (c_ub : (Nat → Int32)) (c_un : Int32) (c_ut : Int32) (c_gb : (Nat → Int32)) (c_gn : Int32) (c_gt : Int32) (c_cnt : Int32) (c_frees : Int32) (c_cur : Int32) (c_thr : Int32) (c_fst : (Nat → Int64)) (c_snd : (Nat → Int64)) (c_let : (Nat → Int32)) (c_many : (Nat → Int32)) (c_val : (Nat → Int64)) (c_ord : (Nat → Int32)) (c_free : (Nat → Int32)) (c_code : (Nat → Int32)) (c_next : (Nat → Int32)) (c_com : (Nat → Int32)) (c_met : (Nat → Int32)) (c_out : (Nat → Int64)) (x4 : Int32) (x9 : (Int32 × Int32 × (Nat → Int32) × Nat × (Nat → Int32) × Nat × Int32 × Int32 × (Nat → Int32) × (Nat → Int32) × Int64 × Int64 × Int64 × (Nat → Int32) × Int32 × Int32 × (Nat → Int32) × Int32 × Int32 × (Nat → Int32) × Int32 × Int32 × (Nat → Int32) × Int32 × Int32 × (Nat → Int32) × Int32 × Int32 × (Nat → Int32) × Int32 × Int32 × Int32 × Int32 × Int32 × Int32 × (Nat → Int64) × (Nat → Int64) × (Nat → Int32) × (Nat → Int32) × (Nat → Int64) × (Nat → Int32) × (Nat → Int32) × (Nat → Int32) × (Nat → Int32) × (Nat → Int32) × (Nat → Int32) × (Nat → Int64)) ⊕ Int32) (d9 e9 : Nat) (h : k_Law_877 sl sx c_sort c_msort c_set c_c c_cl c_mv c_ml c_en c_rt c_fr c_br c_fi c_st c_vz c_lb c_ln c_lt c_hb c_hn c_ht c_ab c_an c_at c_bb c_bn c_bt c_ub c_un c_ut c_gb c_gn c_gt c_cnt c_frees c_cur c_thr c_fst c_snd c_let c_many c_val c_ord c_free c_code c_next c_com c_met c_out x4 = some (x9, d9)) (hc : ∀ v', x9 = .inl v' → ∃ e', e9 = d9 + e' ∧ lwPP xp l xe xs xm xb xme xc Q A G b rc a_s a_t a_ao a_bo a_uo a_go a_fr a_br a_e0 a_e1 a_e2 a_e3 a_lo a_ho a_lq a_hq a_aq a_bq a_uq a_gq a_m a_mfst a_msnd a_mlet a_mmany a_mval a_mord a_mfree a_mcode a_mnext a_mcom a_mmet a_out c_sort c_msort v' e') (he : ∀ t, x9 = .inr t → t = 1 ∧ e9 = d9) (hde : d9 ≤ e9) (k0 : Nat) (hk9 : rc = k0 + e9) (q1 q2 : Nat) (H : Heap) (locs : List Loc) (ls : Array Slot) (hP : va_P G.1 classes (wB G a_s a_t a_ao a_bo a_uo a_go c_sort c_set ++ wT G a_t q1 q2 a_fr a_br a_e0 a_e1 a_e2 a_e3 a_lo a_ho c_c c_cl c_mv c_ml c_en c_rt c_fr c_br c_fi c_st c_vz ++ wK G a_lo a_lq c_lb c_ln c_lt ++ wK G a_ho a_hq c_hb c_hn c_ht ++ wK G a_ao a_aq c_ab c_an c_at ++ wK G a_bo a_bq c_bb c_bn c_bt ++ wK G a_uo a_uq c_ub c_un c_ut ++ wK G a_go a_gq c_gb c_gn c_gt ++ wM G a_m a_mfst a_msnd a_mlet a_mmany a_mval a_mord a_mfree a_mcode a_mnext a_mcom a_mmet c_msort c_cnt c_frees c_cur c_thr c_fst c_snd c_let c_many c_val c_ord c_free c_code c_next c_com c_met ++ wO G a_out c_out) H) (hD : va_D A (wB G a_s a_t a_ao a_bo a_uo a_go c_sort c_set ++ wT G a_t q1 q2 a_fr a_br a_e0 a_e1 a_e2 a_e3 a_lo a_ho c_c c_cl c_mv c_ml c_en c_rt c_fr c_br c_fi c_st c_vz ++ wK G a_lo a_lq c_lb c_ln c_lt ++ wK G a_ho a_hq c_hb c_hn c_ht ++ wK G a_ao a_aq c_ab c_an c_at ++ wK G a_bo a_bq c_bb c_bn c_bt ++ wK G a_uo a_uq c_ub c_un c_ut ++ wK G a_go a_gq c_gb c_gn c_gt ++ wM G a_m a_mfst a_msnd a_mlet a_mmany a_mval a_mord a_mfree a_mcode a_mnext a_mcom a_mmet c_msort c_cnt c_frees c_cur c_thr c_fst c_snd c_let c_many c_val c_ord c_free c_code c_next c_com c_met ++ wO G a_out c_out)) (hS : va_S A xs.heap H locs) (hl : lv_has ls 8 [(0, .ref b), (1, .ref a_s), (2, .ref a_m), (3, .ref a_out), (4, .int x4)]) :
    W xp l xe room_1 xs xm #[Value.ref b] xb xme xc H locs k0 (1024 * k0) Q (F0 xm 877 ls []) := by
  obtain ⟨hx, hb, hts, hown, hml, hN, hTs, hK, hX, hbl, hA, hA2⟩ := C0
  have hbA : ¬ A b := fun h => absurd (hA2 b h) (Nat.not_le.mpr hbl)
  have hnA : ∀ (a : Nat) (cell : Cell), xs.heap[a]? = some cell → cell.vm.isStatics = true → ¬ A a := fun a cell hc _ h => absurd (hA2 a h) (Nat.not_le.mpr (Array.getElem?_eq_some_iff.mp hc).1)
  unfold k_Law_877 at h
  have hRa : x9 = (x9, d9).1 := rfl
  have hRc : k0 + d9 = k0 + (x9, d9).2 := rfl
  refine lv_aload_n hx hb d_law_877 rfl (lv_at hl 1 rfl) ?_
  refine lv_aload_n hx hb d_law_878 rfl (lv_at hl 3 rfl) ?_
  obtain ⟨r1, dr1, y2, hr1, h, hRa, hRc⟩ := bd_k h hRa hRc
  refine zcalli (wr := [(a_lo, .inr (0, [.ref a_lq, .int c_ln, .int c_lt])), (a_lq, .inl (G.2.2.1, 50, .inl c_lb)), (a_ho, .inr (0, [.ref a_hq, .int c_hn, .int c_ht])), (a_hq, .inl (G.2.2.1, 50, .inl c_hb)), (a_ao, .inr (0, [.ref a_aq, .int c_an, .int c_at])), (a_aq, .inl (G.2.2.1, 50, .inl c_ab)), (a_bo, .inr (0, [.ref a_bq, .int c_bn, .int c_bt])), (a_bq, .inl (G.2.2.1, 50, .inl c_bb)), (a_go, .inr (0, [.ref a_gq, .int c_gn, .int c_gt])), (a_gq, .inl (G.2.2.1, 50, .inl c_gb)), (a_m, .inr (6, [.int c_msort, .ref a_mfst, .ref a_msnd, .ref a_mlet, .ref a_mmany, .ref a_mval, .ref a_mord, .int c_cnt, .ref a_mfree, .int c_frees, .int c_cur, .int c_thr, .ref a_mcode, .ref a_mnext, .ref a_mcom, .ref a_mmet])), (a_mfst, .inl (G.2.2.2, 1503, .inr (.inl c_fst))), (a_msnd, .inl (G.2.2.2, 1503, .inr (.inl c_snd))), (a_mlet, .inl (G.2.1, 36072, .inl c_let)), (a_mmany, .inl (G.2.1, 1503, .inl c_many)), (a_mval, .inl (G.2.2.2, 1500, .inr (.inl c_val))), (a_mord, .inl (G.2.1, 1500, .inl c_ord)), (a_mfree, .inl (G.2.1, 1500, .inl c_free)), (a_mcode, .inl (G.2.1, 50, .inl c_code)), (a_mnext, .inl (G.2.1, 50, .inl c_next)), (a_mcom, .inl (G.2.1, 1500, .inl c_com)), (a_mmet, .inl (G.2.1, 50, .inl c_met))]) (w2 := fun (u3 : Nat × Nat) => (wB G a_s a_t a_ao a_bo a_uo a_go c_sort c_set ++ wT G a_t u3.1 u3.2 a_fr a_br a_e0 a_e1 a_e2 a_e3 a_lo a_ho c_c c_cl c_mv c_ml c_en c_rt c_fr c_br c_fi c_st c_vz ++ wK G a_lo a_lq c_lb c_ln c_lt ++ wK G a_ho a_hq c_hb c_hn c_ht ++ wK G a_ao a_aq c_ab c_an c_at ++ wK G a_bo a_bq c_bb c_bn c_bt ++ wK G a_uo a_uq c_ub c_un c_ut ++ wK G a_go a_gq c_gb c_gn c_gt ++ wM G a_m a_mfst a_msnd a_mlet a_mmany a_mval a_mord a_mfree a_mcode a_mnext a_mcom a_mmet c_msort c_cnt c_frees c_cur c_thr c_fst c_snd c_let c_many c_val c_ord c_free c_code c_next c_com c_met ++ wO G a_out r1.2)) (fun hPc hDc => zrunSW (As := [.ref a_s, .ref a_out]) (rest := []) ⟨hx, hb, hml, hown, hts⟩ hN hTs hnA hS hK (c_Law_value l G hfl H.size a_s a_t a_ao a_bo a_uo a_go q1 q2 a_fr a_br a_e0 a_e1 a_e2 a_e3 a_lo a_ho a_uq a_out c_sort c_set c_c c_cl c_mv c_ml c_en c_rt c_fr c_br c_fi c_st c_vz c_ub c_un c_ut c_out r1 dr1 hr1) ⟨rfl, rfl⟩ kw_147 ⟨Nat.le_of_ble_eq_true rfl, Nat.le_of_ble_eq_true rfl⟩ rfl hl.1 (Nat.le_of_ble_eq_true rfl) d_law_879 ⟨by show _ ≤ 600128; omega, by show _ ≤ 7301064; omega⟩ hPc hDc) hP hD hS hA [0, 1, 2, 3, 4, 5, 6, 7, 8, 9, 18, 19, 34] [10, 11, 12, 13, 14, 15, 16, 17, 20, 21, 22, 23, 24, 25, 26, 27, 28, 29, 30, 31, 32, 33] [22, 23, 24, 25, 26, 27, 28, 29, 30, 31, 0, 1, 2, 3, 4, 5, 6, 7, 32, 33, 8, 9, 10, 11, 12, 13, 14, 15, 16, 17, 18, 19, 20, 21, 34] rfl rfl rfl rfl (by decide) rfl (fun _ => rfl) (fun rr u3 H locs hw hP hD hS => ?_)
  refine W.widen (k := k0 + dr1) (n := 1024 * (k0 + dr1)) (by omega) (by omega) ?_
  have hw := hw.symm
  subst hw
  refine lv_istore (lv' := [(5, .int r1.1), (0, .ref b), (1, .ref a_s), (2, .ref a_m), (3, .ref a_out), (4, .int x4)]) hx hb d_law_882 hl (by decide) rfl (fun ls hl => ?_)
  refine lv_aload_n hx hb d_law_884 rfl (lv_at hl 3 rfl) ?_
  obtain ⟨r4, hr4, h⟩ := ob h
  refine zcalll (wr := [(a_s, .inr (5, [.int c_sort, .ref a_t, .ref a_ao, .ref a_bo, .ref a_uo, .int c_set, .ref a_go])), (a_t, .inr (4, [.ref u3.1, .ref u3.2, .int c_en, .int c_rt, .ref a_fr, .ref a_e0, .ref a_e1, .ref a_e2, .ref a_e3, .ref a_br, .ref a_lo, .ref a_ho, .long c_fi, .long c_st, .long c_vz])), (u3.1, .inl (G.2.1, c_cl, .inl c_c)), (u3.2, .inl (G.2.1, c_ml, .inl c_mv)), (a_fr, .inl (G.2.1, 261, .inl c_fr)), (a_br, .inl (G.2.1, 4, .inl c_br)), (a_e0, .inr (1, [.int 0, .int 9, .int 4, .int 5])), (a_e1, .inr (1, [.int 1, .int 24, .int 16, .int 8])), (a_e2, .inr (2, [.int 2, .int 116, .int 48])), (a_e3, .inr (3, [.int 3, .int 260, .int 256])), (a_lo, .inr (0, [.ref a_lq, .int c_ln, .int c_lt])), (a_lq, .inl (G.2.2.1, 50, .inl c_lb)), (a_ho, .inr (0, [.ref a_hq, .int c_hn, .int c_ht])), (a_hq, .inl (G.2.2.1, 50, .inl c_hb)), (a_ao, .inr (0, [.ref a_aq, .int c_an, .int c_at])), (a_aq, .inl (G.2.2.1, 50, .inl c_ab)), (a_bo, .inr (0, [.ref a_bq, .int c_bn, .int c_bt])), (a_bq, .inl (G.2.2.1, 50, .inl c_bb)), (a_uo, .inr (0, [.ref a_uq, .int c_un, .int c_ut])), (a_uq, .inl (G.2.2.1, 50, .inl c_ub)), (a_go, .inr (0, [.ref a_gq, .int c_gn, .int c_gt])), (a_gq, .inl (G.2.2.1, 50, .inl c_gb)), (a_out, .inl (G.2.2.2, 1, .inr (.inl r1.2)))]) (w2 := fun _ => (wB G a_s a_t a_ao a_bo a_uo a_go c_sort c_set ++ wT G a_t u3.1 u3.2 a_fr a_br a_e0 a_e1 a_e2 a_e3 a_lo a_ho c_c c_cl c_mv c_ml c_en c_rt c_fr c_br c_fi c_st c_vz ++ wK G a_lo a_lq c_lb c_ln c_lt ++ wK G a_ho a_hq c_hb c_hn c_ht ++ wK G a_ao a_aq c_ab c_an c_at ++ wK G a_bo a_bq c_bb c_bn c_bt ++ wK G a_uo a_uq c_ub c_un c_ut ++ wK G a_go a_gq c_gb c_gn c_gt ++ wM G a_m a_mfst a_msnd a_mlet a_mmany a_mval a_mord a_mfree a_mcode a_mnext a_mcom a_mmet c_msort c_cnt c_frees c_cur r4.2 c_fst c_snd c_let c_many c_val c_ord c_free c_code c_next c_com c_met ++ wO G a_out r1.2)) (zrunV (As := []) (rest := []) ⟨hx, hb, hml, hown, hts⟩ hN hK (c_Model_value l G H.size a_m a_mfst a_msnd a_mlet a_mmany a_mval a_mord a_mfree a_mcode a_mnext a_mcom a_mmet c_msort c_cnt c_frees c_cur c_thr c_fst c_snd c_let c_many c_val c_ord c_free c_code c_next c_com c_met r4 hr4) ⟨rfl, rfl⟩ kv_Law_149 ⟨Nat.le_of_ble_eq_true rfl, Nat.le_of_ble_eq_true rfl⟩ 0 rfl rfl rfl hl.1 (Nat.le_of_ble_eq_true rfl) d_law_885 ⟨by show _ ≤ 600128; omega, by show _ ≤ 7301064; omega⟩) hP hD hS hA [22, 23, 24, 25, 26, 27, 28, 29, 30, 31, 32, 33] [0, 1, 2, 3, 4, 5, 6, 7, 8, 9, 10, 11, 12, 13, 14, 15, 16, 17, 18, 19, 20, 21, 34] [0, 1, 2, 3, 4, 5, 6, 7, 8, 9, 10, 11, 12, 13, 14, 15, 16, 17, 18, 19, 20, 21, 23, 24, 25, 26, 27, 28, 29, 30, 31, 32, 33, 34, 22] rfl rfl rfl rfl (by decide) rfl (fun _ => rfl) (fun rr _ H locs hw hP hD hS => ?_)
  have hw := hw.symm
  subst hw
  refine lv_lstore (lv' := [(6, .long r4.1), (5, .int r1.1), (0, .ref b), (1, .ref a_s), (2, .ref a_m), (3, .ref a_out), (4, .int x4)]) hx hb d_law_888 hl (by decide) rfl (fun ls hl => ?_)
  refine lv_aload_n hx hb d_law_890 rfl (lv_at hl 4 rfl) ?_
  obtain ⟨r5, hr5, h⟩ := ob h
  refine zpcalli (wr := [(a_s, .inr (5, [.int c_sort, .ref a_t, .ref a_ao, .ref a_bo, .ref a_uo, .int c_set, .ref a_go])), (a_t, .inr (4, [.ref u3.1, .ref u3.2, .int c_en, .int c_rt, .ref a_fr, .ref a_e0, .ref a_e1, .ref a_e2, .ref a_e3, .ref a_br, .ref a_lo, .ref a_ho, .long c_fi, .long c_st, .long c_vz])), (u3.1, .inl (G.2.1, c_cl, .inl c_c)), (u3.2, .inl (G.2.1, c_ml, .inl c_mv)), (a_fr, .inl (G.2.1, 261, .inl c_fr)), (a_br, .inl (G.2.1, 4, .inl c_br)), (a_e0, .inr (1, [.int 0, .int 9, .int 4, .int 5])), (a_e1, .inr (1, [.int 1, .int 24, .int 16, .int 8])), (a_e2, .inr (2, [.int 2, .int 116, .int 48])), (a_e3, .inr (3, [.int 3, .int 260, .int 256])), (a_lo, .inr (0, [.ref a_lq, .int c_ln, .int c_lt])), (a_lq, .inl (G.2.2.1, 50, .inl c_lb)), (a_ho, .inr (0, [.ref a_hq, .int c_hn, .int c_ht])), (a_hq, .inl (G.2.2.1, 50, .inl c_hb)), (a_ao, .inr (0, [.ref a_aq, .int c_an, .int c_at])), (a_aq, .inl (G.2.2.1, 50, .inl c_ab)), (a_bo, .inr (0, [.ref a_bq, .int c_bn, .int c_bt])), (a_bq, .inl (G.2.2.1, 50, .inl c_bb)), (a_uo, .inr (0, [.ref a_uq, .int c_un, .int c_ut])), (a_uq, .inl (G.2.2.1, 50, .inl c_ub)), (a_go, .inr (0, [.ref a_gq, .int c_gn, .int c_gt])), (a_gq, .inl (G.2.2.1, 50, .inl c_gb)), (a_out, .inl (G.2.2.2, 1, .inr (.inl r1.2)))]) (w2 := fun _ => (wB G a_s a_t a_ao a_bo a_uo a_go c_sort c_set ++ wT G a_t u3.1 u3.2 a_fr a_br a_e0 a_e1 a_e2 a_e3 a_lo a_ho c_c c_cl c_mv c_ml c_en c_rt c_fr c_br c_fi c_st c_vz ++ wK G a_lo a_lq c_lb c_ln c_lt ++ wK G a_ho a_hq c_hb c_hn c_ht ++ wK G a_ao a_aq c_ab c_an c_at ++ wK G a_bo a_bq c_bb c_bn c_bt ++ wK G a_uo a_uq c_ub c_un c_ut ++ wK G a_go a_gq c_gb c_gn c_gt ++ wM G a_m a_mfst a_msnd a_mlet a_mmany a_mval a_mord a_mfree a_mcode a_mnext a_mcom a_mmet c_msort c_cnt c_frees c_cur r4.2 c_fst c_snd c_let c_many c_val c_ord c_free c_code c_next c_com c_met ++ wO G a_out r1.2)) (zrunV (As := []) (rest := []) ⟨hx, hb, hml, hown, hts⟩ hN hK (c_Model_thrown l G H.size a_m a_mfst a_msnd a_mlet a_mmany a_mval a_mord a_mfree a_mcode a_mnext a_mcom a_mmet c_msort c_cnt c_frees c_cur r4.2 c_fst c_snd c_let c_many c_val c_ord c_free c_code c_next c_com c_met r5 hr5) ⟨rfl, rfl⟩ kv_Law_95 ⟨Nat.le_of_ble_eq_true rfl, Nat.le_of_ble_eq_true rfl⟩ 0 rfl rfl rfl hl.1 (Nat.le_of_ble_eq_true rfl) d_law_891 ⟨by show _ ≤ 600128; omega, by show _ ≤ 7301064; omega⟩) hP hD hS hA [22, 23, 24, 25, 26, 27, 28, 29, 30, 31, 32, 33] [0, 1, 2, 3, 4, 5, 6, 7, 8, 9, 10, 11, 12, 13, 14, 15, 16, 17, 18, 19, 20, 21, 34] [0, 1, 2, 3, 4, 5, 6, 7, 8, 9, 10, 11, 12, 13, 14, 15, 16, 17, 18, 19, 20, 21, 23, 24, 25, 26, 27, 28, 29, 30, 31, 32, 33, 34, 22] rfl rfl rfl rfl (by decide) rfl (fun _ => rfl) (fun rr _ H hw hP hD hS => ?_)
  have hw := hw.symm
  subst hw
  refine lv_iload hx hb d_law_894 (lv_at hl 1 rfl) ?_
  refine lv_icmp_eq (tgt := 901) hx hb d_law_896 (by decide) (fun q6 => ?_) (fun q6 => ?_)
  · have h := it h q6
    refine lv_iload hx hb d_law_901 (lv_at hl 1 rfl) ?_
    refine lv_if_ne (tgt := 917) hx hb d_law_903 (by decide) (fun q7 => ?_) (fun q7 => ?_)
    · have h := ie h q7
      refine lv_goto (tgt := 1245) hx hb d_law_917 (by decide) ?_
      obtain ⟨v8, ev8⟩ : ∃ y : Int32, y = x4 + 6 := ⟨_, rfl⟩
      have h := nm_k h v8 ev8
      refine lv_iinc (v := v8) (lv' := [(4, .int v8), (6, .long r4.1), (5, .int r1.1), (0, .ref b), (1, .ref a_s), (2, .ref a_m), (3, .ref a_out)]) hx hb d_law_1245 hl (k := 6) rfl (by rw [ev8]; rfl) (by decide) rfl (fun ls hl => ?_)
      refine lv_goto (tgt := 33) hx hb d_law_1248 (by decide) ?_
      have ey := Option.some.inj h
      rw [← ey] at hRa hRc
      have hRc : k0 + d9 = k0 + dr1 + 0 := hRc
      obtain ⟨e8, he8, hP8⟩ := hc _ hRa
      exact hP8 (k0 + dr1) (by omega) u3.1 u3.2 H locs ls hP hD hS (lv_sub hl [3, 4, 5, 6, 0] rfl)
    · have h := it h q7
      refine lv_aload_n hx hb d_law_906 rfl (lv_at hl 5 rfl) ?_
      refine lv_iconst (v := 0) hx hb d_law_907 (by decide) ?_
      obtain ⟨h9, h⟩ := gi_k h
      refine va_lald hx hb hK hP 34 2 rfl rfl h9 d_law_908 ?_
      refine lv_lload hx hb d_law_909 (lv_at hl 0 rfl) ?_
      refine W.lcmp hx hb d_law_911 ?_
      refine lv_if_eq (tgt := 917) hx hb d_law_912 (by decide) (fun q10 => ?_) (fun q10 => ?_)
      · have h := it h q10
        refine lv_goto (tgt := 1245) hx hb d_law_917 (by decide) ?_
        obtain ⟨v11, ev11⟩ : ∃ y : Int32, y = x4 + 6 := ⟨_, rfl⟩
        have h := nm_k h v11 ev11
        refine lv_iinc (v := v11) (lv' := [(4, .int v11), (6, .long r4.1), (5, .int r1.1), (0, .ref b), (1, .ref a_s), (2, .ref a_m), (3, .ref a_out)]) hx hb d_law_1245 hl (k := 6) rfl (by rw [ev11]; rfl) (by decide) rfl (fun ls hl => ?_)
        refine lv_goto (tgt := 33) hx hb d_law_1248 (by decide) ?_
        have ey := Option.some.inj h
        rw [← ey] at hRa hRc
        have hRc : k0 + d9 = k0 + dr1 + 0 := hRc
        obtain ⟨e8, he8, hP8⟩ := hc _ hRa
        exact hP8 (k0 + dr1) (by omega) u3.1 u3.2 H locs ls hP hD hS (lv_sub hl [3, 4, 5, 6, 0] rfl)
      · have h := ie h q10
        refine lv_iconst (v := 0) hx hb d_law_915 (by decide) ?_
        have ey := Option.some.inj h
        rw [← ey] at hRa
        obtain ⟨ey2, ed9⟩ := he _ hRa
        exact absurd ey2 (by decide)
  · have h := ie h q6
    refine lv_iconst (v := 0) hx hb d_law_899 (by decide) ?_
    have ey := Option.some.inj h
    rw [← ey] at hRa
    obtain ⟨ey2, ed9⟩ := he _ hRa
    exact absurd ey2 (by decide)

noncomputable def k_Law_920 (sl : Nat) (sx : Nat → Int32) (c_sort c_msort : Int32) (c_set : Int32) (c_c : (Nat → Int32)) (c_cl : Nat) (c_mv : (Nat → Int32)) (c_ml : Nat) (c_en : Int32) (c_rt : Int32) (c_fr : (Nat → Int32)) (c_br : (Nat → Int32)) (c_fi : Int64) (c_st : Int64) (c_vz : Int64) (c_lb : (Nat → Int32)) (c_ln : Int32) (c_lt : Int32) (c_hb : (Nat → Int32)) (c_hn : Int32) (c_ht : Int32) (c_ab : (Nat → Int32)) (c_an : Int32) (c_at : Int32) (c_bb : (Nat → Int32)) (c_bn : Int32) (c_bt : Int32) (c_ub : (Nat → Int32)) (c_un : Int32) (c_ut : Int32) (c_gb : (Nat → Int32)) (c_gn : Int32) (c_gt : Int32) (c_cnt : Int32) (c_frees : Int32) (c_cur : Int32) (c_thr : Int32) (c_fst : (Nat → Int64)) (c_snd : (Nat → Int64)) (c_let : (Nat → Int32)) (c_many : (Nat → Int32)) (c_val : (Nat → Int64)) (c_ord : (Nat → Int32)) (c_free : (Nat → Int32)) (c_code : (Nat → Int32)) (c_next : (Nat → Int32)) (c_com : (Nat → Int32)) (c_met : (Nat → Int32)) (c_out : (Nat → Int64)) (x4 : Int32) : Option (((Int32 × Int32 × (Nat → Int32) × Nat × (Nat → Int32) × Nat × Int32 × Int32 × (Nat → Int32) × (Nat → Int32) × Int64 × Int64 × Int64 × (Nat → Int32) × Int32 × Int32 × (Nat → Int32) × Int32 × Int32 × (Nat → Int32) × Int32 × Int32 × (Nat → Int32) × Int32 × Int32 × (Nat → Int32) × Int32 × Int32 × (Nat → Int32) × Int32 × Int32 × Int32 × Int32 × Int32 × Int32 × (Nat → Int64) × (Nat → Int64) × (Nat → Int32) × (Nat → Int32) × (Nat → Int64) × (Nat → Int32) × (Nat → Int32) × (Nat → Int32) × (Nat → Int32) × (Nat → Int32) × (Nat → Int32) × (Nat → Int64)) ⊕ Int32) × Nat) :=
(f_Store_rank c_c c_cl c_rt c_ab c_an).bind fun r1 =>
(f_Model_rank c_msort c_cnt c_thr c_fst c_snd c_let c_many c_ord).bind fun r2 =>
if r1 = r2.1 then
(nm (x4 + 6) fun v4 =>
some (.inl (v4, c_set, c_c, c_cl, c_mv, c_ml, c_en, c_rt, c_fr, c_br, c_fi, c_st, c_vz, c_lb, c_ln, c_lt, c_hb, c_hn, c_ht, c_ab, c_an, c_at, c_bb, c_bn, c_bt, c_ub, c_un, c_ut, c_gb, c_gn, c_gt, c_cnt, c_frees, c_cur, r2.2, c_fst, c_snd, c_let, c_many, c_val, c_ord, c_free, c_code, c_next, c_com, c_met, c_out), 0))
else
(some (.inr 0, 0))
set_option maxHeartbeats 8000000 in
set_option maxRecDepth 100000 in
theorem w_Law_920 (xp : Program) (l : Launch) (xe : Env) (xs : State) (xm : MethodId) (xb : List Frame) (xme : Method) (xc : Code) (Q : State → Prop) (A : Nat → Prop) (G : zG) (b rc : Nat) (a_s a_t a_ao a_bo a_uo a_go a_fr a_br a_e0 a_e1 a_e2 a_e3 a_lo a_ho a_lq a_hq a_aq a_bq a_uq a_gq a_m a_mfst a_msnd a_mlet a_mmany a_mval a_mord a_mfree a_mcode a_mnext a_mcom a_mmet a_out : Nat) (c_sort : Int32) (c_msort : Int32) (sl : Nat) (sx : Nat → Int32) (hfl : l.flags = flags0) (hB : rc ≤ 7129) (C0 : lwC xp xs xm xc A G b sl sx) (c_set : Int32) (c_c : (Nat → Int32)) (c_cl : Nat) (c_mv : (Nat → Int32)) (c_ml : Nat) (c_en : Int32) (c_rt : Int32) (c_fr : (Nat → Int32)) (c_br : (Nat → Int32)) (c_fi : Int64) (c_st : Int64) (c_vz : Int64) (c_lb : (Nat → Int32)) (c_ln : Int32) (c_lt : Int32) (c_hb : (Nat → Int32)) (c_hn : Int32) (c_ht : Int32) (c_ab : (Nat → Int32)) (c_an : Int32) (c_at : Int32) (c_bb : (Nat → Int32)) (c_bn : Int32) (c_bt : Int32) (c_ub : (Nat → Int32)) (c_un : Int32) (c_ut : Int32) (c_gb : (Nat → Int32)) (c_gn : Int32) (c_gt : Int32) (c_cnt : Int32) (c_frees : Int32) (c_cur : Int32) (c_thr : Int32) (c_fst : (Nat → Int64)) (c_snd : (Nat → Int64)) (c_let : (Nat → Int32)) (c_many : (Nat → Int32)) (c_val : (Nat → Int64)) (c_ord : (Nat → Int32)) (c_free : (Nat → Int32)) (c_code : (Nat → Int32)) (c_next : (Nat → Int32)) (c_com : (Nat → Int32)) (c_met : (Nat → Int32)) (c_out : (Nat → Int64)) (x4 : Int32) (x9 : (Int32 × Int32 × (Nat → Int32) × Nat × (Nat → Int32) × Nat × Int32 × Int32 × (Nat → Int32) × (Nat → Int32) × Int64 × Int64 × Int64 × (Nat → Int32) × Int32 × Int32 × (Nat → Int32) × Int32 × Int32 × (Nat → Int32) × Int32 × Int32 × (Nat → Int32) × Int32 × Int32 × (Nat → Int32) × Int32 × Int32 × (Nat → Int32) × Int32 × Int32 × Int32 × Int32 × Int32 × Int32 × (Nat → Int64) × (Nat → Int64) × (Nat → Int32) × (Nat → Int32) × (Nat → Int64) × (Nat → Int32) × (Nat → Int32) × (Nat → Int32) × (Nat → Int32) × (Nat → Int32) × (Nat → Int32) × (Nat → Int64)) ⊕ Int32) (d9 e9 : Nat) (h : k_Law_920 sl sx c_sort c_msort c_set c_c c_cl c_mv c_ml c_en c_rt c_fr c_br c_fi c_st c_vz c_lb c_ln c_lt c_hb c_hn c_ht c_ab c_an c_at c_bb c_bn c_bt c_ub c_un c_ut c_gb c_gn c_gt c_cnt c_frees c_cur c_thr c_fst c_snd c_let c_many c_val c_ord c_free c_code c_next c_com c_met c_out x4 = some (x9, d9)) (hc : ∀ v', x9 = .inl v' → ∃ e', e9 = d9 + e' ∧ lwPP xp l xe xs xm xb xme xc Q A G b rc a_s a_t a_ao a_bo a_uo a_go a_fr a_br a_e0 a_e1 a_e2 a_e3 a_lo a_ho a_lq a_hq a_aq a_bq a_uq a_gq a_m a_mfst a_msnd a_mlet a_mmany a_mval a_mord a_mfree a_mcode a_mnext a_mcom a_mmet a_out c_sort c_msort v' e') (he : ∀ t, x9 = .inr t → t = 1 ∧ e9 = d9) (hde : d9 ≤ e9) (k0 : Nat) (hk9 : rc = k0 + e9) (q1 q2 : Nat) (H : Heap) (locs : List Loc) (ls : Array Slot) (hP : va_P G.1 classes (wB G a_s a_t a_ao a_bo a_uo a_go c_sort c_set ++ wT G a_t q1 q2 a_fr a_br a_e0 a_e1 a_e2 a_e3 a_lo a_ho c_c c_cl c_mv c_ml c_en c_rt c_fr c_br c_fi c_st c_vz ++ wK G a_lo a_lq c_lb c_ln c_lt ++ wK G a_ho a_hq c_hb c_hn c_ht ++ wK G a_ao a_aq c_ab c_an c_at ++ wK G a_bo a_bq c_bb c_bn c_bt ++ wK G a_uo a_uq c_ub c_un c_ut ++ wK G a_go a_gq c_gb c_gn c_gt ++ wM G a_m a_mfst a_msnd a_mlet a_mmany a_mval a_mord a_mfree a_mcode a_mnext a_mcom a_mmet c_msort c_cnt c_frees c_cur c_thr c_fst c_snd c_let c_many c_val c_ord c_free c_code c_next c_com c_met ++ wO G a_out c_out) H) (hD : va_D A (wB G a_s a_t a_ao a_bo a_uo a_go c_sort c_set ++ wT G a_t q1 q2 a_fr a_br a_e0 a_e1 a_e2 a_e3 a_lo a_ho c_c c_cl c_mv c_ml c_en c_rt c_fr c_br c_fi c_st c_vz ++ wK G a_lo a_lq c_lb c_ln c_lt ++ wK G a_ho a_hq c_hb c_hn c_ht ++ wK G a_ao a_aq c_ab c_an c_at ++ wK G a_bo a_bq c_bb c_bn c_bt ++ wK G a_uo a_uq c_ub c_un c_ut ++ wK G a_go a_gq c_gb c_gn c_gt ++ wM G a_m a_mfst a_msnd a_mlet a_mmany a_mval a_mord a_mfree a_mcode a_mnext a_mcom a_mmet c_msort c_cnt c_frees c_cur c_thr c_fst c_snd c_let c_many c_val c_ord c_free c_code c_next c_com c_met ++ wO G a_out c_out)) (hS : va_S A xs.heap H locs) (hl : lv_has ls 8 [(0, .ref b), (1, .ref a_s), (2, .ref a_m), (3, .ref a_out), (4, .int x4)]) :
    W xp l xe room_1 xs xm #[Value.ref b] xb xme xc H locs k0 (1024 * k0) Q (F0 xm 920 ls []) := by
  obtain ⟨hx, hb, hts, hown, hml, hN, hTs, hK, hX, hbl, hA, hA2⟩ := C0
  have hbA : ¬ A b := fun h => absurd (hA2 b h) (Nat.not_le.mpr hbl)
  have hnA : ∀ (a : Nat) (cell : Cell), xs.heap[a]? = some cell → cell.vm.isStatics = true → ¬ A a := fun a cell hc _ h => absurd (hA2 a h) (Nat.not_le.mpr (Array.getElem?_eq_some_iff.mp hc).1)
  unfold k_Law_920 at h
  have hRa : x9 = (x9, d9).1 := rfl
  have hRc : k0 + d9 = k0 + (x9, d9).2 := rfl
  refine lv_aload_n hx hb d_law_920 rfl (lv_at hl 1 rfl) ?_
  obtain ⟨r1, hr1, h⟩ := ob h
  refine zpcalli (wr := [(a_lo, .inr (0, [.ref a_lq, .int c_ln, .int c_lt])), (a_lq, .inl (G.2.2.1, 50, .inl c_lb)), (a_ho, .inr (0, [.ref a_hq, .int c_hn, .int c_ht])), (a_hq, .inl (G.2.2.1, 50, .inl c_hb)), (a_bo, .inr (0, [.ref a_bq, .int c_bn, .int c_bt])), (a_bq, .inl (G.2.2.1, 50, .inl c_bb)), (a_uo, .inr (0, [.ref a_uq, .int c_un, .int c_ut])), (a_uq, .inl (G.2.2.1, 50, .inl c_ub)), (a_go, .inr (0, [.ref a_gq, .int c_gn, .int c_gt])), (a_gq, .inl (G.2.2.1, 50, .inl c_gb)), (a_m, .inr (6, [.int c_msort, .ref a_mfst, .ref a_msnd, .ref a_mlet, .ref a_mmany, .ref a_mval, .ref a_mord, .int c_cnt, .ref a_mfree, .int c_frees, .int c_cur, .int c_thr, .ref a_mcode, .ref a_mnext, .ref a_mcom, .ref a_mmet])), (a_mfst, .inl (G.2.2.2, 1503, .inr (.inl c_fst))), (a_msnd, .inl (G.2.2.2, 1503, .inr (.inl c_snd))), (a_mlet, .inl (G.2.1, 36072, .inl c_let)), (a_mmany, .inl (G.2.1, 1503, .inl c_many)), (a_mval, .inl (G.2.2.2, 1500, .inr (.inl c_val))), (a_mord, .inl (G.2.1, 1500, .inl c_ord)), (a_mfree, .inl (G.2.1, 1500, .inl c_free)), (a_mcode, .inl (G.2.1, 50, .inl c_code)), (a_mnext, .inl (G.2.1, 50, .inl c_next)), (a_mcom, .inl (G.2.1, 1500, .inl c_com)), (a_mmet, .inl (G.2.1, 50, .inl c_met)), (a_out, .inl (G.2.2.2, 1, .inr (.inl c_out)))]) (w2 := fun _ => (wB G a_s a_t a_ao a_bo a_uo a_go c_sort c_set ++ wT G a_t q1 q2 a_fr a_br a_e0 a_e1 a_e2 a_e3 a_lo a_ho c_c c_cl c_mv c_ml c_en c_rt c_fr c_br c_fi c_st c_vz ++ wK G a_lo a_lq c_lb c_ln c_lt ++ wK G a_ho a_hq c_hb c_hn c_ht ++ wK G a_ao a_aq c_ab c_an c_at ++ wK G a_bo a_bq c_bb c_bn c_bt ++ wK G a_uo a_uq c_ub c_un c_ut ++ wK G a_go a_gq c_gb c_gn c_gt ++ wM G a_m a_mfst a_msnd a_mlet a_mmany a_mval a_mord a_mfree a_mcode a_mnext a_mcom a_mmet c_msort c_cnt c_frees c_cur c_thr c_fst c_snd c_let c_many c_val c_ord c_free c_code c_next c_com c_met ++ wO G a_out c_out)) (zrunV (As := []) (rest := []) ⟨hx, hb, hml, hown, hts⟩ hN hK (c_Store_rank l G H.size a_s a_t a_ao a_bo a_uo a_go q1 q2 a_fr a_br a_e0 a_e1 a_e2 a_e3 a_lo a_ho a_aq c_sort c_set c_c c_cl c_mv c_ml c_en c_rt c_fr c_br c_fi c_st c_vz c_ab c_an c_at r1 hr1) ⟨rfl, rfl⟩ kv_Law_150 ⟨Nat.le_of_ble_eq_true rfl, Nat.le_of_ble_eq_true rfl⟩ 0 rfl rfl rfl hl.1 (Nat.le_of_ble_eq_true rfl) d_law_921 ⟨by show _ ≤ 600128; omega, by show _ ≤ 7301064; omega⟩) hP hD hS hA [0, 1, 2, 3, 4, 5, 6, 7, 8, 9, 14, 15] [10, 11, 12, 13, 16, 17, 18, 19, 20, 21, 22, 23, 24, 25, 26, 27, 28, 29, 30, 31, 32, 33, 34] [23, 24, 25, 26, 27, 28, 29, 30, 31, 32, 0, 1, 2, 3, 33, 34, 4, 5, 6, 7, 8, 9, 10, 11, 12, 13, 14, 15, 16, 17, 18, 19, 20, 21, 22] rfl rfl rfl rfl (by decide) rfl (fun _ => rfl) (fun rr _ H hw hP hD hS => ?_)
  have hw := hw.symm
  subst hw
  refine lv_aload_n hx hb d_law_924 rfl (lv_at hl 2 rfl) ?_
  obtain ⟨r2, hr2, h⟩ := ob h
  refine zcalli (wr := [(a_s, .inr (5, [.int c_sort, .ref a_t, .ref a_ao, .ref a_bo, .ref a_uo, .int c_set, .ref a_go])), (a_t, .inr (4, [.ref q1, .ref q2, .int c_en, .int c_rt, .ref a_fr, .ref a_e0, .ref a_e1, .ref a_e2, .ref a_e3, .ref a_br, .ref a_lo, .ref a_ho, .long c_fi, .long c_st, .long c_vz])), (q1, .inl (G.2.1, c_cl, .inl c_c)), (q2, .inl (G.2.1, c_ml, .inl c_mv)), (a_fr, .inl (G.2.1, 261, .inl c_fr)), (a_br, .inl (G.2.1, 4, .inl c_br)), (a_e0, .inr (1, [.int 0, .int 9, .int 4, .int 5])), (a_e1, .inr (1, [.int 1, .int 24, .int 16, .int 8])), (a_e2, .inr (2, [.int 2, .int 116, .int 48])), (a_e3, .inr (3, [.int 3, .int 260, .int 256])), (a_lo, .inr (0, [.ref a_lq, .int c_ln, .int c_lt])), (a_lq, .inl (G.2.2.1, 50, .inl c_lb)), (a_ho, .inr (0, [.ref a_hq, .int c_hn, .int c_ht])), (a_hq, .inl (G.2.2.1, 50, .inl c_hb)), (a_ao, .inr (0, [.ref a_aq, .int c_an, .int c_at])), (a_aq, .inl (G.2.2.1, 50, .inl c_ab)), (a_bo, .inr (0, [.ref a_bq, .int c_bn, .int c_bt])), (a_bq, .inl (G.2.2.1, 50, .inl c_bb)), (a_uo, .inr (0, [.ref a_uq, .int c_un, .int c_ut])), (a_uq, .inl (G.2.2.1, 50, .inl c_ub)), (a_go, .inr (0, [.ref a_gq, .int c_gn, .int c_gt])), (a_gq, .inl (G.2.2.1, 50, .inl c_gb)), (a_out, .inl (G.2.2.2, 1, .inr (.inl c_out)))]) (w2 := fun _ => (wB G a_s a_t a_ao a_bo a_uo a_go c_sort c_set ++ wT G a_t q1 q2 a_fr a_br a_e0 a_e1 a_e2 a_e3 a_lo a_ho c_c c_cl c_mv c_ml c_en c_rt c_fr c_br c_fi c_st c_vz ++ wK G a_lo a_lq c_lb c_ln c_lt ++ wK G a_ho a_hq c_hb c_hn c_ht ++ wK G a_ao a_aq c_ab c_an c_at ++ wK G a_bo a_bq c_bb c_bn c_bt ++ wK G a_uo a_uq c_ub c_un c_ut ++ wK G a_go a_gq c_gb c_gn c_gt ++ wM G a_m a_mfst a_msnd a_mlet a_mmany a_mval a_mord a_mfree a_mcode a_mnext a_mcom a_mmet c_msort c_cnt c_frees c_cur r2.2 c_fst c_snd c_let c_many c_val c_ord c_free c_code c_next c_com c_met ++ wO G a_out c_out)) (zrunV (As := []) (rest := [.int r1]) ⟨hx, hb, hml, hown, hts⟩ hN hK (c_Model_rank l G H.size a_m a_mfst a_msnd a_mlet a_mmany a_mval a_mord a_mfree a_mcode a_mnext a_mcom a_mmet c_msort c_cnt c_frees c_cur c_thr c_fst c_snd c_let c_many c_val c_ord c_free c_code c_next c_com c_met r2 hr2) ⟨rfl, rfl⟩ kv_Law_153 ⟨Nat.le_of_ble_eq_true rfl, Nat.le_of_ble_eq_true rfl⟩ 0 rfl rfl rfl hl.1 (Nat.le_of_ble_eq_true rfl) d_law_925 ⟨by show _ ≤ 600128; omega, by show _ ≤ 7301064; omega⟩) hP hD hS hA [22, 23, 24, 25, 26, 27, 28, 29, 30, 31, 32, 33] [0, 1, 2, 3, 4, 5, 6, 7, 8, 9, 10, 11, 12, 13, 14, 15, 16, 17, 18, 19, 20, 21, 34] [0, 1, 2, 3, 4, 5, 6, 7, 8, 9, 10, 11, 12, 13, 14, 15, 16, 17, 18, 19, 20, 21, 23, 24, 25, 26, 27, 28, 29, 30, 31, 32, 33, 34, 22] rfl rfl rfl rfl (by decide) rfl (fun _ => rfl) (fun rr _ H locs hw hP hD hS => ?_)
  have hw := hw.symm
  subst hw
  refine lv_icmp_eq (tgt := 1245) hx hb d_law_928 (by decide) (fun q3 => ?_) (fun q3 => ?_)
  · have h := it h q3
    obtain ⟨v4, ev4⟩ : ∃ y : Int32, y = x4 + 6 := ⟨_, rfl⟩
    have h := nm_k h v4 ev4
    refine lv_iinc (v := v4) (lv' := [(4, .int v4), (0, .ref b), (1, .ref a_s), (2, .ref a_m), (3, .ref a_out)]) hx hb d_law_1245 hl (k := 4) rfl (by rw [ev4]; rfl) (by decide) rfl (fun ls hl => ?_)
    refine lv_goto (tgt := 33) hx hb d_law_1248 (by decide) ?_
    have ey := Option.some.inj h
    rw [← ey] at hRa hRc
    have hRc : k0 + d9 = k0 + 0 := hRc
    obtain ⟨e8, he8, hP8⟩ := hc _ hRa
    exact hP8 (k0) (by omega) q1 q2 H locs ls hP hD hS (lv_sub hl [1, 2, 3, 4, 0] rfl)
  · have h := ie h q3
    refine lv_iconst (v := 0) hx hb d_law_931 (by decide) ?_
    have ey := Option.some.inj h
    rw [← ey] at hRa
    obtain ⟨ey2, ed9⟩ := he _ hRa
    exact absurd ey2 (by decide)
