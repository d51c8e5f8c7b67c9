noncomputable def sw_Law (sl : Nat) (sx : Nat → Int32) (c_sort c_msort : Int32) (c_set : Int32) (c_c : (Nat → Int32)) (c_cl : Nat) (c_mv : (Nat → Int32)) (c_ml : Nat) (c_en : Int32) (c_rt : Int32) (c_fr : (Nat → Int32)) (c_br : (Nat → Int32)) (c_fi : Int64) (c_st : Int64) (c_vz : Int64) (c_lb : (Nat → Int32)) (c_ln : Int32) (c_lt : Int32) (c_hb : (Nat → Int32)) (c_hn : Int32) (c_ht : Int32) (c_ab : (Nat → Int32)) (c_an : Int32) (c_at : Int32) (c_bb : (Nat → Int32)) (c_bn : Int32) (c_bt : Int32) (c_ub : (Nat → Int32)) (c_un : Int32) (c_ut : Int32) (c_gb : (Nat → Int32)) (c_gn : Int32) (c_gt : Int32) (c_cnt : Int32) (c_frees : Int32) (c_cur : Int32) (c_thr : Int32) (c_fst : (Nat → Int64)) (c_snd : (Nat → Int64)) (c_let : (Nat → Int32)) (c_many : (Nat → Int32)) (c_val : (Nat → Int64)) (c_ord : (Nat → Int32)) (c_free : (Nat → Int32)) (c_code : (Nat → Int32)) (c_next : (Nat → Int32)) (c_com : (Nat → Int32)) (c_met : (Nat → Int32)) (c_out : (Nat → Int64)) (x4 k : Int32) : Option (((Int32 × Int32 × (Nat → Int32) × Nat × (Nat → Int32) × Nat × Int32 × Int32 × (Nat → Int32) × (Nat → Int32) × Int64 × Int64 × Int64 × (Nat → Int32) × Int32 × Int32 × (Nat → Int32) × Int32 × Int32 × (Nat → Int32) × Int32 × Int32 × (Nat → Int32) × Int32 × Int32 × (Nat → Int32) × Int32 × Int32 × (Nat → Int32) × Int32 × Int32 × Int32 × Int32 × Int32 × Int32 × (Nat → Int64) × (Nat → Int64) × (Nat → Int32) × (Nat → Int32) × (Nat → Int64) × (Nat → Int32) × (Nat → Int32) × (Nat → Int32) × (Nat → Int32) × (Nat → Int32) × (Nat → Int32) × (Nat → Int64)) ⊕ Int32) × Nat) :=
if k = 0 then k_Law_160 sl sx c_sort c_msort c_set c_c c_cl c_mv c_ml c_en c_rt c_fr c_br c_fi c_st c_vz c_lb c_ln c_lt c_hb c_hn c_ht c_ab c_an c_at c_bb c_bn c_bt c_ub c_un c_ut c_gb c_gn c_gt c_cnt c_frees c_cur c_thr c_fst c_snd c_let c_many c_val c_ord c_free c_code c_next c_com c_met c_out x4 else
if k = 1 then k_Law_228 sl sx c_sort c_msort c_set c_c c_cl c_mv c_ml c_en c_rt c_fr c_br c_fi c_st c_vz c_lb c_ln c_lt c_hb c_hn c_ht c_ab c_an c_at c_bb c_bn c_bt c_ub c_un c_ut c_gb c_gn c_gt c_cnt c_frees c_cur c_thr c_fst c_snd c_let c_many c_val c_ord c_free c_code c_next c_com c_met c_out x4 else
if k = 2 then k_Law_340 sl sx c_sort c_msort c_set c_c c_cl c_mv c_ml c_en c_rt c_fr c_br c_fi c_st c_vz c_lb c_ln c_lt c_hb c_hn c_ht c_ab c_an c_at c_bb c_bn c_bt c_ub c_un c_ut c_gb c_gn c_gt c_cnt c_frees c_cur c_thr c_fst c_snd c_let c_many c_val c_ord c_free c_code c_next c_com c_met c_out x4 else
if k = 3 then k_Law_396 sl sx c_sort c_msort c_set c_c c_cl c_mv c_ml c_en c_rt c_fr c_br c_fi c_st c_vz c_lb c_ln c_lt c_hb c_hn c_ht c_ab c_an c_at c_bb c_bn c_bt c_ub c_un c_ut c_gb c_gn c_gt c_cnt c_frees c_cur c_thr c_fst c_snd c_let c_many c_val c_ord c_free c_code c_next c_com c_met c_out x4 else
if k = 4 then k_Law_407 sl sx c_sort c_msort c_set c_c c_cl c_mv c_ml c_en c_rt c_fr c_br c_fi c_st c_vz c_lb c_ln c_lt c_hb c_hn c_ht c_ab c_an c_at c_bb c_bn c_bt c_ub c_un c_ut c_gb c_gn c_gt c_cnt c_frees c_cur c_thr c_fst c_snd c_let c_many c_val c_ord c_free c_code c_next c_com c_met c_out x4 else
if k = 5 then k_Law_418 sl sx c_sort c_msort c_set c_c c_cl c_mv c_ml c_en c_rt c_fr c_br c_fi c_st c_vz c_lb c_ln c_lt c_hb c_hn c_ht c_ab c_an c_at c_bb c_bn c_bt c_ub c_un c_ut c_gb c_gn c_gt c_cnt c_frees c_cur c_thr c_fst c_snd c_let c_many c_val c_ord c_free c_code c_next c_com c_met c_out x4 else
if k = 6 then k_Law_442 sl sx c_sort c_msort c_set c_c c_cl c_mv c_ml c_en c_rt c_fr c_br c_fi c_st c_vz c_lb c_ln c_lt c_hb c_hn c_ht c_ab c_an c_at c_bb c_bn c_bt c_ub c_un c_ut c_gb c_gn c_gt c_cnt c_frees c_cur c_thr c_fst c_snd c_let c_many c_val c_ord c_free c_code c_next c_com c_met c_out x4 else
if k = 7 then k_Law_537 sl sx c_sort c_msort c_set c_c c_cl c_mv c_ml c_en c_rt c_fr c_br c_fi c_st c_vz c_lb c_ln c_lt c_hb c_hn c_ht c_ab c_an c_at c_bb c_bn c_bt c_ub c_un c_ut c_gb c_gn c_gt c_cnt c_frees c_cur c_thr c_fst c_snd c_let c_many c_val c_ord c_free c_code c_next c_com c_met c_out x4 else
if k = 8 then k_Law_580 sl sx c_sort c_msort c_set c_c c_cl c_mv c_ml c_en c_rt c_fr c_br c_fi c_st c_vz c_lb c_ln c_lt c_hb c_hn c_ht c_ab c_an c_at c_bb c_bn c_bt c_ub c_un c_ut c_gb c_gn c_gt c_cnt c_frees c_cur c_thr c_fst c_snd c_let c_many c_val c_ord c_free c_code c_next c_com c_met c_out x4 else
if k = 9 then k_Law_623 sl sx c_sort c_msort c_set c_c c_cl c_mv c_ml c_en c_rt c_fr c_br c_fi c_st c_vz c_lb c_ln c_lt c_hb c_hn c_ht c_ab c_an c_at c_bb c_bn c_bt c_ub c_un c_ut c_gb c_gn c_gt c_cnt c_frees c_cur c_thr c_fst c_snd c_let c_many c_val c_ord c_free c_code c_next c_com c_met c_out x4 else
if k = 10 then k_Law_686 sl sx c_sort c_msort c_set c_c c_cl c_mv c_ml c_en c_rt c_fr c_br c_fi c_st c_vz c_lb c_ln c_lt c_hb c_hn c_ht c_ab c_an c_at c_bb c_bn c_bt c_ub c_un c_ut c_gb c_gn c_gt c_cnt c_frees c_cur c_thr c_fst c_snd c_let c_many c_val c_ord c_free c_code c_next c_com c_met c_out x4 else
if k = 11 then k_Law_765 sl sx c_sort c_msort c_set c_c c_cl c_mv c_ml c_en c_rt c_fr c_br c_fi c_st c_vz c_lb c_ln c_lt c_hb c_hn c_ht c_ab c_an c_at c_bb c_bn c_bt c_ub c_un c_ut c_gb c_gn c_gt c_cnt c_frees c_cur c_thr c_fst c_snd c_let c_many c_val c_ord c_free c_code c_next c_com c_met c_out x4 else
if k = 12 then k_Law_778 sl sx c_sort c_msort c_set c_c c_cl c_mv c_ml c_en c_rt c_fr c_br c_fi c_st c_vz c_lb c_ln c_lt c_hb c_hn c_ht c_ab c_an c_at c_bb c_bn c_bt c_ub c_un c_ut c_gb c_gn c_gt c_cnt c_frees c_cur c_thr c_fst c_snd c_let c_many c_val c_ord c_free c_code c_next c_com c_met c_out x4 else
if k = 13 then k_Law_822 sl sx c_sort c_msort c_set c_c c_cl c_mv c_ml c_en c_rt c_fr c_br c_fi c_st c_vz c_lb c_ln c_lt c_hb c_hn c_ht c_ab c_an c_at c_bb c_bn c_bt c_ub c_un c_ut c_gb c_gn c_gt c_cnt c_frees c_cur c_thr c_fst c_snd c_let c_many c_val c_ord c_free c_code c_next c_com c_met c_out x4 else
if k = 14 then k_Law_877 sl sx c_sort c_msort c_set c_c c_cl c_mv c_ml c_en c_rt c_fr c_br c_fi c_st c_vz c_lb c_ln c_lt c_hb c_hn c_ht c_ab c_an c_at c_bb c_bn c_bt c_ub c_un c_ut c_gb c_gn c_gt c_cnt c_frees c_cur c_thr c_fst c_snd c_let c_many c_val c_ord c_free c_code c_next c_com c_met c_out x4 else
if k = 15 then k_Law_920 sl sx c_sort c_msort c_set c_c c_cl c_mv c_ml c_en c_rt c_fr c_br c_fi c_st c_vz c_lb c_ln c_lt c_hb c_hn c_ht c_ab c_an c_at c_bb c_bn c_bt c_ub c_un c_ut c_gb c_gn c_gt c_cnt c_frees c_cur c_thr c_fst c_snd c_let c_many c_val c_ord c_free c_code c_next c_com c_met c_out x4 else
if k = 16 then k_Law_933 sl sx c_sort c_msort c_set c_c c_cl c_mv c_ml c_en c_rt c_fr c_br c_fi c_st c_vz c_lb c_ln c_lt c_hb c_hn c_ht c_ab c_an c_at c_bb c_bn c_bt c_ub c_un c_ut c_gb c_gn c_gt c_cnt c_frees c_cur c_thr c_fst c_snd c_let c_many c_val c_ord c_free c_code c_next c_com c_met c_out x4 else
if k = 17 then k_Law_969 sl sx c_sort c_msort c_set c_c c_cl c_mv c_ml c_en c_rt c_fr c_br c_fi c_st c_vz c_lb c_ln c_lt c_hb c_hn c_ht c_ab c_an c_at c_bb c_bn c_bt c_ub c_un c_ut c_gb c_gn c_gt c_cnt c_frees c_cur c_thr c_fst c_snd c_let c_many c_val c_ord c_free c_code c_next c_com c_met c_out x4 else
if k = 18 then k_Law_982 sl sx c_sort c_msort c_set c_c c_cl c_mv c_ml c_en c_rt c_fr c_br c_fi c_st c_vz c_lb c_ln c_lt c_hb c_hn c_ht c_ab c_an c_at c_bb c_bn c_bt c_ub c_un c_ut c_gb c_gn c_gt c_cnt c_frees c_cur c_thr c_fst c_snd c_let c_many c_val c_ord c_free c_code c_next c_com c_met c_out x4 else
if k = 19 then k_Law_995 sl sx c_sort c_msort c_set c_c c_cl c_mv c_ml c_en c_rt c_fr c_br c_fi c_st c_vz c_lb c_ln c_lt c_hb c_hn c_ht c_ab c_an c_at c_bb c_bn c_bt c_ub c_un c_ut c_gb c_gn c_gt c_cnt c_frees c_cur c_thr c_fst c_snd c_let c_many c_val c_ord c_free c_code c_next c_com c_met c_out x4 else
if k = 20 then k_Law_1039 sl sx c_sort c_msort c_set c_c c_cl c_mv c_ml c_en c_rt c_fr c_br c_fi c_st c_vz c_lb c_ln c_lt c_hb c_hn c_ht c_ab c_an c_at c_bb c_bn c_bt c_ub c_un c_ut c_gb c_gn c_gt c_cnt c_frees c_cur c_thr c_fst c_snd c_let c_many c_val c_ord c_free c_code c_next c_com c_met c_out x4 else
if k = 21 then k_Law_1163 sl sx c_sort c_msort c_set c_c c_cl c_mv c_ml c_en c_rt c_fr c_br c_fi c_st c_vz c_lb c_ln c_lt c_hb c_hn c_ht c_ab c_an c_at c_bb c_bn c_bt c_ub c_un c_ut c_gb c_gn c_gt c_cnt c_frees c_cur c_thr c_fst c_snd c_let c_many c_val c_ord c_free c_code c_next c_com c_met c_out x4 else
if k = 22 then k_Law_1176 sl sx c_sort c_msort c_set c_c c_cl c_mv c_ml c_en c_rt c_fr c_br c_fi c_st c_vz c_lb c_ln c_lt c_hb c_hn c_ht c_ab c_an c_at c_bb c_bn c_bt c_ub c_un c_ut c_gb c_gn c_gt c_cnt c_frees c_cur c_thr c_fst c_snd c_let c_many c_val c_ord c_free c_code c_next c_com c_met c_out x4 else
if k = 23 then k_Law_1232 sl sx c_sort c_msort c_set c_c c_cl c_mv c_ml c_en c_rt c_fr c_br c_fi c_st c_vz c_lb c_ln c_lt c_hb c_hn c_ht c_ab c_an c_at c_bb c_bn c_bt c_ub c_un c_ut c_gb c_gn c_gt c_cnt c_frees c_cur c_thr c_fst c_snd c_let c_many c_val c_ord c_free c_code c_next c_com c_met c_out x4 else
nm (x4 + 6) fun x => some (.inl (x, c_set, c_c, c_cl, c_mv, c_ml, c_en, c_rt, c_fr, c_br, c_fi, c_st, c_vz, c_lb, c_ln, c_lt, c_hb, c_hn, c_ht, c_ab, c_an, c_at, c_bb, c_bn, c_bt, c_ub, c_un, c_ut, c_gb, c_gn, c_gt, c_cnt, c_frees, c_cur, c_thr, c_fst, c_snd, c_let, c_many, c_val, c_ord, c_free, c_code, c_next, c_com, c_met, c_out), 0)
noncomputable def s_Law (sl : Nat) (sx : Nat → Int32) (c_sort c_msort : Int32) (v : (Int32 × Int32 × (Nat → Int32) × Nat × (Nat → Int32) × Nat × Int32 × Int32 × (Nat → Int32) × (Nat → Int32) × Int64 × Int64 × Int64 × (Nat → Int32) × Int32 × Int32 × (Nat → Int32) × Int32 × Int32 × (Nat → Int32) × Int32 × Int32 × (Nat → Int32) × Int32 × Int32 × (Nat → Int32) × Int32 × Int32 × (Nat → Int32) × Int32 × Int32 × Int32 × Int32 × Int32 × Int32 × (Nat → Int64) × (Nat → Int64) × (Nat → Int32) × (Nat → Int32) × (Nat → Int64) × (Nat → Int32) × (Nat → Int32) × (Nat → Int32) × (Nat → Int32) × (Nat → Int32) × (Nat → Int32) × (Nat → Int64))) : Option (((Int32 × Int32 × (Nat → Int32) × Nat × (Nat → Int32) × Nat × Int32 × Int32 × (Nat → Int32) × (Nat → Int32) × Int64 × Int64 × Int64 × (Nat → Int32) × Int32 × Int32 × (Nat → Int32) × Int32 × Int32 × (Nat → Int32) × Int32 × Int32 × (Nat → Int32) × Int32 × Int32 × (Nat → Int32) × Int32 × Int32 × (Nat → Int32) × Int32 × Int32 × Int32 × Int32 × Int32 × Int32 × (Nat → Int64) × (Nat → Int64) × (Nat → Int32) × (Nat → Int32) × (Nat → Int64) × (Nat → Int32) × (Nat → Int32) × (Nat → Int32) × (Nat → Int32) × (Nat → Int32) × (Nat → Int32) × (Nat → Int64)) ⊕ Int32) × Nat) :=
if (Int32.ofNat sl - 6) < v.1 then some (.inr 1, 0) else
gi v.1 sl <|
nm ((sx v.1.toNatClampNeg) &&& 31) fun k =>
sw_Law sl sx c_sort c_msort v.2.1 v.2.2.1 v.2.2.2.1 v.2.2.2.2.1 v.2.2.2.2.2.1 v.2.2.2.2.2.2.1 v.2.2.2.2.2.2.2.1 v.2.2.2.2.2.2.2.2.1 v.2.2.2.2.2.2.2.2.2.1 v.2.2.2.2.2.2.2.2.2.2.1 v.2.2.2.2.2.2.2.2.2.2.2.1 v.2.2.2.2.2.2.2.2.2.2.2.2.1 v.2.2.2.2.2.2.2.2.2.2.2.2.2.1 v.2.2.2.2.2.2.2.2.2.2.2.2.2.2.1 v.2.2.2.2.2.2.2.2.2.2.2.2.2.2.2.1 v.2.2.2.2.2.2.2.2.2.2.2.2.2.2.2.2.1 v.2.2.2.2.2.2.2.2.2.2.2.2.2.2.2.2.2.1 v.2.2.2.2.2.2.2.2.2.2.2.2.2.2.2.2.2.2.1 v.2.2.2.2.2.2.2.2.2.2.2.2.2.2.2.2.2.2.2.1 v.2.2.2.2.2.2.2.2.2.2.2.2.2.2.2.2.2.2.2.2.1 v.2.2.2.2.2.2.2.2.2.2.2.2.2.2.2.2.2.2.2.2.2.1 v.2.2.2.2.2.2.2.2.2.2.2.2.2.2.2.2.2.2.2.2.2.2.1 v.2.2.2.2.2.2.2.2.2.2.2.2.2.2.2.2.2.2.2.2.2.2.2.1 v.2.2.2.2.2.2.2.2.2.2.2.2.2.2.2.2.2.2.2.2.2.2.2.2.1 v.2.2.2.2.2.2.2.2.2.2.2.2.2.2.2.2.2.2.2.2.2.2.2.2.2.1 v.2.2.2.2.2.2.2.2.2.2.2.2.2.2.2.2.2.2.2.2.2.2.2.2.2.2.1 v.2.2.2.2.2.2.2.2.2.2.2.2.2.2.2.2.2.2.2.2.2.2.2.2.2.2.2.1 v.2.2.2.2.2.2.2.2.2.2.2.2.2.2.2.2.2.2.2.2.2.2.2.2.2.2.2.2.1 v.2.2.2.2.2.2.2.2.2.2.2.2.2.2.2.2.2.2.2.2.2.2.2.2.2.2.2.2.2.1 v.2.2.2.2.2.2.2.2.2.2.2.2.2.2.2.2.2.2.2.2.2.2.2.2.2.2.2.2.2.2.1 v.2.2.2.2.2.2.2.2.2.2.2.2.2.2.2.2.2.2.2.2.2.2.2.2.2.2.2.2.2.2.2.1 v.2.2.2.2.2.2.2.2.2.2.2.2.2.2.2.2.2.2.2.2.2.2.2.2.2.2.2.2.2.2.2.2.1 v.2.2.2.2.2.2.2.2.2.2.2.2.2.2.2.2.2.2.2.2.2.2.2.2.2.2.2.2.2.2.2.2.2.1 v.2.2.2.2.2.2.2.2.2.2.2.2.2.2.2.2.2.2.2.2.2.2.2.2.2.2.2.2.2.2.2.2.2.2.1 v.2.2.2.2.2.2.2.2.2.2.2.2.2.2.2.2.2.2.2.2.2.2.2.2.2.2.2.2.2.2.2.2.2.2.2.1 v.2.2.2.2.2.2.2.2.2.2.2.2.2.2.2.2.2.2.2.2.2.2.2.2.2.2.2.2.2.2.2.2.2.2.2.2.1 v.2.2.2.2.2.2.2.2.2.2.2.2.2.2.2.2.2.2.2.2.2.2.2.2.2.2.2.2.2.2.2.2.2.2.2.2.2.1 v.2.2.2.2.2.2.2.2.2.2.2.2.2.2.2.2.2.2.2.2.2.2.2.2.2.2.2.2.2.2.2.2.2.2.2.2.2.2.1 v.2.2.2.2.2.2.2.2.2.2.2.2.2.2.2.2.2.2.2.2.2.2.2.2.2.2.2.2.2.2.2.2.2.2.2.2.2.2.2.1 v.2.2.2.2.2.2.2.2.2.2.2.2.2.2.2.2.2.2.2.2.2.2.2.2.2.2.2.2.2.2.2.2.2.2.2.2.2.2.2.2.1 v.2.2.2.2.2.2.2.2.2.2.2.2.2.2.2.2.2.2.2.2.2.2.2.2.2.2.2.2.2.2.2.2.2.2.2.2.2.2.2.2.2.1 v.2.2.2.2.2.2.2.2.2.2.2.2.2.2.2.2.2.2.2.2.2.2.2.2.2.2.2.2.2.2.2.2.2.2.2.2.2.2.2.2.2.2.1 v.2.2.2.2.2.2.2.2.2.2.2.2.2.2.2.2.2.2.2.2.2.2.2.2.2.2.2.2.2.2.2.2.2.2.2.2.2.2.2.2.2.2.2.1 v.2.2.2.2.2.2.2.2.2.2.2.2.2.2.2.2.2.2.2.2.2.2.2.2.2.2.2.2.2.2.2.2.2.2.2.2.2.2.2.2.2.2.2.2.1 v.2.2.2.2.2.2.2.2.2.2.2.2.2.2.2.2.2.2.2.2.2.2.2.2.2.2.2.2.2.2.2.2.2.2.2.2.2.2.2.2.2.2.2.2.2.1 v.2.2.2.2.2.2.2.2.2.2.2.2.2.2.2.2.2.2.2.2.2.2.2.2.2.2.2.2.2.2.2.2.2.2.2.2.2.2.2.2.2.2.2.2.2.2 v.1 k
set_option maxHeartbeats 8000000 in
set_option maxRecDepth 100000 in
theorem law_loop (xp : Program) (l : Launch) (xe : Env) (xs : State) (xm : MethodId) (xb : List Frame) (xme : Method) (xc : Code) (Q : State → Prop) (A : Nat → Prop) (G : zG) (b rc : Nat) (a_s a_t a_ao a_bo a_uo a_go a_fr a_br a_e0 a_e1 a_e2 a_e3 a_lo a_ho a_lq a_hq a_aq a_bq a_uq a_gq a_m a_mfst a_msnd a_mlet a_mmany a_mval a_mord a_mfree a_mcode a_mnext a_mcom a_mmet a_out : Nat) (c_sort : Int32) (c_msort : Int32) (sl : Nat) (sx : Nat → Int32) (hfl : l.flags = flags0) (hB : rc ≤ 7129) (C0 : lwC xp xs xm xc A G b sl sx) (hQ : Q = lw_Z xb #[Value.ref b] xs) (hr : xme.sig.returnType = ret) (hlk : xme.locks = false) (D : Nat) : ∀ v : (Int32 × Int32 × (Nat → Int32) × Nat × (Nat → Int32) × Nat × Int32 × Int32 × (Nat → Int32) × (Nat → Int32) × Int64 × Int64 × Int64 × (Nat → Int32) × Int32 × Int32 × (Nat → Int32) × Int32 × Int32 × (Nat → Int32) × Int32 × Int32 × (Nat → Int32) × Int32 × Int32 × (Nat → Int32) × Int32 × Int32 × (Nat → Int32) × Int32 × Int32 × Int32 × Int32 × Int32 × Int32 × (Nat → Int64) × (Nat → Int64) × (Nat → Int32) × (Nat → Int32) × (Nat → Int64) × (Nat → Int32) × (Nat → Int32) × (Nat → Int32) × (Nat → Int32) × (Nat → Int32) × (Nat → Int32) × (Nat → Int64)), lpD (s_Law sl sx c_sort c_msort) v = some (1, D) → lwPP xp l xe xs xm xb xme xc Q A G b rc a_s a_t a_ao a_bo a_uo a_go a_fr a_br a_e0 a_e1 a_e2 a_e3 a_lo a_ho a_lq a_hq a_aq a_bq a_uq a_gq a_m a_mfst a_msnd a_mlet a_mmany a_mval a_mord a_mfree a_mcode a_mnext a_mcom a_mmet a_out c_sort c_msort v D := by
  refine lpD_walk (lwPP xp l xe xs xm xb xme xc Q A G b rc a_s a_t a_ao a_bo a_uo a_go a_fr a_br a_e0 a_e1 a_e2 a_e3 a_lo a_ho a_lq a_hq a_aq a_bq a_uq a_gq a_m a_mfst a_msnd a_mlet a_mmany a_mval a_mord a_mfree a_mcode a_mnext a_mcom a_mmet a_out c_sort c_msort) (fun v x9 d9 e9 h hc he hde => ?_)
  obtain ⟨x4, c_set, c_c, c_cl, c_mv, c_ml, c_en, c_rt, c_fr, c_br, c_fi, c_st, c_vz, c_lb, c_ln, c_lt, c_hb, c_hn, c_ht, c_ab, c_an, c_at, c_bb, c_bn, c_bt, c_ub, c_un, c_ut, c_gb, c_gn, c_gt, c_cnt, c_frees, c_cur, c_thr, c_fst, c_snd, c_let, c_many, c_val, c_ord, c_free, c_code, c_next, c_com, c_met, c_out⟩ := v
  have C1 := C0
  obtain ⟨hx, hb, hts, hown, hml, hN, hTs, hK, hX, hbl, hA, hA2⟩ := C1
  have hbA : ¬ A b := fun h => absurd (hA2 b h) (Nat.not_le.mpr hbl)
  unfold lwPP
  intro k0 hk9 q1 q2 H locs ls hP hD hS hl
  have hP : va_P G.1 classes (wB G a_s a_t a_ao a_bo a_uo a_go c_sort c_set ++ wT G a_t q1 q2 a_fr a_br a_e0 a_e1 a_e2 a_e3 a_lo a_ho c_c c_cl c_mv c_ml c_en c_rt c_fr c_br c_fi c_st c_vz ++ wK G a_lo a_lq c_lb c_ln c_lt ++ wK G a_ho a_hq c_hb c_hn c_ht ++ wK G a_ao a_aq c_ab c_an c_at ++ wK G a_bo a_bq c_bb c_bn c_bt ++ wK G a_uo a_uq c_ub c_un c_ut ++ wK G a_go a_gq c_gb c_gn c_gt ++ wM G a_m a_mfst a_msnd a_mlet a_mmany a_mval a_mord a_mfree a_mcode a_mnext a_mcom a_mmet c_msort c_cnt c_frees c_cur c_thr c_fst c_snd c_let c_many c_val c_ord c_free c_code c_next c_com c_met ++ wO G a_out c_out) H := hP
  have hD : va_D A (wB G a_s a_t a_ao a_bo a_uo a_go c_sort c_set ++ wT G a_t q1 q2 a_fr a_br a_e0 a_e1 a_e2 a_e3 a_lo a_ho c_c c_cl c_mv c_ml c_en c_rt c_fr c_br c_fi c_st c_vz ++ wK G a_lo a_lq c_lb c_ln c_lt ++ wK G a_ho a_hq c_hb c_hn c_ht ++ wK G a_ao a_aq c_ab c_an c_at ++ wK G a_bo a_bq c_bb c_bn c_bt ++ wK G a_uo a_uq c_ub c_un c_ut ++ wK G a_go a_gq c_gb c_gn c_gt ++ wM G a_m a_mfst a_msnd a_mlet a_mmany a_mval a_mord a_mfree a_mcode a_mnext a_mcom a_mmet c_msort c_cnt c_frees c_cur c_thr c_fst c_snd c_let c_many c_val c_ord c_free c_code c_next c_com c_met ++ wO G a_out c_out) := hD
  have hl : lv_has ls 8 [(0, .ref b), (1, .ref a_s), (2, .ref a_m), (3, .ref a_out), (4, .int x4)] := hl
  have h : (if (Int32.ofNat sl - 6) < x4 then some (.inr 1, 0) else gi x4 sl <| nm ((sx x4.toNatClampNeg) &&& 31) fun k => sw_Law sl sx c_sort c_msort c_set c_c c_cl c_mv c_ml c_en c_rt c_fr c_br c_fi c_st c_vz c_lb c_ln c_lt c_hb c_hn c_ht c_ab c_an c_at c_bb c_bn c_bt c_ub c_un c_ut c_gb c_gn c_gt c_cnt c_frees c_cur c_thr c_fst c_snd c_let c_many c_val c_ord c_free c_code c_next c_com c_met c_out x4 k) = some (x9, d9) := h
  refine lv_iload hx hb d_law_33 (lv_at hl 4 rfl) ?_
  refine lv_aload_n hx hb d_law_35 rfl (lv_at hl 0 rfl) ?_
  refine va_slen hx hb hX hbl hbA hS d_law_36 ?_
  refine lv_bipush (v := 6) hx hb d_law_37 (by decide) ?_
  refine lv_isub hx hb d_law_39 ?_
  refine lv_icmp_gt (tgt := 1251) hx hb d_law_40 (by decide) (fun q => ?_) (fun q => ?_)
  · refine lv_iconst (v := 1) hx hb d_law_1251 (by decide) ?_
    refine va_forget (fun z hz => hA2 _ (hS.2.2 z hz)) ?_
    refine W.widen (k := 600128) (n := 7301064) (by omega) (by omega) ?_
    rw [hQ]
    exact lw_ret hx hb hr hlk d_law_1252
  · have h := ie h q
    obtain ⟨hin, h⟩ := gi_k h
    refine lv_aload_n hx hb d_law_43 rfl (lv_at hl 0 rfl) ?_
    refine lv_iload hx hb d_law_44 (lv_at hl 4 rfl) ?_
    refine va_sld hx hb hX hbl hbA hS hin d_law_46 ?_
    refine lv_bipush (v := 31) hx hb d_law_47 (by decide) ?_
    refine lv_iand hx hb d_law_49 ?_
    refine lv_topi (fun k ek => ?_)
    have h := nm_k h k ek
    unfold sw_Law at h
    by_cases g0 : k = 0
    · have h := it h g0
      refine lv_tableIn (tgt := 160) hx hb d_law_50 (by rw [g0]; decide) (by rw [g0]; decide) (by rw [g0]; rfl) (by decide) ?_
      exact w_Law_160 xp l xe xs xm xb xme xc Q A G b rc a_s a_t a_ao a_bo a_uo a_go a_fr a_br a_e0 a_e1 a_e2 a_e3 a_lo a_ho a_lq a_hq a_aq a_bq a_uq a_gq a_m a_mfst a_msnd a_mlet a_mmany a_mval a_mord a_mfree a_mcode a_mnext a_mcom a_mmet a_out c_sort c_msort sl sx hfl hB C0 c_set c_c c_cl c_mv c_ml c_en c_rt c_fr c_br c_fi c_st c_vz c_lb c_ln c_lt c_hb c_hn c_ht c_ab c_an c_at c_bb c_bn c_bt c_ub c_un c_ut c_gb c_gn c_gt c_cnt c_frees c_cur c_thr c_fst c_snd c_let c_many c_val c_ord c_free c_code c_next c_com c_met c_out x4 x9 d9 e9 h hc he hde k0 hk9 q1 q2 H locs ls hP hD hS hl
    have h := ie h g0
    by_cases g1 : k = 1
    · have h := it h g1
      refine lv_tableIn (tgt := 228) hx hb d_law_50 (by rw [g1]; decide) (by rw [g1]; decide) (by rw [g1]; rfl) (by decide) ?_
      exact w_Law_228 xp l xe xs xm xb xme xc Q A G b rc a_s a_t a_ao a_bo a_uo a_go a_fr a_br a_e0 a_e1 a_e2 a_e3 a_lo a_ho a_lq a_hq a_aq a_bq a_uq a_gq a_m a_mfst a_msnd a_mlet a_mmany a_mval a_mord a_mfree a_mcode a_mnext a_mcom a_mmet a_out c_sort c_msort sl sx hfl hB C0 c_set c_c c_cl c_mv c_ml c_en c_rt c_fr c_br c_fi c_st c_vz c_lb c_ln c_lt c_hb c_hn c_ht c_ab c_an c_at c_bb c_bn c_bt c_ub c_un c_ut c_gb c_gn c_gt c_cnt c_frees c_cur c_thr c_fst c_snd c_let c_many c_val c_ord c_free c_code c_next c_com c_met c_out x4 x9 d9 e9 h hc he hde k0 hk9 q1 q2 H locs ls hP hD hS hl
    have h := ie h g1
    by_cases g2 : k = 2
    · have h := it h g2
      refine lv_tableIn (tgt := 340) hx hb d_law_50 (by rw [g2]; decide) (by rw [g2]; decide) (by rw [g2]; rfl) (by decide) ?_
      exact w_Law_340 xp l xe xs xm xb xme xc Q A G b rc a_s a_t a_ao a_bo a_uo a_go a_fr a_br a_e0 a_e1 a_e2 a_e3 a_lo a_ho a_lq a_hq a_aq a_bq a_uq a_gq a_m a_mfst a_msnd a_mlet a_mmany a_mval a_mord a_mfree a_mcode a_mnext a_mcom a_mmet a_out c_sort c_msort sl sx hfl hB C0 c_set c_c c_cl c_mv c_ml c_en c_rt c_fr c_br c_fi c_st c_vz c_lb c_ln c_lt c_hb c_hn c_ht c_ab c_an c_at c_bb c_bn c_bt c_ub c_un c_ut c_gb c_gn c_gt c_cnt c_frees c_cur c_thr c_fst c_snd c_let c_many c_val c_ord c_free c_code c_next c_com c_met c_out x4 x9 d9 e9 h hc he hde k0 hk9 q1 q2 H locs ls hP hD hS hl
    have h := ie h g2
    by_cases g3 : k = 3
    · have h := it h g3
      refine lv_tableIn (tgt := 396) hx hb d_law_50 (by rw [g3]; decide) (by rw [g3]; decide) (by rw [g3]; rfl) (by decide) ?_
      exact w_Law_396 xp l xe xs xm xb xme xc Q A G b rc a_s a_t a_ao a_bo a_uo a_go a_fr a_br a_e0 a_e1 a_e2 a_e3 a_lo a_ho a_lq a_hq a_aq a_bq a_uq a_gq a_m a_mfst a_msnd a_mlet a_mmany a_mval a_mord a_mfree a_mcode a_mnext a_mcom a_mmet a_out c_sort c_msort sl sx hfl hB C0 c_set c_c c_cl c_mv c_ml c_en c_rt c_fr c_br c_fi c_st c_vz c_lb c_ln c_lt c_hb c_hn c_ht c_ab c_an c_at c_bb c_bn c_bt c_ub c_un c_ut c_gb c_gn c_gt c_cnt c_frees c_cur c_thr c_fst c_snd c_let c_many c_val c_ord c_free c_code c_next c_com c_met c_out x4 x9 d9 e9 h hc he hde k0 hk9 q1 q2 H locs ls hP hD hS hl
    have h := ie h g3
    by_cases g4 : k = 4
    · have h := it h g4
      refine lv_tableIn (tgt := 407) hx hb d_law_50 (by rw [g4]; decide) (by rw [g4]; decide) (by rw [g4]; rfl) (by decide) ?_
      exact w_Law_407 xp l xe xs xm xb xme xc Q A G b rc a_s a_t a_ao a_bo a_uo a_go a_fr a_br a_e0 a_e1 a_e2 a_e3 a_lo a_ho a_lq a_hq a_aq a_bq a_uq a_gq a_m a_mfst a_msnd a_mlet a_mmany a_mval a_mord a_mfree a_mcode a_mnext a_mcom a_mmet a_out c_sort c_msort sl sx hfl hB C0 c_set c_c c_cl c_mv c_ml c_en c_rt c_fr c_br c_fi c_st c_vz c_lb c_ln c_lt c_hb c_hn c_ht c_ab c_an c_at c_bb c_bn c_bt c_ub c_un c_ut c_gb c_gn c_gt c_cnt c_frees c_cur c_thr c_fst c_snd c_let c_many c_val c_ord c_free c_code c_next c_com c_met c_out x4 x9 d9 e9 h hc he hde k0 hk9 q1 q2 H locs ls hP hD hS hl
    have h := ie h g4
    by_cases g5 : k = 5
    · have h := it h g5
      refine lv_tableIn (tgt := 418) hx hb d_law_50 (by rw [g5]; decide) (by rw [g5]; decide) (by rw [g5]; rfl) (by decide) ?_
      exact w_Law_418 xp l xe xs xm xb xme xc Q A G b rc a_s a_t a_ao a_bo a_uo a_go a_fr a_br a_e0 a_e1 a_e2 a_e3 a_lo a_ho a_lq a_hq a_aq a_bq a_uq a_gq a_m a_mfst a_msnd a_mlet a_mmany a_mval a_mord a_mfree a_mcode a_mnext a_mcom a_mmet a_out c_sort c_msort sl sx hfl hB C0 c_set c_c c_cl c_mv c_ml c_en c_rt c_fr c_br c_fi c_st c_vz c_lb c_ln c_lt c_hb c_hn c_ht c_ab c_an c_at c_bb c_bn c_bt c_ub c_un c_ut c_gb c_gn c_gt c_cnt c_frees c_cur c_thr c_fst c_snd c_let c_many c_val c_ord c_free c_code c_next c_com c_met c_out x4 x9 d9 e9 h hc he hde k0 hk9 q1 q2 H locs ls hP hD hS hl
    have h := ie h g5
    by_cases g6 : k = 6
    · have h := it h g6
      refine lv_tableIn (tgt := 442) hx hb d_law_50 (by rw [g6]; decide) (by rw [g6]; decide) (by rw [g6]; rfl) (by decide) ?_
      exact w_Law_442 xp l xe xs xm xb xme xc Q A G b rc a_s a_t a_ao a_bo a_uo a_go a_fr a_br a_e0 a_e1 a_e2 a_e3 a_lo a_ho a_lq a_hq a_aq a_bq a_uq a_gq a_m a_mfst a_msnd a_mlet a_mmany a_mval a_mord a_mfree a_mcode a_mnext a_mcom a_mmet a_out c_sort c_msort sl sx hfl hB C0 c_set c_c c_cl c_mv c_ml c_en c_rt c_fr c_br c_fi c_st c_vz c_lb c_ln c_lt c_hb c_hn c_ht c_ab c_an c_at c_bb c_bn c_bt c_ub c_un c_ut c_gb c_gn c_gt c_cnt c_frees c_cur c_thr c_fst c_snd c_let c_many c_val c_ord c_free c_code c_next c_com c_met c_out x4 x9 d9 e9 h hc he hde k0 hk9 q1 q2 H locs ls hP hD hS hl
    have h := ie h g6
    by_cases g7 : k = 7
    · have h := it h g7
      refine lv_tableIn (tgt := 537) hx hb d_law_50 (by rw [g7]; decide) (by rw [g7]; decide) (by rw [g7]; rfl) (by decide) ?_
      exact w_Law_537 xp l xe xs xm xb xme xc Q A G b rc a_s a_t a_ao a_bo a_uo a_go a_fr a_br a_e0 a_e1 a_e2 a_e3 a_lo a_ho a_lq a_hq a_aq a_bq a_uq a_gq a_m a_mfst a_msnd a_mlet a_mmany a_mval a_mord a_mfree a_mcode a_mnext a_mcom a_mmet a_out c_sort c_msort sl sx hfl hB C0 c_set c_c c_cl c_mv c_ml c_en c_rt c_fr c_br c_fi c_st c_vz c_lb c_ln c_lt c_hb c_hn c_ht c_ab c_an c_at c_bb c_bn c_bt c_ub c_un c_ut c_gb c_gn c_gt c_cnt c_frees c_cur c_thr c_fst c_snd c_let c_many c_val c_ord c_free c_code c_next c_com c_met c_out x4 x9 d9 e9 h hc he hde k0 hk9 q1 q2 H locs ls hP hD hS hl
    have h := ie h g7
    by_cases g8 : k = 8
    · have h := it h g8
      refine lv_tableIn (tgt := 580) hx hb d_law_50 (by rw [g8]; decide) (by rw [g8]; decide) (by rw [g8]; rfl) (by decide) ?_
      exact w_Law_580 xp l xe xs xm xb xme xc Q A G b rc a_s a_t a_ao a_bo a_uo a_go a_fr a_br a_e0 a_e1 a_e2 a_e3 a_lo a_ho a_lq a_hq a_aq a_bq a_uq a_gq a_m a_mfst a_msnd a_mlet a_mmany a_mval a_mord a_mfree a_mcode a_mnext a_mcom a_mmet a_out c_sort c_msort sl sx hfl hB C0 c_set c_c c_cl c_mv c_ml c_en c_rt c_fr c_br c_fi c_st c_vz c_lb c_ln c_lt c_hb c_hn c_ht c_ab c_an c_at c_bb c_bn c_bt c_ub c_un c_ut c_gb c_gn c_gt c_cnt c_frees c_cur c_thr c_fst c_snd c_let c_many c_val c_ord c_free c_code c_next c_com c_met c_out x4 x9 d9 e9 h hc he hde k0 hk9 q1 q2 H locs ls hP hD hS hl
    have h := ie h g8
    by_cases g9 : k = 9
    · have h := it h g9
      refine lv_tableIn (tgt := 623) hx hb d_law_50 (by rw [g9]; decide) (by rw [g9]; decide) (by rw [g9]; rfl) (by decide) ?_
      exact w_Law_623 xp l xe xs xm xb xme xc Q A G b rc a_s a_t a_ao a_bo a_uo a_go a_fr a_br a_e0 a_e1 a_e2 a_e3 a_lo a_ho a_lq a_hq a_aq a_bq a_uq a_gq a_m a_mfst a_msnd a_mlet a_mmany a_mval a_mord a_mfree a_mcode a_mnext a_mcom a_mmet a_out c_sort c_msort sl sx hfl hB C0 c_set c_c c_cl c_mv c_ml c_en c_rt c_fr c_br c_fi c_st c_vz c_lb c_ln c_lt c_hb c_hn c_ht c_ab c_an c_at c_bb c_bn c_bt c_ub c_un c_ut c_gb c_gn c_gt c_cnt c_frees c_cur c_thr c_fst c_snd c_let c_many c_val c_ord c_free c_code c_next c_com c_met c_out x4 x9 d9 e9 h hc he hde k0 hk9 q1 q2 H locs ls hP hD hS hl
    have h := ie h g9
    by_cases g10 : k = 10
    · have h := it h g10
      refine lv_tableIn (tgt := 686) hx hb d_law_50 (by rw [g10]; decide) (by rw [g10]; decide) (by rw [g10]; rfl) (by decide) ?_
      exact w_Law_686 xp l xe xs xm xb xme xc Q A G b rc a_s a_t a_ao a_bo a_uo a_go a_fr a_br a_e0 a_e1 a_e2 a_e3 a_lo a_ho a_lq a_hq a_aq a_bq a_uq a_gq a_m a_mfst a_msnd a_mlet a_mmany a_mval a_mord a_mfree a_mcode a_mnext a_mcom a_mmet a_out c_sort c_msort sl sx hfl hB C0 c_set c_c c_cl c_mv c_ml c_en c_rt c_fr c_br c_fi c_st c_vz c_lb c_ln c_lt c_hb c_hn c_ht c_ab c_an c_at c_bb c_bn c_bt c_ub c_un c_ut c_gb c_gn c_gt c_cnt c_frees c_cur c_thr c_fst c_snd c_let c_many c_val c_ord c_free c_code c_next c_com c_met c_out x4 x9 d9 e9 h hc he hde k0 hk9 q1 q2 H locs ls hP hD hS hl
    have h := ie h g10
    by_cases g11 : k = 11
    · have h := it h g11
      refine lv_tableIn (tgt := 765) hx hb d_law_50 (by rw [g11]; decide) (by rw [g11]; decide) (by rw [g11]; rfl) (by decide) ?_
      exact w_Law_765 xp l xe xs xm xb xme xc Q A G b rc a_s a_t a_ao a_bo a_uo a_go a_fr a_br a_e0 a_e1 a_e2 a_e3 a_lo a_ho a_lq a_hq a_aq a_bq a_uq a_gq a_m a_mfst a_msnd a_mlet a_mmany a_mval a_mord a_mfree a_mcode a_mnext a_mcom a_mmet a_out c_sort c_msort sl sx hfl hB C0 c_set c_c c_cl c_mv c_ml c_en c_rt c_fr c_br c_fi c_st c_vz c_lb c_ln c_lt c_hb c_hn c_ht c_ab c_an c_at c_bb c_bn c_bt c_ub c_un c_ut c_gb c_gn c_gt c_cnt c_frees c_cur c_thr c_fst c_snd c_let c_many c_val c_ord c_free c_code c_next c_com c_met c_out x4 x9 d9 e9 h hc he hde k0 hk9 q1 q2 H locs ls hP hD hS hl
    have h := ie h g11
    by_cases g12 : k = 12
    · have h := it h g12
      refine lv_tableIn (tgt := 778) hx hb d_law_50 (by rw [g12]; decide) (by rw [g12]; decide) (by rw [g12]; rfl) (by decide) ?_
      exact w_Law_778 xp l xe xs xm xb xme xc Q A G b rc a_s a_t a_ao a_bo a_uo a_go a_fr a_br a_e0 a_e1 a_e2 a_e3 a_lo a_ho a_lq a_hq a_aq a_bq a_uq a_gq a_m a_mfst a_msnd a_mlet a_mmany a_mval a_mord a_mfree a_mcode a_mnext a_mcom a_mmet a_out c_sort c_msort sl sx hfl hB C0 c_set c_c c_cl c_mv c_ml c_en c_rt c_fr c_br c_fi c_st c_vz c_lb c_ln c_lt c_hb c_hn c_ht c_ab c_an c_at c_bb c_bn c_bt c_ub c_un c_ut c_gb c_gn c_gt c_cnt c_frees c_cur c_thr c_fst c_snd c_let c_many c_val c_ord c_free c_code c_next c_com c_met c_out x4 x9 d9 e9 h hc he hde k0 hk9 q1 q2 H locs ls hP hD hS hl
    have h := ie h g12
    by_cases g13 : k = 13
    · have h := it h g13
      refine lv_tableIn (tgt := 822) hx hb d_law_50 (by rw [g13]; decide) (by rw [g13]; decide) (by rw [g13]; rfl) (by decide) ?_
      exact w_Law_822 xp l xe xs xm xb xme xc Q A G b rc a_s a_t a_ao a_bo a_uo a_go a_fr a_br a_e0 a_e1 a_e2 a_e3 a_lo a_ho a_lq a_hq a_aq a_bq a_uq a_gq a_m a_mfst a_msnd a_mlet a_mmany a_mval a_mord a_mfree a_mcode a_mnext a_mcom a_mmet a_out c_sort c_msort sl sx hfl hB C0 c_set c_c c_cl c_mv c_ml c_en c_rt c_fr c_br c_fi c_st c_vz c_lb c_ln c_lt c_hb c_hn c_ht c_ab c_an c_at c_bb c_bn c_bt c_ub c_un c_ut c_gb c_gn c_gt c_cnt c_frees c_cur c_thr c_fst c_snd c_let c_many c_val c_ord c_free c_code c_next c_com c_met c_out x4 x9 d9 e9 h hc he hde k0 hk9 q1 q2 H locs ls hP hD hS hl
    have h := ie h g13
    by_cases g14 : k = 14
    · have h := it h g14
      refine lv_tableIn (tgt := 877) hx hb d_law_50 (by rw [g14]; decide) (by rw [g14]; decide) (by rw [g14]; rfl) (by decide) ?_
      exact w_Law_877 xp l xe xs xm xb xme xc Q A G b rc a_s a_t a_ao a_bo a_uo a_go a_fr a_br a_e0 a_e1 a_e2 a_e3 a_lo a_ho a_lq a_hq a_aq a_bq a_uq a_gq a_m a_mfst a_msnd a_mlet a_mmany a_mval a_mord a_mfree a_mcode a_mnext a_mcom a_mmet a_out c_sort c_msort sl sx hfl hB C0 c_set c_c c_cl c_mv c_ml c_en c_rt c_fr c_br c_fi c_st c_vz c_lb c_ln c_lt c_hb c_hn c_ht c_ab c_an c_at c_bb c_bn c_bt c_ub c_un c_ut c_gb c_gn c_gt c_cnt c_frees c_cur c_thr c_fst c_snd c_let c_many c_val c_ord c_free c_code c_next c_com c_met c_out x4 x9 d9 e9 h hc he hde k0 hk9 q1 q2 H locs ls hP hD hS hl
    have h := ie h g14
    by_cases g15 : k = 15
    · have h := it h g15
      refine lv_tableIn (tgt := 920) hx hb d_law_50 (by rw [g15]; decide) (by rw [g15]; decide) (by rw [g15]; rfl) (by decide) ?_
      exact w_Law_920 xp l xe xs xm xb xme xc Q A G b rc a_s a_t a_ao a_bo a_uo a_go a_fr a_br a_e0 a_e1 a_e2 a_e3 a_lo a_ho a_lq a_hq a_aq a_bq a_uq a_gq a_m a_mfst a_msnd a_mlet a_mmany a_mval a_mord a_mfree a_mcode a_mnext a_mcom a_mmet a_out c_sort c_msort sl sx hfl hB C0 c_set c_c c_cl c_mv c_ml c_en c_rt c_fr c_br c_fi c_st c_vz c_lb c_ln c_lt c_hb c_hn c_ht c_ab c_an c_at c_bb c_bn c_bt c_ub c_un c_ut c_gb c_gn c_gt c_cnt c_frees c_cur c_thr c_fst c_snd c_let c_many c_val c_ord c_free c_code c_next c_com c_met c_out x4 x9 d9 e9 h hc he hde k0 hk9 q1 q2 H locs ls hP hD hS hl
    have h := ie h g15
    by_cases g16 : k = 16
    · have h := it h g16
      refine lv_tableIn (tgt := 933) hx hb d_law_50 (by rw [g16]; decide) (by rw [g16]; decide) (by rw [g16]; rfl) (by decide) ?_
      exact w_Law_933 xp l xe xs xm xb xme xc Q A G b rc a_s a_t a_ao a_bo a_uo a_go a_fr a_br a_e0 a_e1 a_e2 a_e3 a_lo a_ho a_lq a_hq a_aq a_bq a_uq a_gq a_m a_mfst a_msnd a_mlet a_mmany a_mval a_mord a_mfree a_mcode a_mnext a_mcom a_mmet a_out c_sort c_msort sl sx hfl hB C0 c_set c_c c_cl c_mv c_ml c_en c_rt c_fr c_br c_fi c_st c_vz c_lb c_ln c_lt c_hb c_hn c_ht c_ab c_an c_at c_bb c_bn c_bt c_ub c_un c_ut c_gb c_gn c_gt c_cnt c_frees c_cur c_thr c_fst c_snd c_let c_many c_val c_ord c_free c_code c_next c_com c_met c_out x4 x9 d9 e9 h hc he hde k0 hk9 q1 q2 H locs ls hP hD hS hl
    have h := ie h g16
    by_cases g17 : k = 17
    · have h := it h g17
      refine lv_tableIn (tgt := 969) hx hb d_law_50 (by rw [g17]; decide) (by rw [g17]; decide) (by rw [g17]; rfl) (by decide) ?_
      exact w_Law_969 xp l xe xs xm xb xme xc Q A G b rc a_s a_t a_ao a_bo a_uo a_go a_fr a_br a_e0 a_e1 a_e2 a_e3 a_lo a_ho a_lq a_hq a_aq a_bq a_uq a_gq a_m a_mfst a_msnd a_mlet a_mmany a_mval a_mord a_mfree a_mcode a_mnext a_mcom a_mmet a_out c_sort c_msort sl sx hfl hB C0 c_set c_c c_cl c_mv c_ml c_en c_rt c_fr c_br c_fi c_st c_vz c_lb c_ln c_lt c_hb c_hn c_ht c_ab c_an c_at c_bb c_bn c_bt c_ub c_un c_ut c_gb c_gn c_gt c_cnt c_frees c_cur c_thr c_fst c_snd c_let c_many c_val c_ord c_free c_code c_next c_com c_met c_out x4 x9 d9 e9 h hc he hde k0 hk9 q1 q2 H locs ls hP hD hS hl
    have h := ie h g17
    by_cases g18 : k = 18
    · have h := it h g18
      refine lv_tableIn (tgt := 982) hx hb d_law_50 (by rw [g18]; decide) (by rw [g18]; decide) (by rw [g18]; rfl) (by decide) ?_
      exact w_Law_982 xp l xe xs xm xb xme xc Q A G b rc a_s a_t a_ao a_bo a_uo a_go a_fr a_br a_e0 a_e1 a_e2 a_e3 a_lo a_ho a_lq a_hq a_aq a_bq a_uq a_gq a_m a_mfst a_msnd a_mlet a_mmany a_mval a_mord a_mfree a_mcode a_mnext a_mcom a_mmet a_out c_sort c_msort sl sx hfl hB C0 c_set c_c c_cl c_mv c_ml c_en c_rt c_fr c_br c_fi c_st c_vz c_lb c_ln c_lt c_hb c_hn c_ht c_ab c_an c_at c_bb c_bn c_bt c_ub c_un c_ut c_gb c_gn c_gt c_cnt c_frees c_cur c_thr c_fst c_snd c_let c_many c_val c_ord c_free c_code c_next c_com c_met c_out x4 x9 d9 e9 h hc he hde k0 hk9 q1 q2 H locs ls hP hD hS hl
    have h := ie h g18
    by_cases g19 : k = 19
    · have h := it h g19
      refine lv_tableIn (tgt := 995) hx hb d_law_50 (by rw [g19]; decide) (by rw [g19]; decide) (by rw [g19]; rfl) (by decide) ?_
      exact w_Law_995 xp l xe xs xm xb xme xc Q A G b rc a_s a_t a_ao a_bo a_uo a_go a_fr a_br a_e0 a_e1 a_e2 a_e3 a_lo a_ho a_lq a_hq a_aq a_bq a_uq a_gq a_m a_mfst a_msnd a_mlet a_mmany a_mval a_mord a_mfree a_mcode a_mnext a_mcom a_mmet a_out c_sort c_msort sl sx hfl hB C0 c_set c_c c_cl c_mv c_ml c_en c_rt c_fr c_br c_fi c_st c_vz c_lb c_ln c_lt c_hb c_hn c_ht c_ab c_an c_at c_bb c_bn c_bt c_ub c_un c_ut c_gb c_gn c_gt c_cnt c_frees c_cur c_thr c_fst c_snd c_let c_many c_val c_ord c_free c_code c_next c_com c_met c_out x4 x9 d9 e9 h hc he hde k0 hk9 q1 q2 H locs ls hP hD hS hl
    have h := ie h g19
    by_cases g20 : k = 20
    · have h := it h g20
      refine lv_tableIn (tgt := 1039) hx hb d_law_50 (by rw [g20]; decide) (by rw [g20]; decide) (by rw [g20]; rfl) (by decide) ?_
      exact w_Law_1039 xp l xe xs xm xb xme xc Q A G b rc a_s a_t a_ao a_bo a_uo a_go a_fr a_br a_e0 a_e1 a_e2 a_e3 a_lo a_ho a_lq a_hq a_aq a_bq a_uq a_gq a_m a_mfst a_msnd a_mlet a_mmany a_mval a_mord a_mfree a_mcode a_mnext a_mcom a_mmet a_out c_sort c_msort sl sx hfl hB C0 c_set c_c c_cl c_mv c_ml c_en c_rt c_fr c_br c_fi c_st c_vz c_lb c_ln c_lt c_hb c_hn c_ht c_ab c_an c_at c_bb c_bn c_bt c_ub c_un c_ut c_gb c_gn c_gt c_cnt c_frees c_cur c_thr c_fst c_snd c_let c_many c_val c_ord c_free c_code c_next c_com c_met c_out x4 x9 d9 e9 h hc he hde k0 hk9 q1 q2 H locs ls hP hD hS hl
    have h := ie h g20
    by_cases g21 : k = 21
    · have h := it h g21
      refine lv_tableIn (tgt := 1163) hx hb d_law_50 (by rw [g21]; decide) (by rw [g21]; decide) (by rw [g21]; rfl) (by decide) ?_
      exact w_Law_1163 xp l xe xs xm xb xme xc Q A G b rc a_s a_t a_ao a_bo a_uo a_go a_fr a_br a_e0 a_e1 a_e2 a_e3 a_lo a_ho a_lq a_hq a_aq a_bq a_uq a_gq a_m a_mfst a_msnd a_mlet a_mmany a_mval a_mord a_mfree a_mcode a_mnext a_mcom a_mmet a_out c_sort c_msort sl sx hfl hB C0 c_set c_c c_cl c_mv c_ml c_en c_rt c_fr c_br c_fi c_st c_vz c_lb c_ln c_lt c_hb c_hn c_ht c_ab c_an c_at c_bb c_bn c_bt c_ub c_un c_ut c_gb c_gn c_gt c_cnt c_frees c_cur c_thr c_fst c_snd c_let c_many c_val c_ord c_free c_code c_next c_com c_met c_out x4 x9 d9 e9 h hc he hde k0 hk9 q1 q2 H locs ls hP hD hS hl
    have h := ie h g21
    by_cases g22 : k = 22
    · have h := it h g22
      refine lv_tableIn (tgt := 1176) hx hb d_law_50 (by rw [g22]; decide) (by rw [g22]; decide) (by rw [g22]; rfl) (by decide) ?_
      exact w_Law_1176 xp l xe xs xm xb xme xc Q A G b rc a_s a_t a_ao a_bo a_uo a_go a_fr a_br a_e0 a_e1 a_e2 a_e3 a_lo a_ho a_lq a_hq a_aq a_bq a_uq a_gq a_m a_mfst a_msnd a_mlet a_mmany a_mval a_mord a_mfree a_mcode a_mnext a_mcom a_mmet a_out c_sort c_msort sl sx hfl hB C0 c_set c_c c_cl c_mv c_ml c_en c_rt c_fr c_br c_fi c_st c_vz c_lb c_ln c_lt c_hb c_hn c_ht c_ab c_an c_at c_bb c_bn c_bt c_ub c_un c_ut c_gb c_gn c_gt c_cnt c_frees c_cur c_thr c_fst c_snd c_let c_many c_val c_ord c_free c_code c_next c_com c_met c_out x4 x9 d9 e9 h hc he hde k0 hk9 q1 q2 H locs ls hP hD hS hl
    have h := ie h g22
    by_cases g23 : k = 23
    · have h := it h g23
      refine lv_tableIn (tgt := 1232) hx hb d_law_50 (by rw [g23]; decide) (by rw [g23]; decide) (by rw [g23]; rfl) (by decide) ?_
      exact w_Law_1232 xp l xe xs xm xb xme xc Q A G b rc a_s a_t a_ao a_bo a_uo a_go a_fr a_br a_e0 a_e1 a_e2 a_e3 a_lo a_ho a_lq a_hq a_aq a_bq a_uq a_gq a_m a_mfst a_msnd a_mlet a_mmany a_mval a_mord a_mfree a_mcode a_mnext a_mcom a_mmet a_out c_sort c_msort sl sx hfl hB C0 c_set c_c c_cl c_mv c_ml c_en c_rt c_fr c_br c_fi c_st c_vz c_lb c_ln c_lt c_hb c_hn c_ht c_ab c_an c_at c_bb c_bn c_bt c_ub c_un c_ut c_gb c_gn c_gt c_cnt c_frees c_cur c_thr c_fst c_snd c_let c_many c_val c_ord c_free c_code c_next c_com c_met c_out x4 x9 d9 e9 h hc he hde k0 hk9 q1 q2 H locs ls hP hD hS hl
    have h := ie h g23
    refine lv_tableOut (tgt := 1245) hx hb d_law_50 (zsw_out 0 23 (by decide) (by decide) (by decide) (fun j h1 h2 => by rcases (show j = 0 ∨ j = 1 ∨ j = 2 ∨ j = 3 ∨ j = 4 ∨ j = 5 ∨ j = 6 ∨ j = 7 ∨ j = 8 ∨ j = 9 ∨ j = 10 ∨ j = 11 ∨ j = 12 ∨ j = 13 ∨ j = 14 ∨ j = 15 ∨ j = 16 ∨ j = 17 ∨ j = 18 ∨ j = 19 ∨ j = 20 ∨ j = 21 ∨ j = 22 ∨ j = 23 by omega) with rfl | rfl | rfl | rfl | rfl | rfl | rfl | rfl | rfl | rfl | rfl | rfl | rfl | rfl | rfl | rfl | rfl | rfl | rfl | rfl | rfl | rfl | rfl | rfl <;> assumption)) (by decide) ?_
    obtain ⟨x, ex⟩ : ∃ y : Int32, y = x4 + 6 := ⟨_, rfl⟩
    have h := nm_k h x ex
    refine lv_iinc (v := x) (lv' := [(4, .int x), (0, .ref b), (1, .ref a_s), (2, .ref a_m), (3, .ref a_out)]) hx hb d_law_1245 hl (k := 4) rfl (by rw [ex]; rfl) (by decide) rfl (fun ls hl => ?_)
    refine lv_goto (tgt := 33) hx hb d_law_1248 (by decide) ?_
    have ey := Option.some.inj h
    have e1 := congrArg Prod.fst ey
    have e2 : 0 = d9 := congrArg Prod.snd ey
    obtain ⟨e8, he8, hP8⟩ := hc _ e1.symm
    exact hP8 k0 (by omega) q1 q2 H locs ls hP hD hS (lv_sub hl [1, 2, 3, 4, 0] rfl)
