-- ===== PART A: goes FIRST, ahead of the names: the tables' words, and 'selects' of the private methods out of them =====
/-- a private method of a class that the tables say can be made, by its rows of tables_1 -/
def lw_okq (q : MethodName × Nat) : Prop := (q.1.cls ≠ "java/lang/invoke/MethodHandle" ∧ q.1.cls ≠ "java/lang/invoke/VarHandle") ∧ Cond.instantiable q.1.cls q.2 ∈ tables_1 ∧ Cond.privateMethod q.1 ∈ tables_1 ∧ Cond.instanceMethod q.1 ∈ tables_1
theorem lw_p0 : lw_okq (⟨"BranchStore$Key", "end", "()V"⟩, 3) := ⟨⟨by decide +kernel, by decide +kernel⟩, List.mem_of_getElem? (i := 81) (by decide +kernel), List.mem_of_getElem? (i := 95) (by decide +kernel), List.mem_of_getElem? (i := 96) (by decide +kernel)⟩
theorem lw_p1 : lw_okq (⟨"BranchStore$Key", "put", "(I)V"⟩, 3) := ⟨⟨by decide +kernel, by decide +kernel⟩, List.mem_of_getElem? (i := 81) (by decide +kernel), List.mem_of_getElem? (i := 99) (by decide +kernel), List.mem_of_getElem? (i := 100) (by decide +kernel)⟩
theorem lw_p2 : lw_okq (⟨"BranchStore$Tree", "child", "(II)I"⟩, 15) := ⟨⟨by decide +kernel, by decide +kernel⟩, List.mem_of_getElem? (i := 30) (by decide +kernel), List.mem_of_getElem? (i := 220) (by decide +kernel), List.mem_of_getElem? (i := 221) (by decide +kernel)⟩
theorem lw_p3 : lw_okq (⟨"BranchStore$Tree", "shapeOf", "(I)LBranchStore$Shape;"⟩, 15) := ⟨⟨by decide +kernel, by decide +kernel⟩, List.mem_of_getElem? (i := 30) (by decide +kernel), List.mem_of_getElem? (i := 224) (by decide +kernel), List.mem_of_getElem? (i := 225) (by decide +kernel)⟩
theorem lw_p4 : lw_okq (⟨"BranchStore$Tree", "shape", "(I)LBranchStore$Shape;"⟩, 15) := ⟨⟨by decide +kernel, by decide +kernel⟩, List.mem_of_getElem? (i := 30) (by decide +kernel), List.mem_of_getElem? (i := 228) (by decide +kernel), List.mem_of_getElem? (i := 229) (by decide +kernel)⟩
theorem lw_p5 : lw_okq (⟨"BranchStore$Tree", "differs", "(LBranchStore$Key;I)I"⟩, 15) := ⟨⟨by decide +kernel, by decide +kernel⟩, List.mem_of_getElem? (i := 30) (by decide +kernel), List.mem_of_getElem? (i := 253) (by decide +kernel), List.mem_of_getElem? (i := 254) (by decide +kernel)⟩
theorem lw_p6 : lw_okq (⟨"BranchStore$Tree", "byteOf", "(II)I"⟩, 15) := ⟨⟨by decide +kernel, by decide +kernel⟩, List.mem_of_getElem? (i := 30) (by decide +kernel), List.mem_of_getElem? (i := 260) (by decide +kernel), List.mem_of_getElem? (i := 261) (by decide +kernel)⟩
theorem lw_p7 : lw_okq (⟨"BranchStore$Tree", "nearest", "(LBranchStore$Key;)I"⟩, 15) := ⟨⟨by decide +kernel, by decide +kernel⟩, List.mem_of_getElem? (i := 30) (by decide +kernel), List.mem_of_getElem? (i := 272) (by decide +kernel), List.mem_of_getElem? (i := 273) (by decide +kernel)⟩
theorem lw_p8 : lw_okq (⟨"BranchStore$Tree", "least", "(I)I"⟩, 15) := ⟨⟨by decide +kernel, by decide +kernel⟩, List.mem_of_getElem? (i := 30) (by decide +kernel), List.mem_of_getElem? (i := 276) (by decide +kernel), List.mem_of_getElem? (i := 277) (by decide +kernel)⟩
theorem lw_p9 : lw_okq (⟨"BranchStore$Tree", "before", "(II)I"⟩, 15) := ⟨⟨by decide +kernel, by decide +kernel⟩, List.mem_of_getElem? (i := 30) (by decide +kernel), List.mem_of_getElem? (i := 292) (by decide +kernel), List.mem_of_getElem? (i := 293) (by decide +kernel)⟩
theorem lw_p10 : lw_okq (⟨"BranchStore$Tree", "below", "(I)I"⟩, 15) := ⟨⟨by decide +kernel, by decide +kernel⟩, List.mem_of_getElem? (i := 30) (by decide +kernel), List.mem_of_getElem? (i := 296) (by decide +kernel), List.mem_of_getElem? (i := 297) (by decide +kernel)⟩
theorem lw_p11 : lw_okq (⟨"BranchStore", "behind", "()I"⟩, 7) := ⟨⟨by decide +kernel, by decide +kernel⟩, List.mem_of_getElem? (i := 22) (by decide +kernel), List.mem_of_getElem? (i := 304) (by decide +kernel), List.mem_of_getElem? (i := 305) (by decide +kernel)⟩
theorem lw_p12 : lw_okq (⟨"BranchStore$Tree", "release", "(II)V"⟩, 15) := ⟨⟨by decide +kernel, by decide +kernel⟩, List.mem_of_getElem? (i := 30) (by decide +kernel), List.mem_of_getElem? (i := 335) (by decide +kernel), List.mem_of_getElem? (i := 336) (by decide +kernel)⟩
theorem lw_p13 : lw_okq (⟨"BranchStore$Tree", "relink", "(III)V"⟩, 15) := ⟨⟨by decide +kernel, by decide +kernel⟩, List.mem_of_getElem? (i := 30) (by decide +kernel), List.mem_of_getElem? (i := 357) (by decide +kernel), List.mem_of_getElem? (i := 358) (by decide +kernel)⟩
theorem lw_p14 : lw_okq (⟨"BranchStore$Tree", "resized", "(II)I"⟩, 15) := ⟨⟨by decide +kernel, by decide +kernel⟩, List.mem_of_getElem? (i := 30) (by decide +kernel), List.mem_of_getElem? (i := 361) (by decide +kernel), List.mem_of_getElem? (i := 362) (by decide +kernel)⟩
theorem lw_p15 : lw_okq (⟨"BranchStore$Tree", "branch", "(II)I"⟩, 15) := ⟨⟨by decide +kernel, by decide +kernel⟩, List.mem_of_getElem? (i := 30) (by decide +kernel), List.mem_of_getElem? (i := 365) (by decide +kernel), List.mem_of_getElem? (i := 366) (by decide +kernel)⟩
def lw_privs_1 : List (MethodName × Nat) := [(⟨"BranchStore$Key", "end", "()V"⟩, 3), (⟨"BranchStore$Key", "put", "(I)V"⟩, 3), (⟨"BranchStore$Tree", "child", "(II)I"⟩, 15), (⟨"BranchStore$Tree", "shapeOf", "(I)LBranchStore$Shape;"⟩, 15), (⟨"BranchStore$Tree", "shape", "(I)LBranchStore$Shape;"⟩, 15), (⟨"BranchStore$Tree", "differs", "(LBranchStore$Key;I)I"⟩, 15), (⟨"BranchStore$Tree", "byteOf", "(II)I"⟩, 15), (⟨"BranchStore$Tree", "nearest", "(LBranchStore$Key;)I"⟩, 15), (⟨"BranchStore$Tree", "least", "(I)I"⟩, 15), (⟨"BranchStore$Tree", "before", "(II)I"⟩, 15), (⟨"BranchStore$Tree", "below", "(I)I"⟩, 15), (⟨"BranchStore", "behind", "()I"⟩, 7), (⟨"BranchStore$Tree", "release", "(II)V"⟩, 15), (⟨"BranchStore$Tree", "relink", "(III)V"⟩, 15), (⟨"BranchStore$Tree", "resized", "(II)I"⟩, 15), (⟨"BranchStore$Tree", "branch", "(II)I"⟩, 15)]
theorem lw_r1 : ∀ q ∈ lw_privs_1, lw_okq q := List.forall_mem_cons.mpr ⟨lw_p0, List.forall_mem_cons.mpr ⟨lw_p1, List.forall_mem_cons.mpr ⟨lw_p2, List.forall_mem_cons.mpr ⟨lw_p3, List.forall_mem_cons.mpr ⟨lw_p4, List.forall_mem_cons.mpr ⟨lw_p5, List.forall_mem_cons.mpr ⟨lw_p6, List.forall_mem_cons.mpr ⟨lw_p7, List.forall_mem_cons.mpr ⟨lw_p8, List.forall_mem_cons.mpr ⟨lw_p9, List.forall_mem_cons.mpr ⟨lw_p10, List.forall_mem_cons.mpr ⟨lw_p11, List.forall_mem_cons.mpr ⟨lw_p12, List.forall_mem_cons.mpr ⟨lw_p13, List.forall_mem_cons.mpr ⟨lw_p14, List.forall_mem_cons.mpr ⟨lw_p15, fun _ h => absurd h List.not_mem_nil⟩⟩⟩⟩⟩⟩⟩⟩⟩⟩⟩⟩⟩⟩⟩⟩
theorem lw_p16 : lw_okq (⟨"BranchStore$Tree", "room", "(I)I"⟩, 15) := ⟨⟨by decide +kernel, by decide +kernel⟩, List.mem_of_getElem? (i := 30) (by decide +kernel), List.mem_of_getElem? (i := 369) (by decide +kernel), List.mem_of_getElem? (i := 370) (by decide +kernel)⟩
theorem lw_p17 : lw_okq (⟨"BranchStore$Tree", "shifted", "(I[I)I"⟩, 15) := ⟨⟨by decide +kernel, by decide +kernel⟩, List.mem_of_getElem? (i := 30) (by decide +kernel), List.mem_of_getElem? (i := 407) (by decide +kernel), List.mem_of_getElem? (i := 408) (by decide +kernel)⟩
theorem lw_p18 : lw_okq (⟨"java/lang/Throwable", "fillInStackTrace", "(I)Ljava/lang/Throwable;"⟩, 6) := ⟨⟨by decide +kernel, by decide +kernel⟩, List.mem_of_getElem? (i := 474) (by decide +kernel), List.mem_of_getElem? (i := 472) (by decide +kernel), List.mem_of_getElem? (i := 473) (by decide +kernel)⟩
theorem lw_p19 : lw_okq (⟨"BranchStore$Tree", "leaf", "(LBranchStore$Key;JZ)I"⟩, 15) := ⟨⟨by decide +kernel, by decide +kernel⟩, List.mem_of_getElem? (i := 30) (by decide +kernel), List.mem_of_getElem? (i := 589) (by decide +kernel), List.mem_of_getElem? (i := 590) (by decide +kernel)⟩
theorem lw_p20 : lw_okq (⟨"BranchStore", "found", "(LBranchStore$Key;)I"⟩, 7) := ⟨⟨by decide +kernel, by decide +kernel⟩, List.mem_of_getElem? (i := 22) (by decide +kernel), List.mem_of_getElem? (i := 601) (by decide +kernel), List.mem_of_getElem? (i := 602) (by decide +kernel)⟩
theorem lw_p21 : lw_okq (⟨"BranchStore", "comes", "(I)Z"⟩, 7) := ⟨⟨by decide +kernel, by decide +kernel⟩, List.mem_of_getElem? (i := 22) (by decide +kernel), List.mem_of_getElem? (i := 624) (by decide +kernel), List.mem_of_getElem? (i := 625) (by decide +kernel)⟩
theorem lw_p22 : lw_okq (⟨"BranchStore", "known", "()LBranchStore$Key;"⟩, 7) := ⟨⟨by decide +kernel, by decide +kernel⟩, List.mem_of_getElem? (i := 22) (by decide +kernel), List.mem_of_getElem? (i := 635) (by decide +kernel), List.mem_of_getElem? (i := 636) (by decide +kernel)⟩
theorem lw_p23 : lw_okq (⟨"BranchStore$Tree", "built", "(II)I"⟩, 15) := ⟨⟨by decide +kernel, by decide +kernel⟩, List.mem_of_getElem? (i := 30) (by decide +kernel), List.mem_of_getElem? (i := 725) (by decide +kernel), List.mem_of_getElem? (i := 726) (by decide +kernel)⟩
theorem lw_p24 : lw_okq (⟨"BranchStore$Tree", "number", "(LBranchStore$Key;I)V"⟩, 15) := ⟨⟨by decide +kernel, by decide +kernel⟩, List.mem_of_getElem? (i := 30) (by decide +kernel), List.mem_of_getElem? (i := 729) (by decide +kernel), List.mem_of_getElem? (i := 730) (by decide +kernel)⟩
theorem lw_p25 : lw_okq (⟨"BranchStore$Tree", "behind", "(III)I"⟩, 15) := ⟨⟨by decide +kernel, by decide +kernel⟩, List.mem_of_getElem? (i := 30) (by decide +kernel), List.mem_of_getElem? (i := 735) (by decide +kernel), List.mem_of_getElem? (i := 736) (by decide +kernel)⟩
theorem lw_p26 : lw_okq (⟨"BranchStore$Tree", "deepestOf", "(I)I"⟩, 15) := ⟨⟨by decide +kernel, by decide +kernel⟩, List.mem_of_getElem? (i := 30) (by decide +kernel), List.mem_of_getElem? (i := 750) (by decide +kernel), List.mem_of_getElem? (i := 751) (by decide +kernel)⟩
theorem lw_p27 : lw_okq (⟨"BranchStoreModel", "fails", "(ZI)Z"⟩, 16) := ⟨⟨by decide +kernel, by decide +kernel⟩, List.mem_of_getElem? (i := 764) (by decide +kernel), List.mem_of_getElem? (i := 829) (by decide +kernel), List.mem_of_getElem? (i := 830) (by decide +kernel)⟩
theorem lw_p28 : lw_okq (⟨"BranchStoreModel", "blank", "(I)V"⟩, 16) := ⟨⟨by decide +kernel, by decide +kernel⟩, List.mem_of_getElem? (i := 764) (by decide +kernel), List.mem_of_getElem? (i := 846) (by decide +kernel), List.mem_of_getElem? (i := 847) (by decide +kernel)⟩
theorem lw_p29 : lw_okq (⟨"BranchStoreModel", "copy", "(II)V"⟩, 16) := ⟨⟨by decide +kernel, by decide +kernel⟩, List.mem_of_getElem? (i := 764) (by decide +kernel), List.mem_of_getElem? (i := 854) (by decide +kernel), List.mem_of_getElem? (i := 855) (by decide +kernel)⟩
theorem lw_p30 : lw_okq (⟨"BranchStoreModel", "below", "(I)I"⟩, 16) := ⟨⟨by decide +kernel, by decide +kernel⟩, List.mem_of_getElem? (i := 764) (by decide +kernel), List.mem_of_getElem? (i := 866) (by decide +kernel), List.mem_of_getElem? (i := 867) (by decide +kernel)⟩
theorem lw_p31 : lw_okq (⟨"BranchStoreModel", "compare", "(II)I"⟩, 16) := ⟨⟨by decide +kernel, by decide +kernel⟩, List.mem_of_getElem? (i := 764) (by decide +kernel), List.mem_of_getElem? (i := 870) (by decide +kernel), List.mem_of_getElem? (i := 871) (by decide +kernel)⟩
def lw_privs_2 : List (MethodName × Nat) := [(⟨"BranchStore$Tree", "room", "(I)I"⟩, 15), (⟨"BranchStore$Tree", "shifted", "(I[I)I"⟩, 15), (⟨"java/lang/Throwable", "fillInStackTrace", "(I)Ljava/lang/Throwable;"⟩, 6), (⟨"BranchStore$Tree", "leaf", "(LBranchStore$Key;JZ)I"⟩, 15), (⟨"BranchStore", "found", "(LBranchStore$Key;)I"⟩, 7), (⟨"BranchStore", "comes", "(I)Z"⟩, 7), (⟨"BranchStore", "known", "()LBranchStore$Key;"⟩, 7), (⟨"BranchStore$Tree", "built", "(II)I"⟩, 15), (⟨"BranchStore$Tree", "number", "(LBranchStore$Key;I)V"⟩, 15), (⟨"BranchStore$Tree", "behind", "(III)I"⟩, 15), (⟨"BranchStore$Tree", "deepestOf", "(I)I"⟩, 15), (⟨"BranchStoreModel", "fails", "(ZI)Z"⟩, 16), (⟨"BranchStoreModel", "blank", "(I)V"⟩, 16), (⟨"BranchStoreModel", "copy", "(II)V"⟩, 16), (⟨"BranchStoreModel", "below", "(I)I"⟩, 16), (⟨"BranchStoreModel", "compare", "(II)I"⟩, 16)]
theorem lw_r2 : ∀ q ∈ lw_privs_2, lw_okq q := List.forall_mem_cons.mpr ⟨lw_p16, List.forall_mem_cons.mpr ⟨lw_p17, List.forall_mem_cons.mpr ⟨lw_p18, List.forall_mem_cons.mpr ⟨lw_p19, List.forall_mem_cons.mpr ⟨lw_p20, List.forall_mem_cons.mpr ⟨lw_p21, List.forall_mem_cons.mpr ⟨lw_p22, List.forall_mem_cons.mpr ⟨lw_p23, List.forall_mem_cons.mpr ⟨lw_p24, List.forall_mem_cons.mpr ⟨lw_p25, List.forall_mem_cons.mpr ⟨lw_p26, List.forall_mem_cons.mpr ⟨lw_p27, List.forall_mem_cons.mpr ⟨lw_p28, List.forall_mem_cons.mpr ⟨lw_p29, List.forall_mem_cons.mpr ⟨lw_p30, List.forall_mem_cons.mpr ⟨lw_p31, fun _ h => absurd h List.not_mem_nil⟩⟩⟩⟩⟩⟩⟩⟩⟩⟩⟩⟩⟩⟩⟩⟩
theorem lw_p32 : lw_okq (⟨"BranchStoreModel", "isAt", "(II)Z"⟩, 16) := ⟨⟨by decide +kernel, by decide +kernel⟩, List.mem_of_getElem? (i := 764) (by decide +kernel), List.mem_of_getElem? (i := 877) (by decide +kernel), List.mem_of_getElem? (i := 878) (by decide +kernel)⟩
theorem lw_p33 : lw_okq (⟨"BranchStoreModel", "insert", "(IIJ)V"⟩, 16) := ⟨⟨by decide +kernel, by decide +kernel⟩, List.mem_of_getElem? (i := 764) (by decide +kernel), List.mem_of_getElem? (i := 881) (by decide +kernel), List.mem_of_getElem? (i := 882) (by decide +kernel)⟩
theorem lw_p34 : lw_okq (⟨"BranchStoreModel", "delete", "(I)V"⟩, 16) := ⟨⟨by decide +kernel, by decide +kernel⟩, List.mem_of_getElem? (i := 764) (by decide +kernel), List.mem_of_getElem? (i := 893) (by decide +kernel), List.mem_of_getElem? (i := 894) (by decide +kernel)⟩
theorem lw_p35 : lw_okq (⟨"BranchStoreModel", "goes", "(I)Z"⟩, 16) := ⟨⟨by decide +kernel, by decide +kernel⟩, List.mem_of_getElem? (i := 764) (by decide +kernel), List.mem_of_getElem? (i := 901) (by decide +kernel), List.mem_of_getElem? (i := 902) (by decide +kernel)⟩
theorem lw_p36 : lw_okq (⟨"BranchStoreModel", "isLonger", "(I)Z"⟩, 16) := ⟨⟨by decide +kernel, by decide +kernel⟩, List.mem_of_getElem? (i := 764) (by decide +kernel), List.mem_of_getElem? (i := 947) (by decide +kernel), List.mem_of_getElem? (i := 948) (by decide +kernel)⟩
theorem lw_p37 : lw_okq (⟨"BranchStoreModel", "look", "()V"⟩, 16) := ⟨⟨by decide +kernel, by decide +kernel⟩, List.mem_of_getElem? (i := 764) (by decide +kernel), List.mem_of_getElem? (i := 968) (by decide +kernel), List.mem_of_getElem? (i := 969) (by decide +kernel)⟩
theorem lw_p38 : lw_okq (⟨"BranchStoreModel", "encode", "([II)I"⟩, 16) := ⟨⟨by decide +kernel, by decide +kernel⟩, List.mem_of_getElem? (i := 764) (by decide +kernel), List.mem_of_getElem? (i := 972) (by decide +kernel), List.mem_of_getElem? (i := 973) (by decide +kernel)⟩
theorem lw_p39 : lw_okq (⟨"BranchStoreModel", "isFirst", "(I)Z"⟩, 16) := ⟨⟨by decide +kernel, by decide +kernel⟩, List.mem_of_getElem? (i := 764) (by decide +kernel), List.mem_of_getElem? (i := 977) (by decide +kernel), List.mem_of_getElem? (i := 978) (by decide +kernel)⟩
theorem lw_p40 : lw_okq (⟨"BranchStoreModel", "children", "(I)I"⟩, 16) := ⟨⟨by decide +kernel, by decide +kernel⟩, List.mem_of_getElem? (i := 764) (by decide +kernel), List.mem_of_getElem? (i := 981) (by decide +kernel), List.mem_of_getElem? (i := 982) (by decide +kernel)⟩
theorem lw_p41 : lw_okq (⟨"BranchStoreModel", "branches", "(I)I"⟩, 16) := ⟨⟨by decide +kernel, by decide +kernel⟩, List.mem_of_getElem? (i := 764) (by decide +kernel), List.mem_of_getElem? (i := 992) (by decide +kernel), List.mem_of_getElem? (i := 993) (by decide +kernel)⟩
theorem lw_p42 : lw_okq (⟨"BranchStoreModel", "deepest", "()I"⟩, 16) := ⟨⟨by decide +kernel, by decide +kernel⟩, List.mem_of_getElem? (i := 764) (by decide +kernel), List.mem_of_getElem? (i := 996) (by decide +kernel), List.mem_of_getElem? (i := 997) (by decide +kernel)⟩
theorem lw_p43 : lw_okq (⟨"BranchStoreModel", "depth", "(I)I"⟩, 16) := ⟨⟨by decide +kernel, by decide +kernel⟩, List.mem_of_getElem? (i := 764) (by decide +kernel), List.mem_of_getElem? (i := 1000) (by decide +kernel), List.mem_of_getElem? (i := 1001) (by decide +kernel)⟩
def lw_privs_3 : List (MethodName × Nat) := [(⟨"BranchStoreModel", "isAt", "(II)Z"⟩, 16), (⟨"BranchStoreModel", "insert", "(IIJ)V"⟩, 16), (⟨"BranchStoreModel", "delete", "(I)V"⟩, 16), (⟨"BranchStoreModel", "goes", "(I)Z"⟩, 16), (⟨"BranchStoreModel", "isLonger", "(I)Z"⟩, 16), (⟨"BranchStoreModel", "look", "()V"⟩, 16), (⟨"BranchStoreModel", "encode", "([II)I"⟩, 16), (⟨"BranchStoreModel", "isFirst", "(I)Z"⟩, 16), (⟨"BranchStoreModel", "children", "(I)I"⟩, 16), (⟨"BranchStoreModel", "branches", "(I)I"⟩, 16), (⟨"BranchStoreModel", "deepest", "()I"⟩, 16), (⟨"BranchStoreModel", "depth", "(I)I"⟩, 16)]
theorem lw_r3 : ∀ q ∈ lw_privs_3, lw_okq q := List.forall_mem_cons.mpr ⟨lw_p32, List.forall_mem_cons.mpr ⟨lw_p33, List.forall_mem_cons.mpr ⟨lw_p34, List.forall_mem_cons.mpr ⟨lw_p35, List.forall_mem_cons.mpr ⟨lw_p36, List.forall_mem_cons.mpr ⟨lw_p37, List.forall_mem_cons.mpr ⟨lw_p38, List.forall_mem_cons.mpr ⟨lw_p39, List.forall_mem_cons.mpr ⟨lw_p40, List.forall_mem_cons.mpr ⟨lw_p41, List.forall_mem_cons.mpr ⟨lw_p42, List.forall_mem_cons.mpr ⟨lw_p43, fun _ h => absurd h List.not_mem_nil⟩⟩⟩⟩⟩⟩⟩⟩⟩⟩⟩⟩
def lw_privs : List (MethodName × Nat) := lw_privs_1 ++ (lw_privs_2 ++ (lw_privs_3))
def lw_tbl : List Cond := k2_sels lw_privs ++ tables_1
theorem lw_privs_ok : ∀ q ∈ lw_privs, lw_okq q := by
  show ∀ q ∈ lw_privs_1 ++ (lw_privs_2 ++ (lw_privs_3)), lw_okq q
  exact List.forall_mem_append.mpr ⟨lw_r1, List.forall_mem_append.mpr ⟨lw_r2, lw_r3⟩⟩
-- ===== end of PART A; then your names; then what follows =====
def lw_ok : List Cond := lw_tbl.filter goodWord
theorem z_ok {w : Cond} (h : w ∈ lw_tbl) (hg : goodWord w = true) : w ∈ lw_ok := List.mem_filter.mpr ⟨h, hg⟩
theorem z_good {w : Cond} (h : w ∈ lw_ok) : w ∈ lw_tbl ∧ goodWord w = true := List.mem_filter.mp h
theorem z_t1 {w : Cond} (h : w ∈ tables_1_1) : w ∈ lw_tbl := by
  unfold lw_tbl tables_1
  simp only [List.mem_append]
  simp [h]
theorem z_t2 {w : Cond} (h : w ∈ tables_1_2) : w ∈ lw_tbl := by
  unfold lw_tbl tables_1
  simp only [List.mem_append]
  simp [h]
theorem z_t3 {w : Cond} (h : w ∈ tables_1_3) : w ∈ lw_tbl := by
  unfold lw_tbl tables_1
  simp only [List.mem_append]
  simp [h]
theorem z_t4 {w : Cond} (h : w ∈ tables_1_4) : w ∈ lw_tbl := by
  unfold lw_tbl tables_1
  simp only [List.mem_append]
  simp [h]
theorem z_t5 {w : Cond} (h : w ∈ tables_1_5) : w ∈ lw_tbl := by
  unfold lw_tbl tables_1
  simp only [List.mem_append]
  simp [h]
theorem z_t0 {w : Cond} (h : w ∈ k2_sels lw_privs) : w ∈ lw_tbl := List.mem_append_left _ h
theorem k_0 : (Cond.initialized "BranchStoreLaw") ∈ lw_ok := z_ok (z_t1 (List.mem_of_getElem? (i := 0) rfl)) rfl
theorem k_1 : (Cond.initialized "BranchStore") ∈ lw_ok := z_ok (z_t1 (List.mem_of_getElem? (i := 1) rfl)) rfl
theorem k_2 : (Cond.initialized "BranchStore$Tree") ∈ lw_ok := z_ok (z_t1 (List.mem_of_getElem? (i := 2) rfl)) rfl
theorem k_3 : (Cond.initialized "BranchStore$Shape") ∈ lw_ok := z_ok (z_t1 (List.mem_of_getElem? (i := 3) rfl)) rfl
theorem k_4 : (Cond.initialized "BranchStore$Few") ∈ lw_ok := z_ok (z_t1 (List.mem_of_getElem? (i := 4) rfl)) rfl
theorem k_5 : (Cond.initialized "BranchStore$Some") ∈ lw_ok := z_ok (z_t1 (List.mem_of_getElem? (i := 5) rfl)) rfl
theorem k_6 : (Cond.initialized "BranchStore$All") ∈ lw_ok := z_ok (z_t1 (List.mem_of_getElem? (i := 6) rfl)) rfl
theorem k_7 : (Cond.initialized "BranchStore$Key") ∈ lw_ok := z_ok (z_t1 (List.mem_of_getElem? (i := 7) rfl)) rfl
theorem k_8 : (Cond.initialized "BranchStoreModel") ∈ lw_ok := z_ok (z_t1 (List.mem_of_getElem? (i := 8) rfl)) rfl
theorem k_9 : (Cond.initialized "java/lang/Throwable") ∈ lw_ok := z_ok (z_t1 (List.mem_of_getElem? (i := 9) rfl)) rfl
theorem k_10 : (Cond.initialized "java/lang/Exception") ∈ lw_ok := z_ok (z_t1 (List.mem_of_getElem? (i := 10) rfl)) rfl
theorem k_11 : (Cond.initialized "java/lang/RuntimeException") ∈ lw_ok := z_ok (z_t1 (List.mem_of_getElem? (i := 11) rfl)) rfl
theorem k_12 : (Cond.initialized "java/lang/IllegalStateException") ∈ lw_ok := z_ok (z_t1 (List.mem_of_getElem? (i := 12) rfl)) rfl
theorem k_13 : (Cond.initialized "java/lang/IllegalArgumentException") ∈ lw_ok := z_ok (z_t1 (List.mem_of_getElem? (i := 13) rfl)) rfl
theorem k_14 : (Cond.initialized "java/lang/UnsupportedOperationException") ∈ lw_ok := z_ok (z_t1 (List.mem_of_getElem? (i := 14) rfl)) rfl
theorem k_15 : (Cond.initialized "java/util/NoSuchElementException") ∈ lw_ok := z_ok (z_t1 (List.mem_of_getElem? (i := 15) rfl)) rfl
theorem k_16 : (Cond.initialized "java/lang/Math") ∈ lw_ok := z_ok (z_t1 (List.mem_of_getElem? (i := 16) rfl)) rfl
theorem k_17 : (Cond.initialized "java/util/Arrays") ∈ lw_ok := z_ok (z_t1 (List.mem_of_getElem? (i := 17) rfl)) rfl
theorem k_18 : (Cond.initialized "java/lang/System") ∈ lw_ok := z_ok (z_t1 (List.mem_of_getElem? (i := 18) rfl)) rfl
theorem k_19 : (Cond.initialized "java/lang/IndexOutOfBoundsException") ∈ lw_ok := z_ok (z_t1 (List.mem_of_getElem? (i := 19) rfl)) rfl
theorem k_20 : (Cond.initialized "java/lang/Long") ∈ lw_ok := z_ok (z_t1 (List.mem_of_getElem? (i := 20) rfl)) rfl
theorem k_21 : (Cond.classLink "BranchStoreLaw" (8 : Nat) "BranchStore") ∈ lw_ok := z_ok (z_t1 (List.mem_of_getElem? (i := 21) rfl)) rfl
theorem k_22 : (Cond.instantiable "BranchStore" (7 : Nat)) ∈ lw_ok := z_ok (z_t1 (List.mem_of_getElem? (i := 22) rfl)) rfl
theorem k_23 : (Cond.methodLink "BranchStoreLaw" (84 : Nat) ({ cls := "BranchStore", name := "<init>", desc := "(I)V" } : Jvm.MethodName)) ∈ lw_ok := z_ok (z_t1 (List.mem_of_getElem? (i := 23) rfl)) rfl
theorem k_24 : (Cond.instanceMethod ({ cls := "BranchStore", name := "<init>", desc := "(I)V" } : Jvm.MethodName)) ∈ lw_ok := z_ok (z_t1 (List.mem_of_getElem? (i := 24) rfl)) rfl
theorem k_25 : (Cond.code ({ cls := "BranchStore", name := "<init>", desc := "(I)V" } : Jvm.MethodName) prog_1_method_5_code (2 : Nat) (Option.none : Option FieldType)) ∈ lw_ok := z_ok (z_t1 (List.mem_of_getElem? (i := 25) rfl)) rfl
theorem k_26 : (Cond.methodLink "BranchStore" (45 : Nat) ({ cls := "java/lang/Object", name := "<init>", desc := "()V" } : Jvm.MethodName)) ∈ lw_ok := z_ok (z_t1 (List.mem_of_getElem? (i := 26) rfl)) rfl
theorem k_27 : (Cond.instanceMethod ({ cls := "java/lang/Object", name := "<init>", desc := "()V" } : Jvm.MethodName)) ∈ lw_ok := z_ok (z_t1 (List.mem_of_getElem? (i := 27) rfl)) rfl
theorem k_28 : (Cond.code ({ cls := "java/lang/Object", name := "<init>", desc := "()V" } : Jvm.MethodName) object_method_1_code (1 : Nat) (Option.none : Option FieldType)) ∈ lw_ok := z_ok (z_t1 (List.mem_of_getElem? (i := 28) rfl)) rfl
theorem k_29 : (Cond.classLink "BranchStore" (8 : Nat) "BranchStore$Tree") ∈ lw_ok := z_ok (z_t1 (List.mem_of_getElem? (i := 29) rfl)) rfl
theorem k_30 : (Cond.instantiable "BranchStore$Tree" (15 : Nat)) ∈ lw_ok := z_ok (z_t1 (List.mem_of_getElem? (i := 30) rfl)) rfl
theorem k_31 : (Cond.methodLinkNest "BranchStore" (48 : Nat) ({ cls := "BranchStore$Tree", name := "<init>", desc := "()V" } : Jvm.MethodName) "BranchStore") ∈ lw_tbl := z_t1 (List.mem_of_getElem? (i := 31) rfl)
theorem k_32 : (Cond.instanceMethod ({ cls := "BranchStore$Tree", name := "<init>", desc := "()V" } : Jvm.MethodName)) ∈ lw_ok := z_ok (z_t1 (List.mem_of_getElem? (i := 32) rfl)) rfl
theorem k_33 : (Cond.code ({ cls := "BranchStore$Tree", name := "<init>", desc := "()V" } : Jvm.MethodName) prog_7_method_1_code (1 : Nat) (Option.none : Option FieldType)) ∈ lw_ok := z_ok (z_t1 (List.mem_of_getElem? (i := 33) rfl)) rfl
theorem k_34 : (Cond.methodLink "BranchStore$Tree" (3 : Nat) ({ cls := "java/lang/Object", name := "<init>", desc := "()V" } : Jvm.MethodName)) ∈ lw_ok := z_ok (z_t1 (List.mem_of_getElem? (i := 34) rfl)) rfl
theorem k_35 : (Cond.classLink "BranchStore$Tree" (25 : Nat) "BranchStore$Few") ∈ lw_ok := z_ok (z_t1 (List.mem_of_getElem? (i := 35) rfl)) rfl
theorem k_36 : (Cond.instantiable "BranchStore$Few" (4 : Nat)) ∈ lw_ok := z_ok (z_t1 (List.mem_of_getElem? (i := 36) rfl)) rfl
theorem k_37 : (Cond.methodLink "BranchStore$Tree" (27 : Nat) ({ cls := "BranchStore$Few", name := "<init>", desc := "(II)V" } : Jvm.MethodName)) ∈ lw_ok := z_ok (z_t1 (List.mem_of_getElem? (i := 37) rfl)) rfl
theorem k_38 : (Cond.instanceMethod ({ cls := "BranchStore$Few", name := "<init>", desc := "(II)V" } : Jvm.MethodName)) ∈ lw_ok := z_ok (z_t1 (List.mem_of_getElem? (i := 38) rfl)) rfl
theorem k_39 : (Cond.code ({ cls := "BranchStore$Few", name := "<init>", desc := "(II)V" } : Jvm.MethodName) prog_3_method_1_code (3 : Nat) (Option.none : Option FieldType)) ∈ lw_ok := z_ok (z_t1 (List.mem_of_getElem? (i := 39) rfl)) rfl
theorem k_40 : (Cond.methodLink "BranchStore$Few" (5 : Nat) ({ cls := "BranchStore$Shape", name := "<init>", desc := "(III)V" } : Jvm.MethodName)) ∈ lw_ok := z_ok (z_t1 (List.mem_of_getElem? (i := 40) rfl)) rfl
theorem k_41 : (Cond.instanceMethod ({ cls := "BranchStore$Shape", name := "<init>", desc := "(III)V" } : Jvm.MethodName)) ∈ lw_ok := z_ok (z_t1 (List.mem_of_getElem? (i := 41) rfl)) rfl
theorem k_42 : (Cond.code ({ cls := "BranchStore$Shape", name := "<init>", desc := "(III)V" } : Jvm.MethodName) prog_5_method_1_code (4 : Nat) (Option.none : Option FieldType)) ∈ lw_ok := z_ok (z_t1 (List.mem_of_getElem? (i := 42) rfl)) rfl
theorem k_43 : (Cond.methodLink "BranchStore$Shape" (1 : Nat) ({ cls := "java/lang/Object", name := "<init>", desc := "()V" } : Jvm.MethodName)) ∈ lw_ok := z_ok (z_t1 (List.mem_of_getElem? (i := 43) rfl)) rfl
theorem k_44 : (Cond.fieldLink "BranchStore$Few" (9 : Nat) "BranchStore$Few" "links" "I") ∈ lw_ok := z_ok (z_t1 (List.mem_of_getElem? (i := 44) rfl)) rfl
theorem k_45 : (Cond.fieldLink "BranchStore$Shape" (7 : Nat) "BranchStore$Shape" "size" "I") ∈ lw_ok := z_ok (z_t1 (List.mem_of_getElem? (i := 45) rfl)) rfl
theorem k_46 : (Cond.fieldLink "BranchStore$Shape" (13 : Nat) "BranchStore$Shape" "cells" "I") ∈ lw_ok := z_ok (z_t1 (List.mem_of_getElem? (i := 46) rfl)) rfl
theorem k_47 : (Cond.fieldLink "BranchStore$Tree" (77 : Nat) "BranchStore$Shape" "cells" "I") ∈ lw_ok := z_ok (z_t1 (List.mem_of_getElem? (i := 47) rfl)) rfl
theorem k_48 : (Cond.fieldLink "BranchStore$Shape" (16 : Nat) "BranchStore$Shape" "most" "I") ∈ lw_ok := z_ok (z_t1 (List.mem_of_getElem? (i := 48) rfl)) rfl
theorem k_49 : (Cond.fieldLink "BranchStore$Tree" (155 : Nat) "BranchStore$Shape" "most" "I") ∈ lw_ok := z_ok (z_t1 (List.mem_of_getElem? (i := 49) rfl)) rfl
theorem k_50 : (Cond.laysFinal "BranchStore$Few" "BranchStore$Few" "links" "I") ∈ lw_ok := z_ok (z_t1 (List.mem_of_getElem? (i := 50) rfl)) rfl
theorem k_51 : (Cond.soleField "BranchStore$Few" "links") ∈ lw_ok := z_ok (z_t1 (List.mem_of_getElem? (i := 51) rfl)) rfl
theorem k_52 : (Cond.laysFinal "BranchStore$Few" "BranchStore$Shape" "size" "I") ∈ lw_ok := z_ok (z_t1 (List.mem_of_getElem? (i := 52) rfl)) rfl
theorem k_53 : (Cond.soleField "BranchStore$Shape" "size") ∈ lw_ok := z_ok (z_t1 (List.mem_of_getElem? (i := 53) rfl)) rfl
theorem k_54 : (Cond.laysFinal "BranchStore$Few" "BranchStore$Shape" "cells" "I") ∈ lw_ok := z_ok (z_t1 (List.mem_of_getElem? (i := 54) rfl)) rfl
theorem k_55 : (Cond.soleField "BranchStore$Shape" "cells") ∈ lw_ok := z_ok (z_t1 (List.mem_of_getElem? (i := 55) rfl)) rfl
theorem k_56 : (Cond.laysFinal "BranchStore$Few" "BranchStore$Shape" "most" "I") ∈ lw_ok := z_ok (z_t1 (List.mem_of_getElem? (i := 56) rfl)) rfl
theorem k_57 : (Cond.soleField "BranchStore$Shape" "most") ∈ lw_ok := z_ok (z_t1 (List.mem_of_getElem? (i := 57) rfl)) rfl
theorem k_58 : (Cond.superclass "BranchStore$Few" "BranchStore$Shape") ∈ lw_ok := z_ok (z_t1 (List.mem_of_getElem? (i := 58) rfl)) rfl
theorem k_59 : (Cond.arrayClass FieldType.int) ∈ lw_ok := z_ok (z_t1 (List.mem_of_getElem? (i := 59) rfl)) rfl
theorem k_60 : (Cond.classLink "BranchStore$Tree" (37 : Nat) "BranchStore$Some") ∈ lw_ok := z_ok (z_t1 (List.mem_of_getElem? (i := 60) rfl)) rfl
theorem k_61 : (Cond.instantiable "BranchStore$Some" (3 : Nat)) ∈ lw_ok := z_ok (z_t1 (List.mem_of_getElem? (i := 61) rfl)) rfl
theorem k_62 : (Cond.methodLink "BranchStore$Tree" (39 : Nat) ({ cls := "BranchStore$Some", name := "<init>", desc := "()V" } : Jvm.MethodName)) ∈ lw_ok := z_ok (z_t1 (List.mem_of_getElem? (i := 62) rfl)) rfl
theorem k_63 : (Cond.instanceMethod ({ cls := "BranchStore$Some", name := "<init>", desc := "()V" } : Jvm.MethodName)) ∈ lw_ok := z_ok (z_t1 (List.mem_of_getElem? (i := 63) rfl)) rfl
theorem k_64 : (Cond.code ({ cls := "BranchStore$Some", name := "<init>", desc := "()V" } : Jvm.MethodName) prog_6_method_1_code (1 : Nat) (Option.none : Option FieldType)) ∈ lw_ok := z_ok (z_t1 (List.mem_of_getElem? (i := 64) rfl)) rfl
theorem k_65 : (Cond.methodLink "BranchStore$Some" (7 : Nat) ({ cls := "BranchStore$Shape", name := "<init>", desc := "(III)V" } : Jvm.MethodName)) ∈ lw_ok := z_ok (z_t1 (List.mem_of_getElem? (i := 65) rfl)) rfl
theorem k_66 : (Cond.laysFinal "BranchStore$Some" "BranchStore$Shape" "size" "I") ∈ lw_ok := z_ok (z_t1 (List.mem_of_getElem? (i := 66) rfl)) rfl
theorem k_67 : (Cond.laysFinal "BranchStore$Some" "BranchStore$Shape" "cells" "I") ∈ lw_ok := z_ok (z_t1 (List.mem_of_getElem? (i := 67) rfl)) rfl
theorem k_68 : (Cond.laysFinal "BranchStore$Some" "BranchStore$Shape" "most" "I") ∈ lw_ok := z_ok (z_t1 (List.mem_of_getElem? (i := 68) rfl)) rfl
theorem k_69 : (Cond.superclass "BranchStore$Some" "BranchStore$Shape") ∈ lw_ok := z_ok (z_t1 (List.mem_of_getElem? (i := 69) rfl)) rfl
theorem k_70 : (Cond.classLink "BranchStore$Tree" (43 : Nat) "BranchStore$All") ∈ lw_ok := z_ok (z_t1 (List.mem_of_getElem? (i := 70) rfl)) rfl
theorem k_71 : (Cond.instantiable "BranchStore$All" (3 : Nat)) ∈ lw_ok := z_ok (z_t1 (List.mem_of_getElem? (i := 71) rfl)) rfl
theorem k_72 : (Cond.methodLink "BranchStore$Tree" (45 : Nat) ({ cls := "BranchStore$All", name := "<init>", desc := "()V" } : Jvm.MethodName)) ∈ lw_ok := z_ok (z_t1 (List.mem_of_getElem? (i := 72) rfl)) rfl
theorem k_73 : (Cond.instanceMethod ({ cls := "BranchStore$All", name := "<init>", desc := "()V" } : Jvm.MethodName)) ∈ lw_ok := z_ok (z_t1 (List.mem_of_getElem? (i := 73) rfl)) rfl
theorem k_74 : (Cond.code ({ cls := "BranchStore$All", name := "<init>", desc := "()V" } : Jvm.MethodName) prog_2_method_1_code (1 : Nat) (Option.none : Option FieldType)) ∈ lw_ok := z_ok (z_t1 (List.mem_of_getElem? (i := 74) rfl)) rfl
theorem k_75 : (Cond.methodLink "BranchStore$All" (5 : Nat) ({ cls := "BranchStore$Shape", name := "<init>", desc := "(III)V" } : Jvm.MethodName)) ∈ lw_ok := z_ok (z_t1 (List.mem_of_getElem? (i := 75) rfl)) rfl
theorem k_76 : (Cond.laysFinal "BranchStore$All" "BranchStore$Shape" "size" "I") ∈ lw_ok := z_ok (z_t1 (List.mem_of_getElem? (i := 76) rfl)) rfl
theorem k_77 : (Cond.laysFinal "BranchStore$All" "BranchStore$Shape" "cells" "I") ∈ lw_ok := z_ok (z_t1 (List.mem_of_getElem? (i := 77) rfl)) rfl
theorem k_78 : (Cond.laysFinal "BranchStore$All" "BranchStore$Shape" "most" "I") ∈ lw_ok := z_ok (z_t1 (List.mem_of_getElem? (i := 78) rfl)) rfl
theorem k_79 : (Cond.superclass "BranchStore$All" "BranchStore$Shape") ∈ lw_ok := z_ok (z_t1 (List.mem_of_getElem? (i := 79) rfl)) rfl
theorem k_80 : (Cond.classLink "BranchStore$Tree" (52 : Nat) "BranchStore$Key") ∈ lw_ok := z_ok (z_t1 (List.mem_of_getElem? (i := 80) rfl)) rfl
theorem k_81 : (Cond.instantiable "BranchStore$Key" (3 : Nat)) ∈ lw_ok := z_ok (z_t1 (List.mem_of_getElem? (i := 81) rfl)) rfl
theorem k_82 : (Cond.methodLink "BranchStore$Tree" (54 : Nat) ({ cls := "BranchStore$Key", name := "<init>", desc := "(I)V" } : Jvm.MethodName)) ∈ lw_ok := z_ok (z_t1 (List.mem_of_getElem? (i := 82) rfl)) rfl
theorem k_83 : (Cond.instanceMethod ({ cls := "BranchStore$Key", name := "<init>", desc := "(I)V" } : Jvm.MethodName)) ∈ lw_ok := z_ok (z_t1 (List.mem_of_getElem? (i := 83) rfl)) rfl
theorem k_84 : (Cond.code ({ cls := "BranchStore$Key", name := "<init>", desc := "(I)V" } : Jvm.MethodName) prog_4_method_1_code (2 : Nat) (Option.none : Option FieldType)) ∈ lw_ok := z_ok (z_t1 (List.mem_of_getElem? (i := 84) rfl)) rfl
theorem k_85 : (Cond.methodLink "BranchStore$Key" (1 : Nat) ({ cls := "java/lang/Object", name := "<init>", desc := "()V" } : Jvm.MethodName)) ∈ lw_ok := z_ok (z_t1 (List.mem_of_getElem? (i := 85) rfl)) rfl
theorem k_86 : (Cond.methodLink "BranchStore$Key" (13 : Nat) ({ cls := "BranchStore$Key", name := "first", desc := "(I)V" } : Jvm.MethodName)) ∈ lw_ok := z_ok (z_t1 (List.mem_of_getElem? (i := 86) rfl)) rfl
theorem k_87 : (Cond.instanceMethod ({ cls := "BranchStore$Key", name := "first", desc := "(I)V" } : Jvm.MethodName)) ∈ lw_ok := z_ok (z_t1 (List.mem_of_getElem? (i := 87) rfl)) rfl
theorem k_88 : (Cond.selects "BranchStore$Key" ({ cls := "BranchStore$Key", name := "first", desc := "(I)V" } : Jvm.MethodName) ({ cls := "BranchStore$Key", name := "first", desc := "(I)V" } : Jvm.MethodName)) ∈ lw_ok := z_ok (z_t1 (List.mem_of_getElem? (i := 88) rfl)) rfl
theorem k_89 : (Cond.code ({ cls := "BranchStore$Key", name := "first", desc := "(I)V" } : Jvm.MethodName) prog_4_method_3_code (3 : Nat) (Option.none : Option FieldType)) ∈ lw_ok := z_ok (z_t1 (List.mem_of_getElem? (i := 89) rfl)) rfl
theorem k_90 : (Cond.methodLink "BranchStore$Key" (24 : Nat) ({ cls := "BranchStore$Key", name := "begin", desc := "()V" } : Jvm.MethodName)) ∈ lw_ok := z_ok (z_t1 (List.mem_of_getElem? (i := 90) rfl)) rfl
theorem k_91 : (Cond.instanceMethod ({ cls := "BranchStore$Key", name := "begin", desc := "()V" } : Jvm.MethodName)) ∈ lw_ok := z_ok (z_t1 (List.mem_of_getElem? (i := 91) rfl)) rfl
theorem k_92 : (Cond.selects "BranchStore$Key" ({ cls := "BranchStore$Key", name := "begin", desc := "()V" } : Jvm.MethodName) ({ cls := "BranchStore$Key", name := "begin", desc := "()V" } : Jvm.MethodName)) ∈ lw_ok := z_ok (z_t1 (List.mem_of_getElem? (i := 92) rfl)) rfl
theorem k_93 : (Cond.code ({ cls := "BranchStore$Key", name := "begin", desc := "()V" } : Jvm.MethodName) prog_4_method_2_code (1 : Nat) (Option.none : Option FieldType)) ∈ lw_ok := z_ok (z_t1 (List.mem_of_getElem? (i := 93) rfl)) rfl
theorem k_94 : (Cond.methodLink "BranchStore$Key" (27 : Nat) ({ cls := "BranchStore$Key", name := "end", desc := "()V" } : Jvm.MethodName)) ∈ lw_ok := z_ok (z_t1 (List.mem_of_getElem? (i := 94) rfl)) rfl
theorem k_95 : (Cond.privateMethod ({ cls := "BranchStore$Key", name := "end", desc := "()V" } : Jvm.MethodName)) ∈ lw_tbl := z_t1 (List.mem_of_getElem? (i := 95) rfl)
theorem k_96 : (Cond.instanceMethod ({ cls := "BranchStore$Key", name := "end", desc := "()V" } : Jvm.MethodName)) ∈ lw_ok := z_ok (z_t1 (List.mem_of_getElem? (i := 96) rfl)) rfl
theorem k_97 : (Cond.code ({ cls := "BranchStore$Key", name := "end", desc := "()V" } : Jvm.MethodName) prog_4_method_6_code (1 : Nat) (Option.none : Option FieldType)) ∈ lw_ok := z_ok (z_t1 (List.mem_of_getElem? (i := 97) rfl)) rfl
theorem k_98 : (Cond.methodLink "BranchStore$Key" (38 : Nat) ({ cls := "BranchStore$Key", name := "put", desc := "(I)V" } : Jvm.MethodName)) ∈ lw_ok := z_ok (z_t1 (List.mem_of_getElem? (i := 98) rfl)) rfl
theorem k_99 : (Cond.privateMethod ({ cls := "BranchStore$Key", name := "put", desc := "(I)V" } : Jvm.MethodName)) ∈ lw_tbl := z_t1 (List.mem_of_getElem? (i := 99) rfl)
theorem k_100 : (Cond.instanceMethod ({ cls := "BranchStore$Key", name := "put", desc := "(I)V" } : Jvm.MethodName)) ∈ lw_ok := z_ok (z_t1 (List.mem_of_getElem? (i := 100) rfl)) rfl
theorem k_101 : (Cond.code ({ cls := "BranchStore$Key", name := "put", desc := "(I)V" } : Jvm.MethodName) prog_4_method_4_code (2 : Nat) (Option.none : Option FieldType)) ∈ lw_ok := z_ok (z_t1 (List.mem_of_getElem? (i := 101) rfl)) rfl
theorem k_102 : (Cond.methodLink "BranchStore$Key" (30 : Nat) ({ cls := "BranchStore$Key", name := "number", desc := "(J)V" } : Jvm.MethodName)) ∈ lw_ok := z_ok (z_t1 (List.mem_of_getElem? (i := 102) rfl)) rfl
theorem k_103 : (Cond.instanceMethod ({ cls := "BranchStore$Key", name := "number", desc := "(J)V" } : Jvm.MethodName)) ∈ lw_ok := z_ok (z_t1 (List.mem_of_getElem? (i := 103) rfl)) rfl
theorem k_104 : (Cond.selects "BranchStore$Key" ({ cls := "BranchStore$Key", name := "number", desc := "(J)V" } : Jvm.MethodName) ({ cls := "BranchStore$Key", name := "number", desc := "(J)V" } : Jvm.MethodName)) ∈ lw_ok := z_ok (z_t1 (List.mem_of_getElem? (i := 104) rfl)) rfl
theorem k_105 : (Cond.code ({ cls := "BranchStore$Key", name := "number", desc := "(J)V" } : Jvm.MethodName) prog_4_method_5_code (6 : Nat) (Option.none : Option FieldType)) ∈ lw_ok := z_ok (z_t1 (List.mem_of_getElem? (i := 105) rfl)) rfl
theorem k_106 : (Cond.constantLong "BranchStore$Key" (36 : Nat) (-9223372036854775808 : Int64)) ∈ lw_ok := z_ok (z_t1 (List.mem_of_getElem? (i := 106) rfl)) rfl
theorem k_107 : (Cond.fieldLink "BranchStore$Key" (7 : Nat) "BranchStore$Key" "code" "[B") ∈ lw_ok := z_ok (z_t1 (List.mem_of_getElem? (i := 107) rfl)) rfl
theorem k_108 : (Cond.fieldLink "BranchStore$Tree" (101 : Nat) "BranchStore$Key" "code" "[B") ∈ lw_ok := z_ok (z_t1 (List.mem_of_getElem? (i := 108) rfl)) rfl
theorem k_109 : (Cond.fieldLink "BranchStore$Key" (17 : Nat) "BranchStore$Key" "length" "I") ∈ lw_ok := z_ok (z_t1 (List.mem_of_getElem? (i := 109) rfl)) rfl
theorem k_110 : (Cond.fieldLink "BranchStore$Tree" (86 : Nat) "BranchStore$Key" "length" "I") ∈ lw_ok := z_ok (z_t1 (List.mem_of_getElem? (i := 110) rfl)) rfl
theorem k_111 : (Cond.fieldLink "BranchStore" (137 : Nat) "BranchStore$Key" "length" "I") ∈ lw_ok := z_ok (z_t1 (List.mem_of_getElem? (i := 111) rfl)) rfl
theorem k_112 : (Cond.fieldLink "BranchStore$Key" (21 : Nat) "BranchStore$Key" "letters" "I") ∈ lw_ok := z_ok (z_t1 (List.mem_of_getElem? (i := 112) rfl)) rfl
theorem k_113 : (Cond.fieldLink "BranchStore" (77 : Nat) "BranchStore$Key" "letters" "I") ∈ lw_ok := z_ok (z_t1 (List.mem_of_getElem? (i := 113) rfl)) rfl
theorem k_114 : (Cond.fieldLink "BranchStore$Tree" (148 : Nat) "BranchStore$Key" "letters" "I") ∈ lw_ok := z_ok (z_t1 (List.mem_of_getElem? (i := 114) rfl)) rfl
theorem k_115 : (Cond.laysFinal "BranchStore$Key" "BranchStore$Key" "code" "[B") ∈ lw_ok := z_ok (z_t1 (List.mem_of_getElem? (i := 115) rfl)) rfl
theorem k_116 : (Cond.soleField "BranchStore$Key" "code") ∈ lw_ok := z_ok (z_t1 (List.mem_of_getElem? (i := 116) rfl)) rfl
theorem k_117 : (Cond.lays "BranchStore$Key" "BranchStore$Key" "length" "I") ∈ lw_ok := z_ok (z_t1 (List.mem_of_getElem? (i := 117) rfl)) rfl
theorem k_118 : (Cond.soleField "BranchStore$Key" "length") ∈ lw_ok := z_ok (z_t1 (List.mem_of_getElem? (i := 118) rfl)) rfl
theorem k_119 : (Cond.lays "BranchStore$Key" "BranchStore$Key" "letters" "I") ∈ lw_ok := z_ok (z_t1 (List.mem_of_getElem? (i := 119) rfl)) rfl
theorem k_120 : (Cond.soleField "BranchStore$Key" "letters") ∈ lw_ok := z_ok (z_t1 (List.mem_of_getElem? (i := 120) rfl)) rfl
theorem k_121 : (Cond.superclass "BranchStore$Key" "java/lang/Object") ∈ lw_ok := z_ok (z_t1 (List.mem_of_getElem? (i := 121) rfl)) rfl
theorem k_122 : (Cond.arrayClass FieldType.byte) ∈ lw_ok := z_ok (z_t1 (List.mem_of_getElem? (i := 122) rfl)) rfl
theorem k_123 : (Cond.fieldLink "BranchStore$Tree" (9 : Nat) "BranchStore$Tree" "c" "[I") ∈ lw_ok := z_ok (z_t1 (List.mem_of_getElem? (i := 123) rfl)) rfl
theorem k_124 : (Cond.fieldLink "BranchStore$Tree" (15 : Nat) "BranchStore$Tree" "moved" "[I") ∈ lw_ok := z_ok (z_t1 (List.mem_of_getElem? (i := 124) rfl)) rfl
theorem k_125 : (Cond.fieldLink "BranchStore$Tree" (18 : Nat) "BranchStore$Tree" "end" "I") ∈ lw_ok := z_ok (z_t1 (List.mem_of_getElem? (i := 125) rfl)) rfl
theorem k_126 : (Cond.fieldLink "BranchStore$Tree" (70 : Nat) "BranchStore$Tree" "root" "I") ∈ lw_ok := z_ok (z_t1 (List.mem_of_getElem? (i := 126) rfl)) rfl
theorem k_127 : (Cond.fieldLink "BranchStore$Tree" (22 : Nat) "BranchStore$Tree" "free" "[I") ∈ lw_ok := z_ok (z_t1 (List.mem_of_getElem? (i := 127) rfl)) rfl
theorem k_128 : (Cond.fieldLink "BranchStore$Tree" (30 : Nat) "BranchStore$Tree" "few" "LBranchStore$Shape;") ∈ lw_ok := z_ok (z_t1 (List.mem_of_getElem? (i := 128) rfl)) rfl
theorem k_129 : (Cond.fieldLink "BranchStore$Tree" (34 : Nat) "BranchStore$Tree" "more" "LBranchStore$Shape;") ∈ lw_ok := z_ok (z_t1 (List.mem_of_getElem? (i := 129) rfl)) rfl
theorem k_130 : (Cond.fieldLink "BranchStore$Tree" (40 : Nat) "BranchStore$Tree" "some" "LBranchStore$Shape;") ∈ lw_ok := z_ok (z_t1 (List.mem_of_getElem? (i := 130) rfl)) rfl
theorem k_131 : (Cond.fieldLink "BranchStore$Tree" (46 : Nat) "BranchStore$Tree" "all" "LBranchStore$Shape;") ∈ lw_ok := z_ok (z_t1 (List.mem_of_getElem? (i := 131) rfl)) rfl
theorem k_132 : (Cond.fieldLink "BranchStore$Tree" (49 : Nat) "BranchStore$Tree" "branches" "[I") ∈ lw_ok := z_ok (z_t1 (List.mem_of_getElem? (i := 132) rfl)) rfl
theorem k_133 : (Cond.fieldLink "BranchStore" (163 : Nat) "BranchStore$Tree" "branches" "[I") ∈ lw_ok := z_ok (z_t1 (List.mem_of_getElem? (i := 133) rfl)) rfl
theorem k_134 : (Cond.fieldLink "BranchStore$Tree" (57 : Nat) "BranchStore$Tree" "low" "LBranchStore$Key;") ∈ lw_ok := z_ok (z_t1 (List.mem_of_getElem? (i := 134) rfl)) rfl
theorem k_135 : (Cond.fieldLink "BranchStore$Tree" (61 : Nat) "BranchStore$Tree" "high" "LBranchStore$Key;") ∈ lw_ok := z_ok (z_t1 (List.mem_of_getElem? (i := 135) rfl)) rfl
theorem k_136 : (Cond.fieldLink "BranchStore$Tree" (182 : Nat) "BranchStore$Tree" "first" "J") ∈ lw_ok := z_ok (z_t1 (List.mem_of_getElem? (i := 136) rfl)) rfl
theorem k_137 : (Cond.fieldLink "BranchStore$Tree" (186 : Nat) "BranchStore$Tree" "step" "J") ∈ lw_ok := z_ok (z_t1 (List.mem_of_getElem? (i := 137) rfl)) rfl
theorem k_138 : (Cond.fieldLink "BranchStore$Tree" (193 : Nat) "BranchStore$Tree" "value0" "J") ∈ lw_ok := z_ok (z_t1 (List.mem_of_getElem? (i := 138) rfl)) rfl
theorem k_139 : (Cond.lays "BranchStore$Tree" "BranchStore$Tree" "c" "[I") ∈ lw_ok := z_ok (z_t1 (List.mem_of_getElem? (i := 139) rfl)) rfl
theorem k_140 : (Cond.soleField "BranchStore$Tree" "c") ∈ lw_ok := z_ok (z_t1 (List.mem_of_getElem? (i := 140) rfl)) rfl
theorem k_141 : (Cond.lays "BranchStore$Tree" "BranchStore$Tree" "moved" "[I") ∈ lw_ok := z_ok (z_t1 (List.mem_of_getElem? (i := 141) rfl)) rfl
theorem k_142 : (Cond.soleField "BranchStore$Tree" "moved") ∈ lw_ok := z_ok (z_t1 (List.mem_of_getElem? (i := 142) rfl)) rfl
theorem k_143 : (Cond.lays "BranchStore$Tree" "BranchStore$Tree" "end" "I") ∈ lw_ok := z_ok (z_t1 (List.mem_of_getElem? (i := 143) rfl)) rfl
theorem k_144 : (Cond.soleField "BranchStore$Tree" "end") ∈ lw_ok := z_ok (z_t1 (List.mem_of_getElem? (i := 144) rfl)) rfl
theorem k_145 : (Cond.lays "BranchStore$Tree" "BranchStore$Tree" "root" "I") ∈ lw_ok := z_ok (z_t1 (List.mem_of_getElem? (i := 145) rfl)) rfl
theorem k_146 : (Cond.soleField "BranchStore$Tree" "root") ∈ lw_ok := z_ok (z_t1 (List.mem_of_getElem? (i := 146) rfl)) rfl
theorem k_147 : (Cond.laysFinal "BranchStore$Tree" "BranchStore$Tree" "free" "[I") ∈ lw_ok := z_ok (z_t1 (List.mem_of_getElem? (i := 147) rfl)) rfl
theorem k_148 : (Cond.soleField "BranchStore$Tree" "free") ∈ lw_ok := z_ok (z_t1 (List.mem_of_getElem? (i := 148) rfl)) rfl
theorem k_149 : (Cond.laysFinal "BranchStore$Tree" "BranchStore$Tree" "few" "LBranchStore$Shape;") ∈ lw_ok := z_ok (z_t1 (List.mem_of_getElem? (i := 149) rfl)) rfl
theorem k_150 : (Cond.soleField "BranchStore$Tree" "few") ∈ lw_ok := z_ok (z_t1 (List.mem_of_getElem? (i := 150) rfl)) rfl
theorem k_151 : (Cond.laysFinal "BranchStore$Tree" "BranchStore$Tree" "more" "LBranchStore$Shape;") ∈ lw_ok := z_ok (z_t1 (List.mem_of_getElem? (i := 151) rfl)) rfl
theorem k_152 : (Cond.soleField "BranchStore$Tree" "more") ∈ lw_ok := z_ok (z_t1 (List.mem_of_getElem? (i := 152) rfl)) rfl
theorem k_153 : (Cond.laysFinal "BranchStore$Tree" "BranchStore$Tree" "some" "LBranchStore$Shape;") ∈ lw_ok := z_ok (z_t1 (List.mem_of_getElem? (i := 153) rfl)) rfl
theorem k_154 : (Cond.soleField "BranchStore$Tree" "some") ∈ lw_ok := z_ok (z_t1 (List.mem_of_getElem? (i := 154) rfl)) rfl
theorem k_155 : (Cond.laysFinal "BranchStore$Tree" "BranchStore$Tree" "all" "LBranchStore$Shape;") ∈ lw_ok := z_ok (z_t1 (List.mem_of_getElem? (i := 155) rfl)) rfl
theorem k_156 : (Cond.soleField "BranchStore$Tree" "all") ∈ lw_ok := z_ok (z_t1 (List.mem_of_getElem? (i := 156) rfl)) rfl
theorem k_157 : (Cond.laysFinal "BranchStore$Tree" "BranchStore$Tree" "branches" "[I") ∈ lw_ok := z_ok (z_t1 (List.mem_of_getElem? (i := 157) rfl)) rfl
theorem k_158 : (Cond.soleField "BranchStore$Tree" "branches") ∈ lw_ok := z_ok (z_t1 (List.mem_of_getElem? (i := 158) rfl)) rfl
theorem k_159 : (Cond.laysFinal "BranchStore$Tree" "BranchStore$Tree" "low" "LBranchStore$Key;") ∈ lw_ok := z_ok (z_t1 (List.mem_of_getElem? (i := 159) rfl)) rfl
theorem k_160 : (Cond.soleField "BranchStore$Tree" "low") ∈ lw_ok := z_ok (z_t1 (List.mem_of_getElem? (i := 160) rfl)) rfl
theorem k_161 : (Cond.laysFinal "BranchStore$Tree" "BranchStore$Tree" "high" "LBranchStore$Key;") ∈ lw_ok := z_ok (z_t1 (List.mem_of_getElem? (i := 161) rfl)) rfl
theorem k_162 : (Cond.soleField "BranchStore$Tree" "high") ∈ lw_ok := z_ok (z_t1 (List.mem_of_getElem? (i := 162) rfl)) rfl
theorem k_163 : (Cond.lays "BranchStore$Tree" "BranchStore$Tree" "first" "J") ∈ lw_ok := z_ok (z_t1 (List.mem_of_getElem? (i := 163) rfl)) rfl
theorem k_164 : (Cond.soleField "BranchStore$Tree" "first") ∈ lw_ok := z_ok (z_t1 (List.mem_of_getElem? (i := 164) rfl)) rfl
theorem k_165 : (Cond.lays "BranchStore$Tree" "BranchStore$Tree" "step" "J") ∈ lw_ok := z_ok (z_t1 (List.mem_of_getElem? (i := 165) rfl)) rfl
theorem k_166 : (Cond.soleField "BranchStore$Tree" "step") ∈ lw_ok := z_ok (z_t1 (List.mem_of_getElem? (i := 166) rfl)) rfl
theorem k_167 : (Cond.lays "BranchStore$Tree" "BranchStore$Tree" "value0" "J") ∈ lw_ok := z_ok (z_t1 (List.mem_of_getElem? (i := 167) rfl)) rfl
theorem k_168 : (Cond.soleField "BranchStore$Tree" "value0") ∈ lw_ok := z_ok (z_t1 (List.mem_of_getElem? (i := 168) rfl)) rfl
theorem k_169 : (Cond.superclass "BranchStore$Tree" "java/lang/Object") ∈ lw_ok := z_ok (z_t1 (List.mem_of_getElem? (i := 169) rfl)) rfl
theorem k_170 : (Cond.classLink "BranchStore" (49 : Nat) "BranchStore$Key") ∈ lw_ok := z_ok (z_t1 (List.mem_of_getElem? (i := 170) rfl)) rfl
theorem k_171 : (Cond.methodLink "BranchStore" (51 : Nat) ({ cls := "BranchStore$Key", name := "<init>", desc := "(I)V" } : Jvm.MethodName)) ∈ lw_ok := z_ok (z_t1 (List.mem_of_getElem? (i := 171) rfl)) rfl
theorem k_172 : (Cond.fieldLink "BranchStore" (57 : Nat) "BranchStore" "sort" "I") ∈ lw_ok := z_ok (z_t1 (List.mem_of_getElem? (i := 172) rfl)) rfl
theorem k_173 : (Cond.fieldLink "BranchStore" (1 : Nat) "BranchStore" "tree" "LBranchStore$Tree;") ∈ lw_ok := z_ok (z_t1 (List.mem_of_getElem? (i := 173) rfl)) rfl
theorem k_174 : (Cond.fieldLink "BranchStore" (39 : Nat) "BranchStore" "hand" "LBranchStore$Key;") ∈ lw_ok := z_ok (z_t1 (List.mem_of_getElem? (i := 174) rfl)) rfl
theorem k_175 : (Cond.fieldLink "BranchStore" (61 : Nat) "BranchStore" "other" "LBranchStore$Key;") ∈ lw_ok := z_ok (z_t1 (List.mem_of_getElem? (i := 175) rfl)) rfl
theorem k_176 : (Cond.fieldLink "BranchStore" (23 : Nat) "BranchStore" "cursor" "LBranchStore$Key;") ∈ lw_ok := z_ok (z_t1 (List.mem_of_getElem? (i := 176) rfl)) rfl
theorem k_177 : (Cond.fieldLink "BranchStore" (19 : Nat) "BranchStore" "set" "Z") ∈ lw_ok := z_ok (z_t1 (List.mem_of_getElem? (i := 177) rfl)) rfl
theorem k_178 : (Cond.fieldLink "BranchStore" (54 : Nat) "BranchStore" "passing" "LBranchStore$Key;") ∈ lw_ok := z_ok (z_t1 (List.mem_of_getElem? (i := 178) rfl)) rfl
theorem k_179 : (Cond.laysFinal "BranchStore" "BranchStore" "sort" "I") ∈ lw_ok := z_ok (z_t1 (List.mem_of_getElem? (i := 179) rfl)) rfl
theorem k_180 : (Cond.soleField "BranchStore" "sort") ∈ lw_ok := z_ok (z_t1 (List.mem_of_getElem? (i := 180) rfl)) rfl
theorem k_181 : (Cond.laysFinal "BranchStore" "BranchStore" "tree" "LBranchStore$Tree;") ∈ lw_ok := z_ok (z_t1 (List.mem_of_getElem? (i := 181) rfl)) rfl
theorem k_182 : (Cond.soleField "BranchStore" "tree") ∈ lw_ok := z_ok (z_t1 (List.mem_of_getElem? (i := 182) rfl)) rfl
theorem k_183 : (Cond.laysFinal "BranchStore" "BranchStore" "hand" "LBranchStore$Key;") ∈ lw_ok := z_ok (z_t1 (List.mem_of_getElem? (i := 183) rfl)) rfl
theorem k_184 : (Cond.soleField "BranchStore" "hand") ∈ lw_ok := z_ok (z_t1 (List.mem_of_getElem? (i := 184) rfl)) rfl
theorem k_185 : (Cond.laysFinal "BranchStore" "BranchStore" "other" "LBranchStore$Key;") ∈ lw_ok := z_ok (z_t1 (List.mem_of_getElem? (i := 185) rfl)) rfl
theorem k_186 : (Cond.soleField "BranchStore" "other") ∈ lw_ok := z_ok (z_t1 (List.mem_of_getElem? (i := 186) rfl)) rfl
theorem k_187 : (Cond.laysFinal "BranchStore" "BranchStore" "cursor" "LBranchStore$Key;") ∈ lw_ok := z_ok (z_t1 (List.mem_of_getElem? (i := 187) rfl)) rfl
theorem k_188 : (Cond.soleField "BranchStore" "cursor") ∈ lw_ok := z_ok (z_t1 (List.mem_of_getElem? (i := 188) rfl)) rfl
theorem k_189 : (Cond.lays "BranchStore" "BranchStore" "set" "Z") ∈ lw_ok := z_ok (z_t1 (List.mem_of_getElem? (i := 189) rfl)) rfl
theorem k_190 : (Cond.soleField "BranchStore" "set") ∈ lw_ok := z_ok (z_t1 (List.mem_of_getElem? (i := 190) rfl)) rfl
theorem k_191 : (Cond.laysFinal "BranchStore" "BranchStore" "passing" "LBranchStore$Key;") ∈ lw_ok := z_ok (z_t1 (List.mem_of_getElem? (i := 191) rfl)) rfl
theorem k_192 : (Cond.soleField "BranchStore" "passing") ∈ lw_ok := z_ok (z_t1 (List.mem_of_getElem? (i := 192) rfl)) rfl
theorem k_193 : (Cond.superclass "BranchStore" "java/lang/Object") ∈ lw_ok := z_ok (z_t1 (List.mem_of_getElem? (i := 193) rfl)) rfl
theorem k_194 : (Cond.methodLink "BranchStoreLaw" (106 : Nat) ({ cls := "BranchStore", name := "erase", desc := "()V" } : Jvm.MethodName)) ∈ lw_ok := z_ok (z_t1 (List.mem_of_getElem? (i := 194) rfl)) rfl
theorem k_195 : (Cond.instanceMethod ({ cls := "BranchStore", name := "erase", desc := "()V" } : Jvm.MethodName)) ∈ lw_ok := z_ok (z_t1 (List.mem_of_getElem? (i := 195) rfl)) rfl
theorem k_196 : (Cond.selects "BranchStore" ({ cls := "BranchStore", name := "erase", desc := "()V" } : Jvm.MethodName) ({ cls := "BranchStore", name := "erase", desc := "()V" } : Jvm.MethodName)) ∈ lw_ok := z_ok (z_t1 (List.mem_of_getElem? (i := 196) rfl)) rfl
theorem k_197 : (Cond.code ({ cls := "BranchStore", name := "erase", desc := "()V" } : Jvm.MethodName) prog_1_method_9_code (1 : Nat) (Option.none : Option FieldType)) ∈ lw_ok := z_ok (z_t1 (List.mem_of_getElem? (i := 197) rfl)) rfl
theorem k_198 : (Cond.methodLink "BranchStore" (86 : Nat) ({ cls := "BranchStore$Key", name := "first", desc := "(I)V" } : Jvm.MethodName)) ∈ lw_ok := z_ok (z_t1 (List.mem_of_getElem? (i := 198) rfl)) rfl
theorem k_199 : (Cond.methodLink "BranchStoreLaw" (110 : Nat) ({ cls := "BranchStore", name := "keep", desc := "()V" } : Jvm.MethodName)) ∈ lw_ok := z_ok (z_t1 (List.mem_of_getElem? (i := 199) rfl)) rfl
theorem k_200 : (Cond.instanceMethod ({ cls := "BranchStore", name := "keep", desc := "()V" } : Jvm.MethodName)) ∈ lw_ok := z_ok (z_t1 (List.mem_of_getElem? (i := 200) rfl)) rfl
theorem k_201 : (Cond.selects "BranchStore" ({ cls := "BranchStore", name := "keep", desc := "()V" } : Jvm.MethodName) ({ cls := "BranchStore", name := "keep", desc := "()V" } : Jvm.MethodName)) ∈ lw_ok := z_ok (z_t1 (List.mem_of_getElem? (i := 201) rfl)) rfl
theorem k_202 : (Cond.code ({ cls := "BranchStore", name := "keep", desc := "()V" } : Jvm.MethodName) prog_1_method_10_code (1 : Nat) (Option.none : Option FieldType)) ∈ lw_ok := z_ok (z_t1 (List.mem_of_getElem? (i := 202) rfl)) rfl
theorem k_203 : (Cond.methodLink "BranchStore" (89 : Nat) ({ cls := "BranchStore$Key", name := "become", desc := "(LBranchStore$Key;)V" } : Jvm.MethodName)) ∈ lw_ok := z_ok (z_t1 (List.mem_of_getElem? (i := 203) rfl)) rfl
theorem k_204 : (Cond.instanceMethod ({ cls := "BranchStore$Key", name := "become", desc := "(LBranchStore$Key;)V" } : Jvm.MethodName)) ∈ lw_ok := z_ok (z_t1 (List.mem_of_getElem? (i := 204) rfl)) rfl
theorem k_205 : (Cond.selects "BranchStore$Key" ({ cls := "BranchStore$Key", name := "become", desc := "(LBranchStore$Key;)V" } : Jvm.MethodName) ({ cls := "BranchStore$Key", name := "become", desc := "(LBranchStore$Key;)V" } : Jvm.MethodName)) ∈ lw_ok := z_ok (z_t1 (List.mem_of_getElem? (i := 205) rfl)) rfl
theorem k_206 : (Cond.code ({ cls := "BranchStore$Key", name := "become", desc := "(LBranchStore$Key;)V" } : Jvm.MethodName) prog_4_method_8_code (3 : Nat) (Option.none : Option FieldType)) ∈ lw_ok := z_ok (z_t1 (List.mem_of_getElem? (i := 206) rfl)) rfl
theorem k_207 : (Cond.methodLink "BranchStoreLaw" (136 : Nat) ({ cls := "BranchStore", name := "there", desc := "()Z" } : Jvm.MethodName)) ∈ lw_ok := z_ok (z_t1 (List.mem_of_getElem? (i := 207) rfl)) rfl
theorem k_208 : (Cond.instanceMethod ({ cls := "BranchStore", name := "there", desc := "()Z" } : Jvm.MethodName)) ∈ lw_ok := z_ok (z_t1 (List.mem_of_getElem? (i := 208) rfl)) rfl
theorem k_209 : (Cond.selects "BranchStore" ({ cls := "BranchStore", name := "there", desc := "()Z" } : Jvm.MethodName) ({ cls := "BranchStore", name := "there", desc := "()Z" } : Jvm.MethodName)) ∈ lw_ok := z_ok (z_t1 (List.mem_of_getElem? (i := 209) rfl)) rfl
theorem k_210 : (Cond.code ({ cls := "BranchStore", name := "there", desc := "()Z" } : Jvm.MethodName) prog_1_method_17_code (1 : Nat) (Option.some FieldType.boolean)) ∈ lw_ok := z_ok (z_t1 (List.mem_of_getElem? (i := 210) rfl)) rfl
theorem k_211 : (Cond.methodLink "BranchStore" (7 : Nat) ({ cls := "BranchStore$Tree", name := "find", desc := "(LBranchStore$Key;)I" } : Jvm.MethodName)) ∈ lw_ok := z_ok (z_t1 (List.mem_of_getElem? (i := 211) rfl)) rfl
theorem k_212 : (Cond.instanceMethod ({ cls := "BranchStore$Tree", name := "find", desc := "(LBranchStore$Key;)I" } : Jvm.MethodName)) ∈ lw_ok := z_ok (z_t1 (List.mem_of_getElem? (i := 212) rfl)) rfl
theorem k_213 : (Cond.selects "BranchStore$Tree" ({ cls := "BranchStore$Tree", name := "find", desc := "(LBranchStore$Key;)I" } : Jvm.MethodName) ({ cls := "BranchStore$Tree", name := "find", desc := "(LBranchStore$Key;)I" } : Jvm.MethodName)) ∈ lw_ok := z_ok (z_t1 (List.mem_of_getElem? (i := 213) rfl)) rfl
theorem k_214 : (Cond.code ({ cls := "BranchStore$Tree", name := "find", desc := "(LBranchStore$Key;)I" } : Jvm.MethodName) prog_7_method_20_code (3 : Nat) (Option.some FieldType.int)) ∈ lw_ok := z_ok (z_t1 (List.mem_of_getElem? (i := 214) rfl)) rfl
theorem k_215 : (Cond.methodLink "BranchStore$Tree" (92 : Nat) ({ cls := "BranchStore$Key", name := "at", desc := "(I)I" } : Jvm.MethodName)) ∈ lw_ok := z_ok (z_t1 (List.mem_of_getElem? (i := 215) rfl)) rfl
theorem k_216 : (Cond.instanceMethod ({ cls := "BranchStore$Key", name := "at", desc := "(I)I" } : Jvm.MethodName)) ∈ lw_ok := z_ok (z_t1 (List.mem_of_getElem? (i := 216) rfl)) rfl
theorem k_217 : (Cond.selects "BranchStore$Key" ({ cls := "BranchStore$Key", name := "at", desc := "(I)I" } : Jvm.MethodName) ({ cls := "BranchStore$Key", name := "at", desc := "(I)I" } : Jvm.MethodName)) ∈ lw_ok := z_ok (z_t1 (List.mem_of_getElem? (i := 217) rfl)) rfl
theorem k_218 : (Cond.code ({ cls := "BranchStore$Key", name := "at", desc := "(I)I" } : Jvm.MethodName) prog_4_method_9_code (2 : Nat) (Option.some FieldType.int)) ∈ lw_ok := z_ok (z_t1 (List.mem_of_getElem? (i := 218) rfl)) rfl
theorem k_219 : (Cond.methodLink "BranchStore$Tree" (126 : Nat) ({ cls := "BranchStore$Tree", name := "child", desc := "(II)I" } : Jvm.MethodName)) ∈ lw_ok := z_ok (z_t1 (List.mem_of_getElem? (i := 219) rfl)) rfl
theorem k_220 : (Cond.privateMethod ({ cls := "BranchStore$Tree", name := "child", desc := "(II)I" } : Jvm.MethodName)) ∈ lw_tbl := z_t1 (List.mem_of_getElem? (i := 220) rfl)
theorem k_221 : (Cond.instanceMethod ({ cls := "BranchStore$Tree", name := "child", desc := "(II)I" } : Jvm.MethodName)) ∈ lw_ok := z_ok (z_t1 (List.mem_of_getElem? (i := 221) rfl)) rfl
theorem k_222 : (Cond.code ({ cls := "BranchStore$Tree", name := "child", desc := "(II)I" } : Jvm.MethodName) prog_7_method_16_code (4 : Nat) (Option.some FieldType.int)) ∈ lw_ok := z_ok (z_t1 (List.mem_of_getElem? (i := 222) rfl)) rfl
theorem k_223 : (Cond.methodLink "BranchStore$Tree" (116 : Nat) ({ cls := "BranchStore$Tree", name := "shapeOf", desc := "(I)LBranchStore$Shape;" } : Jvm.MethodName)) ∈ lw_ok := z_ok (z_t1 (List.mem_of_getElem? (i := 223) rfl)) rfl
theorem k_224 : (Cond.privateMethod ({ cls := "BranchStore$Tree", name := "shapeOf", desc := "(I)LBranchStore$Shape;" } : Jvm.MethodName)) ∈ lw_tbl := z_t1 (List.mem_of_getElem? (i := 224) rfl)
theorem k_225 : (Cond.instanceMethod ({ cls := "BranchStore$Tree", name := "shapeOf", desc := "(I)LBranchStore$Shape;" } : Jvm.MethodName)) ∈ lw_ok := z_ok (z_t1 (List.mem_of_getElem? (i := 225) rfl)) rfl
theorem k_226 : (Cond.code ({ cls := "BranchStore$Tree", name := "shapeOf", desc := "(I)LBranchStore$Shape;" } : Jvm.MethodName) prog_7_method_6_code (2 : Nat) (Option.some (FieldType.object "BranchStore$Shape"))) ∈ lw_ok := z_ok (z_t1 (List.mem_of_getElem? (i := 226) rfl)) rfl
theorem k_227 : (Cond.methodLink "BranchStore$Tree" (73 : Nat) ({ cls := "BranchStore$Tree", name := "shape", desc := "(I)LBranchStore$Shape;" } : Jvm.MethodName)) ∈ lw_ok := z_ok (z_t1 (List.mem_of_getElem? (i := 227) rfl)) rfl
theorem k_228 : (Cond.privateMethod ({ cls := "BranchStore$Tree", name := "shape", desc := "(I)LBranchStore$Shape;" } : Jvm.MethodName)) ∈ lw_tbl := z_t1 (List.mem_of_getElem? (i := 228) rfl)
theorem k_229 : (Cond.instanceMethod ({ cls := "BranchStore$Tree", name := "shape", desc := "(I)LBranchStore$Shape;" } : Jvm.MethodName)) ∈ lw_ok := z_ok (z_t1 (List.mem_of_getElem? (i := 229) rfl)) rfl
theorem k_230 : (Cond.code ({ cls := "BranchStore$Tree", name := "shape", desc := "(I)LBranchStore$Shape;" } : Jvm.MethodName) prog_7_method_5_code (2 : Nat) (Option.some (FieldType.object "BranchStore$Shape"))) ∈ lw_ok := z_ok (z_t1 (List.mem_of_getElem? (i := 230) rfl)) rfl
theorem k_231 : (Cond.methodLink "BranchStore$Tree" (119 : Nat) ({ cls := "BranchStore$Shape", name := "place", desc := "([III)I" } : Jvm.MethodName)) ∈ lw_ok := z_ok (z_t1 (List.mem_of_getElem? (i := 231) rfl)) rfl
theorem k_232 : (Cond.declares ({ cls := "BranchStore$Shape", name := "place", desc := "([III)I" } : Jvm.MethodName)) ∈ lw_tbl := z_t1 (List.mem_of_getElem? (i := 232) rfl)
theorem k_233 : (Cond.sameMethod "BranchStore$Shape" "BranchStore$Shape" "place" "([III)I") ∈ lw_ok := z_ok (z_t1 (List.mem_of_getElem? (i := 233) rfl)) rfl
theorem k_234 : (Cond.selects "BranchStore$All" ({ cls := "BranchStore$Shape", name := "place", desc := "([III)I" } : Jvm.MethodName) ({ cls := "BranchStore$All", name := "place", desc := "([III)I" } : Jvm.MethodName)) ∈ lw_ok := z_ok (z_t1 (List.mem_of_getElem? (i := 234) rfl)) rfl
theorem k_235 : (Cond.instanceMethod ({ cls := "BranchStore$All", name := "place", desc := "([III)I" } : Jvm.MethodName)) ∈ lw_ok := z_ok (z_t1 (List.mem_of_getElem? (i := 235) rfl)) rfl
theorem k_236 : (Cond.code ({ cls := "BranchStore$All", name := "place", desc := "([III)I" } : Jvm.MethodName) prog_2_method_2_code (4 : Nat) (Option.some FieldType.int)) ∈ lw_ok := z_ok (z_t1 (List.mem_of_getElem? (i := 236) rfl)) rfl
theorem k_237 : (Cond.selects "BranchStore$Few" ({ cls := "BranchStore$Shape", name := "place", desc := "([III)I" } : Jvm.MethodName) ({ cls := "BranchStore$Few", name := "place", desc := "([III)I" } : Jvm.MethodName)) ∈ lw_ok := z_ok (z_t1 (List.mem_of_getElem? (i := 237) rfl)) rfl
theorem k_238 : (Cond.instanceMethod ({ cls := "BranchStore$Few", name := "place", desc := "([III)I" } : Jvm.MethodName)) ∈ lw_ok := z_ok (z_t1 (List.mem_of_getElem? (i := 238) rfl)) rfl
theorem k_239 : (Cond.code ({ cls := "BranchStore$Few", name := "place", desc := "([III)I" } : Jvm.MethodName) prog_3_method_5_code (5 : Nat) (Option.some FieldType.int)) ∈ lw_ok := z_ok (z_t1 (List.mem_of_getElem? (i := 239) rfl)) rfl
theorem k_240 : (Cond.methodLink "BranchStore$Few" (19 : Nat) ({ cls := "BranchStore$Few", name := "index", desc := "([III)I" } : Jvm.MethodName)) ∈ lw_ok := z_ok (z_t2 (List.mem_of_getElem? (i := 0) rfl)) rfl
theorem k_241 : (Cond.static ({ cls := "BranchStore$Few", name := "index", desc := "([III)I" } : Jvm.MethodName)) ∈ lw_ok := z_ok (z_t2 (List.mem_of_getElem? (i := 1) rfl)) rfl
theorem k_242 : (Cond.code ({ cls := "BranchStore$Few", name := "index", desc := "([III)I" } : Jvm.MethodName) prog_3_method_4_code (6 : Nat) (Option.some FieldType.int)) ∈ lw_ok := z_ok (z_t2 (List.mem_of_getElem? (i := 2) rfl)) rfl
theorem k_243 : (Cond.methodLink "BranchStore$Few" (15 : Nat) ({ cls := "BranchStore$Few", name := "byteAt", desc := "([III)I" } : Jvm.MethodName)) ∈ lw_ok := z_ok (z_t2 (List.mem_of_getElem? (i := 3) rfl)) rfl
theorem k_244 : (Cond.static ({ cls := "BranchStore$Few", name := "byteAt", desc := "([III)I" } : Jvm.MethodName)) ∈ lw_ok := z_ok (z_t2 (List.mem_of_getElem? (i := 4) rfl)) rfl
theorem k_245 : (Cond.code ({ cls := "BranchStore$Few", name := "byteAt", desc := "([III)I" } : Jvm.MethodName) prog_3_method_2_code (3 : Nat) (Option.some FieldType.int)) ∈ lw_ok := z_ok (z_t2 (List.mem_of_getElem? (i := 5) rfl)) rfl
theorem k_246 : (Cond.selects "BranchStore$Some" ({ cls := "BranchStore$Shape", name := "place", desc := "([III)I" } : Jvm.MethodName) ({ cls := "BranchStore$Some", name := "place", desc := "([III)I" } : Jvm.MethodName)) ∈ lw_ok := z_ok (z_t2 (List.mem_of_getElem? (i := 6) rfl)) rfl
theorem k_247 : (Cond.instanceMethod ({ cls := "BranchStore$Some", name := "place", desc := "([III)I" } : Jvm.MethodName)) ∈ lw_ok := z_ok (z_t2 (List.mem_of_getElem? (i := 7) rfl)) rfl
theorem k_248 : (Cond.code ({ cls := "BranchStore$Some", name := "place", desc := "([III)I" } : Jvm.MethodName) prog_6_method_4_code (5 : Nat) (Option.some FieldType.int)) ∈ lw_ok := z_ok (z_t2 (List.mem_of_getElem? (i := 8) rfl)) rfl
theorem k_249 : (Cond.methodLink "BranchStore$Some" (11 : Nat) ({ cls := "BranchStore$Some", name := "numberAt", desc := "([III)I" } : Jvm.MethodName)) ∈ lw_ok := z_ok (z_t2 (List.mem_of_getElem? (i := 9) rfl)) rfl
theorem k_250 : (Cond.static ({ cls := "BranchStore$Some", name := "numberAt", desc := "([III)I" } : Jvm.MethodName)) ∈ lw_ok := z_ok (z_t2 (List.mem_of_getElem? (i := 10) rfl)) rfl
theorem k_251 : (Cond.code ({ cls := "BranchStore$Some", name := "numberAt", desc := "([III)I" } : Jvm.MethodName) prog_6_method_2_code (3 : Nat) (Option.some FieldType.int)) ∈ lw_ok := z_ok (z_t2 (List.mem_of_getElem? (i := 11) rfl)) rfl
theorem k_252 : (Cond.methodLink "BranchStore$Tree" (137 : Nat) ({ cls := "BranchStore$Tree", name := "differs", desc := "(LBranchStore$Key;I)I" } : Jvm.MethodName)) ∈ lw_ok := z_ok (z_t2 (List.mem_of_getElem? (i := 12) rfl)) rfl
theorem k_253 : (Cond.privateMethod ({ cls := "BranchStore$Tree", name := "differs", desc := "(LBranchStore$Key;I)I" } : Jvm.MethodName)) ∈ lw_tbl := z_t2 (List.mem_of_getElem? (i := 13) rfl)
theorem k_254 : (Cond.instanceMethod ({ cls := "BranchStore$Tree", name := "differs", desc := "(LBranchStore$Key;I)I" } : Jvm.MethodName)) ∈ lw_ok := z_ok (z_t2 (List.mem_of_getElem? (i := 14) rfl)) rfl
theorem k_255 : (Cond.code ({ cls := "BranchStore$Tree", name := "differs", desc := "(LBranchStore$Key;I)I" } : Jvm.MethodName) prog_7_method_19_code (5 : Nat) (Option.some FieldType.int)) ∈ lw_ok := z_ok (z_t2 (List.mem_of_getElem? (i := 15) rfl)) rfl
theorem k_256 : (Cond.methodLink "BranchStore$Tree" (132 : Nat) ({ cls := "java/lang/Math", name := "min", desc := "(II)I" } : Jvm.MethodName)) ∈ lw_ok := z_ok (z_t2 (List.mem_of_getElem? (i := 16) rfl)) rfl
theorem k_257 : (Cond.static ({ cls := "java/lang/Math", name := "min", desc := "(II)I" } : Jvm.MethodName)) ∈ lw_ok := z_ok (z_t2 (List.mem_of_getElem? (i := 17) rfl)) rfl
theorem k_258 : (Cond.code ({ cls := "java/lang/Math", name := "min", desc := "(II)I" } : Jvm.MethodName) prog_16_method_69_code (2 : Nat) (Option.some FieldType.int)) ∈ lw_ok := z_ok (z_t2 (List.mem_of_getElem? (i := 18) rfl)) rfl
theorem k_259 : (Cond.methodLink "BranchStore$Tree" (105 : Nat) ({ cls := "BranchStore$Tree", name := "byteOf", desc := "(II)I" } : Jvm.MethodName)) ∈ lw_ok := z_ok (z_t2 (List.mem_of_getElem? (i := 19) rfl)) rfl
theorem k_260 : (Cond.privateMethod ({ cls := "BranchStore$Tree", name := "byteOf", desc := "(II)I" } : Jvm.MethodName)) ∈ lw_tbl := z_t2 (List.mem_of_getElem? (i := 20) rfl)
theorem k_261 : (Cond.instanceMethod ({ cls := "BranchStore$Tree", name := "byteOf", desc := "(II)I" } : Jvm.MethodName)) ∈ lw_ok := z_ok (z_t2 (List.mem_of_getElem? (i := 21) rfl)) rfl
theorem k_262 : (Cond.code ({ cls := "BranchStore$Tree", name := "byteOf", desc := "(II)I" } : Jvm.MethodName) prog_7_method_12_code (3 : Nat) (Option.some FieldType.int)) ∈ lw_ok := z_ok (z_t2 (List.mem_of_getElem? (i := 22) rfl)) rfl
theorem k_263 : (Cond.methodLink "BranchStoreLaw" (150 : Nat) ({ cls := "BranchStore", name := "rank", desc := "()I" } : Jvm.MethodName)) ∈ lw_ok := z_ok (z_t2 (List.mem_of_getElem? (i := 23) rfl)) rfl
theorem k_264 : (Cond.instanceMethod ({ cls := "BranchStore", name := "rank", desc := "()I" } : Jvm.MethodName)) ∈ lw_ok := z_ok (z_t2 (List.mem_of_getElem? (i := 24) rfl)) rfl
theorem k_265 : (Cond.selects "BranchStore" ({ cls := "BranchStore", name := "rank", desc := "()I" } : Jvm.MethodName) ({ cls := "BranchStore", name := "rank", desc := "()I" } : Jvm.MethodName)) ∈ lw_ok := z_ok (z_t2 (List.mem_of_getElem? (i := 25) rfl)) rfl
theorem k_266 : (Cond.code ({ cls := "BranchStore", name := "rank", desc := "()I" } : Jvm.MethodName) prog_1_method_21_code (1 : Nat) (Option.some FieldType.int)) ∈ lw_ok := z_ok (z_t2 (List.mem_of_getElem? (i := 26) rfl)) rfl
theorem k_267 : (Cond.methodLink "BranchStore" (42 : Nat) ({ cls := "BranchStore$Tree", name := "rank", desc := "(LBranchStore$Key;)I" } : Jvm.MethodName)) ∈ lw_ok := z_ok (z_t2 (List.mem_of_getElem? (i := 27) rfl)) rfl
theorem k_268 : (Cond.instanceMethod ({ cls := "BranchStore$Tree", name := "rank", desc := "(LBranchStore$Key;)I" } : Jvm.MethodName)) ∈ lw_ok := z_ok (z_t2 (List.mem_of_getElem? (i := 28) rfl)) rfl
theorem k_269 : (Cond.selects "BranchStore$Tree" ({ cls := "BranchStore$Tree", name := "rank", desc := "(LBranchStore$Key;)I" } : Jvm.MethodName) ({ cls := "BranchStore$Tree", name := "rank", desc := "(LBranchStore$Key;)I" } : Jvm.MethodName)) ∈ lw_ok := z_ok (z_t2 (List.mem_of_getElem? (i := 29) rfl)) rfl
theorem k_270 : (Cond.code ({ cls := "BranchStore$Tree", name := "rank", desc := "(LBranchStore$Key;)I" } : Jvm.MethodName) prog_7_method_22_code (7 : Nat) (Option.some FieldType.int)) ∈ lw_ok := z_ok (z_t2 (List.mem_of_getElem? (i := 30) rfl)) rfl
theorem k_271 : (Cond.methodLink "BranchStore$Tree" (141 : Nat) ({ cls := "BranchStore$Tree", name := "nearest", desc := "(LBranchStore$Key;)I" } : Jvm.MethodName)) ∈ lw_ok := z_ok (z_t2 (List.mem_of_getElem? (i := 31) rfl)) rfl
theorem k_272 : (Cond.privateMethod ({ cls := "BranchStore$Tree", name := "nearest", desc := "(LBranchStore$Key;)I" } : Jvm.MethodName)) ∈ lw_tbl := z_t2 (List.mem_of_getElem? (i := 32) rfl)
theorem k_273 : (Cond.instanceMethod ({ cls := "BranchStore$Tree", name := "nearest", desc := "(LBranchStore$Key;)I" } : Jvm.MethodName)) ∈ lw_ok := z_ok (z_t2 (List.mem_of_getElem? (i := 33) rfl)) rfl
theorem k_274 : (Cond.code ({ cls := "BranchStore$Tree", name := "nearest", desc := "(LBranchStore$Key;)I" } : Jvm.MethodName) prog_7_method_18_code (4 : Nat) (Option.some FieldType.int)) ∈ lw_ok := z_ok (z_t2 (List.mem_of_getElem? (i := 34) rfl)) rfl
theorem k_275 : (Cond.methodLink "BranchStore$Tree" (129 : Nat) ({ cls := "BranchStore$Tree", name := "least", desc := "(I)I" } : Jvm.MethodName)) ∈ lw_ok := z_ok (z_t2 (List.mem_of_getElem? (i := 35) rfl)) rfl
theorem k_276 : (Cond.privateMethod ({ cls := "BranchStore$Tree", name := "least", desc := "(I)I" } : Jvm.MethodName)) ∈ lw_tbl := z_t2 (List.mem_of_getElem? (i := 36) rfl)
theorem k_277 : (Cond.instanceMethod ({ cls := "BranchStore$Tree", name := "least", desc := "(I)I" } : Jvm.MethodName)) ∈ lw_ok := z_ok (z_t2 (List.mem_of_getElem? (i := 37) rfl)) rfl
theorem k_278 : (Cond.code ({ cls := "BranchStore$Tree", name := "least", desc := "(I)I" } : Jvm.MethodName) prog_7_method_17_code (3 : Nat) (Option.some FieldType.int)) ∈ lw_ok := z_ok (z_t2 (List.mem_of_getElem? (i := 38) rfl)) rfl
theorem k_279 : (Cond.methodLink "BranchStore$Tree" (123 : Nat) ({ cls := "BranchStore$Shape", name := "from", desc := "([III)I" } : Jvm.MethodName)) ∈ lw_ok := z_ok (z_t2 (List.mem_of_getElem? (i := 39) rfl)) rfl
theorem k_280 : (Cond.declares ({ cls := "BranchStore$Shape", name := "from", desc := "([III)I" } : Jvm.MethodName)) ∈ lw_tbl := z_t2 (List.mem_of_getElem? (i := 40) rfl)
theorem k_281 : (Cond.sameMethod "BranchStore$Shape" "BranchStore$Shape" "from" "([III)I") ∈ lw_ok := z_ok (z_t2 (List.mem_of_getElem? (i := 41) rfl)) rfl
theorem k_282 : (Cond.selects "BranchStore$All" ({ cls := "BranchStore$Shape", name := "from", desc := "([III)I" } : Jvm.MethodName) ({ cls := "BranchStore$All", name := "from", desc := "([III)I" } : Jvm.MethodName)) ∈ lw_ok := z_ok (z_t2 (List.mem_of_getElem? (i := 42) rfl)) rfl
theorem k_283 : (Cond.instanceMethod ({ cls := "BranchStore$All", name := "from", desc := "([III)I" } : Jvm.MethodName)) ∈ lw_ok := z_ok (z_t2 (List.mem_of_getElem? (i := 43) rfl)) rfl
theorem k_284 : (Cond.code ({ cls := "BranchStore$All", name := "from", desc := "([III)I" } : Jvm.MethodName) prog_2_method_5_code (5 : Nat) (Option.some FieldType.int)) ∈ lw_ok := z_ok (z_t2 (List.mem_of_getElem? (i := 44) rfl)) rfl
theorem k_285 : (Cond.selects "BranchStore$Few" ({ cls := "BranchStore$Shape", name := "from", desc := "([III)I" } : Jvm.MethodName) ({ cls := "BranchStore$Few", name := "from", desc := "([III)I" } : Jvm.MethodName)) ∈ lw_ok := z_ok (z_t2 (List.mem_of_getElem? (i := 45) rfl)) rfl
theorem k_286 : (Cond.instanceMethod ({ cls := "BranchStore$Few", name := "from", desc := "([III)I" } : Jvm.MethodName)) ∈ lw_ok := z_ok (z_t2 (List.mem_of_getElem? (i := 46) rfl)) rfl
theorem k_287 : (Cond.code ({ cls := "BranchStore$Few", name := "from", desc := "([III)I" } : Jvm.MethodName) prog_3_method_8_code (5 : Nat) (Option.some FieldType.int)) ∈ lw_ok := z_ok (z_t2 (List.mem_of_getElem? (i := 47) rfl)) rfl
theorem k_288 : (Cond.selects "BranchStore$Some" ({ cls := "BranchStore$Shape", name := "from", desc := "([III)I" } : Jvm.MethodName) ({ cls := "BranchStore$Some", name := "from", desc := "([III)I" } : Jvm.MethodName)) ∈ lw_ok := z_ok (z_t2 (List.mem_of_getElem? (i := 48) rfl)) rfl
theorem k_289 : (Cond.instanceMethod ({ cls := "BranchStore$Some", name := "from", desc := "([III)I" } : Jvm.MethodName)) ∈ lw_ok := z_ok (z_t2 (List.mem_of_getElem? (i := 49) rfl)) rfl
theorem k_290 : (Cond.code ({ cls := "BranchStore$Some", name := "from", desc := "([III)I" } : Jvm.MethodName) prog_6_method_7_code (5 : Nat) (Option.some FieldType.int)) ∈ lw_ok := z_ok (z_t2 (List.mem_of_getElem? (i := 50) rfl)) rfl
theorem k_291 : (Cond.methodLink "BranchStore$Tree" (145 : Nat) ({ cls := "BranchStore$Tree", name := "before", desc := "(II)I" } : Jvm.MethodName)) ∈ lw_ok := z_ok (z_t2 (List.mem_of_getElem? (i := 51) rfl)) rfl
theorem k_292 : (Cond.privateMethod ({ cls := "BranchStore$Tree", name := "before", desc := "(II)I" } : Jvm.MethodName)) ∈ lw_tbl := z_t2 (List.mem_of_getElem? (i := 52) rfl)
theorem k_293 : (Cond.instanceMethod ({ cls := "BranchStore$Tree", name := "before", desc := "(II)I" } : Jvm.MethodName)) ∈ lw_ok := z_ok (z_t2 (List.mem_of_getElem? (i := 53) rfl)) rfl
theorem k_294 : (Cond.code ({ cls := "BranchStore$Tree", name := "before", desc := "(II)I" } : Jvm.MethodName) prog_7_method_21_code (6 : Nat) (Option.some FieldType.int)) ∈ lw_ok := z_ok (z_t2 (List.mem_of_getElem? (i := 54) rfl)) rfl
theorem k_295 : (Cond.methodLink "BranchStore$Tree" (113 : Nat) ({ cls := "BranchStore$Tree", name := "below", desc := "(I)I" } : Jvm.MethodName)) ∈ lw_ok := z_ok (z_t2 (List.mem_of_getElem? (i := 55) rfl)) rfl
theorem k_296 : (Cond.privateMethod ({ cls := "BranchStore$Tree", name := "below", desc := "(I)I" } : Jvm.MethodName)) ∈ lw_tbl := z_t2 (List.mem_of_getElem? (i := 56) rfl)
theorem k_297 : (Cond.instanceMethod ({ cls := "BranchStore$Tree", name := "below", desc := "(I)I" } : Jvm.MethodName)) ∈ lw_ok := z_ok (z_t2 (List.mem_of_getElem? (i := 57) rfl)) rfl
theorem k_298 : (Cond.code ({ cls := "BranchStore$Tree", name := "below", desc := "(I)I" } : Jvm.MethodName) prog_7_method_15_code (2 : Nat) (Option.some FieldType.int)) ∈ lw_ok := z_ok (z_t2 (List.mem_of_getElem? (i := 58) rfl)) rfl
theorem k_299 : (Cond.methodLink "BranchStoreLaw" (158 : Nat) ({ cls := "BranchStore", name := "range", desc := "()I" } : Jvm.MethodName)) ∈ lw_ok := z_ok (z_t2 (List.mem_of_getElem? (i := 59) rfl)) rfl
theorem k_300 : (Cond.instanceMethod ({ cls := "BranchStore", name := "range", desc := "()I" } : Jvm.MethodName)) ∈ lw_ok := z_ok (z_t2 (List.mem_of_getElem? (i := 60) rfl)) rfl
theorem k_301 : (Cond.selects "BranchStore" ({ cls := "BranchStore", name := "range", desc := "()I" } : Jvm.MethodName) ({ cls := "BranchStore", name := "range", desc := "()I" } : Jvm.MethodName)) ∈ lw_ok := z_ok (z_t2 (List.mem_of_getElem? (i := 61) rfl)) rfl
theorem k_302 : (Cond.code ({ cls := "BranchStore", name := "range", desc := "()I" } : Jvm.MethodName) prog_1_method_23_code (1 : Nat) (Option.some FieldType.int)) ∈ lw_ok := z_ok (z_t2 (List.mem_of_getElem? (i := 62) rfl)) rfl
theorem k_303 : (Cond.methodLink "BranchStore" (128 : Nat) ({ cls := "BranchStore", name := "behind", desc := "()I" } : Jvm.MethodName)) ∈ lw_ok := z_ok (z_t2 (List.mem_of_getElem? (i := 63) rfl)) rfl
theorem k_304 : (Cond.privateMethod ({ cls := "BranchStore", name := "behind", desc := "()I" } : Jvm.MethodName)) ∈ lw_tbl := z_t2 (List.mem_of_getElem? (i := 64) rfl)
theorem k_305 : (Cond.instanceMethod ({ cls := "BranchStore", name := "behind", desc := "()I" } : Jvm.MethodName)) ∈ lw_ok := z_ok (z_t2 (List.mem_of_getElem? (i := 65) rfl)) rfl
theorem k_306 : (Cond.code ({ cls := "BranchStore", name := "behind", desc := "()I" } : Jvm.MethodName) prog_1_method_4_code (1 : Nat) (Option.some FieldType.int)) ∈ lw_ok := z_ok (z_t2 (List.mem_of_getElem? (i := 66) rfl)) rfl
theorem k_307 : (Cond.methodLink "BranchStore" (131 : Nat) ({ cls := "java/lang/Math", name := "max", desc := "(II)I" } : Jvm.MethodName)) ∈ lw_ok := z_ok (z_t2 (List.mem_of_getElem? (i := 67) rfl)) rfl
theorem k_308 : (Cond.static ({ cls := "java/lang/Math", name := "max", desc := "(II)I" } : Jvm.MethodName)) ∈ lw_ok := z_ok (z_t2 (List.mem_of_getElem? (i := 68) rfl)) rfl
theorem k_309 : (Cond.code ({ cls := "java/lang/Math", name := "max", desc := "(II)I" } : Jvm.MethodName) prog_16_method_65_code (2 : Nat) (Option.some FieldType.int)) ∈ lw_ok := z_ok (z_t2 (List.mem_of_getElem? (i := 69) rfl)) rfl
theorem k_310 : (Cond.methodLink "BranchStoreLaw" (162 : Nat) ({ cls := "BranchStore", name := "cut", desc := "()I" } : Jvm.MethodName)) ∈ lw_ok := z_ok (z_t2 (List.mem_of_getElem? (i := 70) rfl)) rfl
theorem k_311 : (Cond.instanceMethod ({ cls := "BranchStore", name := "cut", desc := "()I" } : Jvm.MethodName)) ∈ lw_ok := z_ok (z_t2 (List.mem_of_getElem? (i := 71) rfl)) rfl
theorem k_312 : (Cond.selects "BranchStore" ({ cls := "BranchStore", name := "cut", desc := "()I" } : Jvm.MethodName) ({ cls := "BranchStore", name := "cut", desc := "()I" } : Jvm.MethodName)) ∈ lw_ok := z_ok (z_t2 (List.mem_of_getElem? (i := 72) rfl)) rfl
theorem k_313 : (Cond.code ({ cls := "BranchStore", name := "cut", desc := "()I" } : Jvm.MethodName) prog_1_method_24_code (4 : Nat) (Option.some FieldType.int)) ∈ lw_ok := z_ok (z_t2 (List.mem_of_getElem? (i := 73) rfl)) rfl
theorem k_314 : (Cond.methodLink "BranchStore" (31 : Nat) ({ cls := "BranchStore$Tree", name := "select", desc := "(I)I" } : Jvm.MethodName)) ∈ lw_ok := z_ok (z_t2 (List.mem_of_getElem? (i := 74) rfl)) rfl
theorem k_315 : (Cond.instanceMethod ({ cls := "BranchStore$Tree", name := "select", desc := "(I)I" } : Jvm.MethodName)) ∈ lw_ok := z_ok (z_t2 (List.mem_of_getElem? (i := 75) rfl)) rfl
theorem k_316 : (Cond.selects "BranchStore$Tree" ({ cls := "BranchStore$Tree", name := "select", desc := "(I)I" } : Jvm.MethodName) ({ cls := "BranchStore$Tree", name := "select", desc := "(I)I" } : Jvm.MethodName)) ∈ lw_ok := z_ok (z_t2 (List.mem_of_getElem? (i := 76) rfl)) rfl
theorem k_317 : (Cond.code ({ cls := "BranchStore$Tree", name := "select", desc := "(I)I" } : Jvm.MethodName) prog_7_method_23_code (7 : Nat) (Option.some FieldType.int)) ∈ lw_ok := z_ok (z_t2 (List.mem_of_getElem? (i := 77) rfl)) rfl
theorem k_318 : (Cond.methodLink "BranchStore" (35 : Nat) ({ cls := "BranchStore$Tree", name := "tell", desc := "(ILBranchStore$Key;)V" } : Jvm.MethodName)) ∈ lw_ok := z_ok (z_t2 (List.mem_of_getElem? (i := 78) rfl)) rfl
theorem k_319 : (Cond.instanceMethod ({ cls := "BranchStore$Tree", name := "tell", desc := "(ILBranchStore$Key;)V" } : Jvm.MethodName)) ∈ lw_ok := z_ok (z_t2 (List.mem_of_getElem? (i := 79) rfl)) rfl
theorem k_320 : (Cond.selects "BranchStore$Tree" ({ cls := "BranchStore$Tree", name := "tell", desc := "(ILBranchStore$Key;)V" } : Jvm.MethodName) ({ cls := "BranchStore$Tree", name := "tell", desc := "(ILBranchStore$Key;)V" } : Jvm.MethodName)) ∈ lw_ok := z_ok (z_t2 (List.mem_of_getElem? (i := 80) rfl)) rfl
theorem k_321 : (Cond.code ({ cls := "BranchStore$Tree", name := "tell", desc := "(ILBranchStore$Key;)V" } : Jvm.MethodName) prog_7_method_13_code (4 : Nat) (Option.none : Option FieldType)) ∈ lw_ok := z_ok (z_t2 (List.mem_of_getElem? (i := 81) rfl)) rfl
theorem k_322 : (Cond.methodLink "BranchStore$Tree" (109 : Nat) ({ cls := "BranchStore$Key", name := "counted", desc := "(Z)V" } : Jvm.MethodName)) ∈ lw_ok := z_ok (z_t2 (List.mem_of_getElem? (i := 82) rfl)) rfl
theorem k_323 : (Cond.instanceMethod ({ cls := "BranchStore$Key", name := "counted", desc := "(Z)V" } : Jvm.MethodName)) ∈ lw_ok := z_ok (z_t2 (List.mem_of_getElem? (i := 83) rfl)) rfl
theorem k_324 : (Cond.selects "BranchStore$Key" ({ cls := "BranchStore$Key", name := "counted", desc := "(Z)V" } : Jvm.MethodName) ({ cls := "BranchStore$Key", name := "counted", desc := "(Z)V" } : Jvm.MethodName)) ∈ lw_ok := z_ok (z_t2 (List.mem_of_getElem? (i := 84) rfl)) rfl
theorem k_325 : (Cond.code ({ cls := "BranchStore$Key", name := "counted", desc := "(Z)V" } : Jvm.MethodName) prog_4_method_12_code (3 : Nat) (Option.none : Option FieldType)) ∈ lw_ok := z_ok (z_t2 (List.mem_of_getElem? (i := 85) rfl)) rfl
theorem k_326 : (Cond.methodLink "BranchStore$Key" (41 : Nat) ({ cls := "BranchStore$Key", name := "at", desc := "(I)I" } : Jvm.MethodName)) ∈ lw_ok := z_ok (z_t2 (List.mem_of_getElem? (i := 86) rfl)) rfl
theorem k_327 : (Cond.methodLink "BranchStore" (108 : Nat) ({ cls := "BranchStore$Tree", name := "remove", desc := "(LBranchStore$Key;)V" } : Jvm.MethodName)) ∈ lw_ok := z_ok (z_t2 (List.mem_of_getElem? (i := 87) rfl)) rfl
theorem k_328 : (Cond.instanceMethod ({ cls := "BranchStore$Tree", name := "remove", desc := "(LBranchStore$Key;)V" } : Jvm.MethodName)) ∈ lw_ok := z_ok (z_t2 (List.mem_of_getElem? (i := 88) rfl)) rfl
theorem k_329 : (Cond.selects "BranchStore$Tree" ({ cls := "BranchStore$Tree", name := "remove", desc := "(LBranchStore$Key;)V" } : Jvm.MethodName) ({ cls := "BranchStore$Tree", name := "remove", desc := "(LBranchStore$Key;)V" } : Jvm.MethodName)) ∈ lw_ok := z_ok (z_t2 (List.mem_of_getElem? (i := 89) rfl)) rfl
theorem k_330 : (Cond.code ({ cls := "BranchStore$Tree", name := "remove", desc := "(LBranchStore$Key;)V" } : Jvm.MethodName) prog_7_method_28_code (9 : Nat) (Option.none : Option FieldType)) ∈ lw_ok := z_ok (z_t2 (List.mem_of_getElem? (i := 90) rfl)) rfl
theorem k_331 : (Cond.methodLink "BranchStore$Tree" (89 : Nat) ({ cls := "BranchStore$Tree", name := "leafCells", desc := "(I)I" } : Jvm.MethodName)) ∈ lw_ok := z_ok (z_t2 (List.mem_of_getElem? (i := 91) rfl)) rfl
theorem k_332 : (Cond.static ({ cls := "BranchStore$Tree", name := "leafCells", desc := "(I)I" } : Jvm.MethodName)) ∈ lw_ok := z_ok (z_t2 (List.mem_of_getElem? (i := 92) rfl)) rfl
theorem k_333 : (Cond.code ({ cls := "BranchStore$Tree", name := "leafCells", desc := "(I)I" } : Jvm.MethodName) prog_7_method_8_code (1 : Nat) (Option.some FieldType.int)) ∈ lw_ok := z_ok (z_t2 (List.mem_of_getElem? (i := 93) rfl)) rfl
theorem k_334 : (Cond.methodLink "BranchStore$Tree" (172 : Nat) ({ cls := "BranchStore$Tree", name := "release", desc := "(II)V" } : Jvm.MethodName)) ∈ lw_ok := z_ok (z_t2 (List.mem_of_getElem? (i := 94) rfl)) rfl
theorem k_335 : (Cond.privateMethod ({ cls := "BranchStore$Tree", name := "release", desc := "(II)V" } : Jvm.MethodName)) ∈ lw_tbl := z_t2 (List.mem_of_getElem? (i := 95) rfl)
theorem k_336 : (Cond.instanceMethod ({ cls := "BranchStore$Tree", name := "release", desc := "(II)V" } : Jvm.MethodName)) ∈ lw_ok := z_ok (z_t2 (List.mem_of_getElem? (i := 96) rfl)) rfl
theorem k_337 : (Cond.code ({ cls := "BranchStore$Tree", name := "release", desc := "(II)V" } : Jvm.MethodName) prog_7_method_3_code (3 : Nat) (Option.none : Option FieldType)) ∈ lw_ok := z_ok (z_t2 (List.mem_of_getElem? (i := 97) rfl)) rfl
theorem k_338 : (Cond.methodLink "BranchStore$Tree" (175 : Nat) ({ cls := "BranchStore$Shape", name := "drop", desc := "([III)V" } : Jvm.MethodName)) ∈ lw_ok := z_ok (z_t2 (List.mem_of_getElem? (i := 98) rfl)) rfl
theorem k_339 : (Cond.declares ({ cls := "BranchStore$Shape", name := "drop", desc := "([III)V" } : Jvm.MethodName)) ∈ lw_tbl := z_t2 (List.mem_of_getElem? (i := 99) rfl)
theorem k_340 : (Cond.sameMethod "BranchStore$Shape" "BranchStore$Shape" "drop" "([III)V") ∈ lw_ok := z_ok (z_t2 (List.mem_of_getElem? (i := 100) rfl)) rfl
theorem k_341 : (Cond.selects "BranchStore$All" ({ cls := "BranchStore$Shape", name := "drop", desc := "([III)V" } : Jvm.MethodName) ({ cls := "BranchStore$All", name := "drop", desc := "([III)V" } : Jvm.MethodName)) ∈ lw_ok := z_ok (z_t2 (List.mem_of_getElem? (i := 101) rfl)) rfl
theorem k_342 : (Cond.instanceMethod ({ cls := "BranchStore$All", name := "drop", desc := "([III)V" } : Jvm.MethodName)) ∈ lw_ok := z_ok (z_t2 (List.mem_of_getElem? (i := 102) rfl)) rfl
theorem k_343 : (Cond.code ({ cls := "BranchStore$All", name := "drop", desc := "([III)V" } : Jvm.MethodName) prog_2_method_4_code (4 : Nat) (Option.none : Option FieldType)) ∈ lw_ok := z_ok (z_t2 (List.mem_of_getElem? (i := 103) rfl)) rfl
theorem k_344 : (Cond.selects "BranchStore$Few" ({ cls := "BranchStore$Shape", name := "drop", desc := "([III)V" } : Jvm.MethodName) ({ cls := "BranchStore$Few", name := "drop", desc := "([III)V" } : Jvm.MethodName)) ∈ lw_ok := z_ok (z_t2 (List.mem_of_getElem? (i := 104) rfl)) rfl
theorem k_345 : (Cond.instanceMethod ({ cls := "BranchStore$Few", name := "drop", desc := "([III)V" } : Jvm.MethodName)) ∈ lw_ok := z_ok (z_t2 (List.mem_of_getElem? (i := 105) rfl)) rfl
theorem k_346 : (Cond.code ({ cls := "BranchStore$Few", name := "drop", desc := "([III)V" } : Jvm.MethodName) prog_3_method_7_code (5 : Nat) (Option.none : Option FieldType)) ∈ lw_ok := z_ok (z_t2 (List.mem_of_getElem? (i := 106) rfl)) rfl
theorem k_347 : (Cond.methodLink "BranchStore$Few" (22 : Nat) ({ cls := "BranchStore$Few", name := "setByte", desc := "([IIII)V" } : Jvm.MethodName)) ∈ lw_ok := z_ok (z_t2 (List.mem_of_getElem? (i := 107) rfl)) rfl
theorem k_348 : (Cond.static ({ cls := "BranchStore$Few", name := "setByte", desc := "([IIII)V" } : Jvm.MethodName)) ∈ lw_ok := z_ok (z_t2 (List.mem_of_getElem? (i := 108) rfl)) rfl
theorem k_349 : (Cond.code ({ cls := "BranchStore$Few", name := "setByte", desc := "([IIII)V" } : Jvm.MethodName) prog_3_method_3_code (6 : Nat) (Option.none : Option FieldType)) ∈ lw_ok := z_ok (z_t2 (List.mem_of_getElem? (i := 109) rfl)) rfl
theorem k_350 : (Cond.selects "BranchStore$Some" ({ cls := "BranchStore$Shape", name := "drop", desc := "([III)V" } : Jvm.MethodName) ({ cls := "BranchStore$Some", name := "drop", desc := "([III)V" } : Jvm.MethodName)) ∈ lw_ok := z_ok (z_t2 (List.mem_of_getElem? (i := 110) rfl)) rfl
theorem k_351 : (Cond.instanceMethod ({ cls := "BranchStore$Some", name := "drop", desc := "([III)V" } : Jvm.MethodName)) ∈ lw_ok := z_ok (z_t2 (List.mem_of_getElem? (i := 111) rfl)) rfl
theorem k_352 : (Cond.code ({ cls := "BranchStore$Some", name := "drop", desc := "([III)V" } : Jvm.MethodName) prog_6_method_6_code (7 : Nat) (Option.none : Option FieldType)) ∈ lw_ok := z_ok (z_t2 (List.mem_of_getElem? (i := 112) rfl)) rfl
theorem k_353 : (Cond.methodLink "BranchStore$Some" (15 : Nat) ({ cls := "BranchStore$Some", name := "setNumber", desc := "([IIII)V" } : Jvm.MethodName)) ∈ lw_ok := z_ok (z_t2 (List.mem_of_getElem? (i := 113) rfl)) rfl
theorem k_354 : (Cond.static ({ cls := "BranchStore$Some", name := "setNumber", desc := "([IIII)V" } : Jvm.MethodName)) ∈ lw_ok := z_ok (z_t2 (List.mem_of_getElem? (i := 114) rfl)) rfl
theorem k_355 : (Cond.code ({ cls := "BranchStore$Some", name := "setNumber", desc := "([IIII)V" } : Jvm.MethodName) prog_6_method_3_code (6 : Nat) (Option.none : Option FieldType)) ∈ lw_ok := z_ok (z_t2 (List.mem_of_getElem? (i := 115) rfl)) rfl
theorem k_356 : (Cond.methodLink "BranchStore$Tree" (161 : Nat) ({ cls := "BranchStore$Tree", name := "relink", desc := "(III)V" } : Jvm.MethodName)) ∈ lw_ok := z_ok (z_t2 (List.mem_of_getElem? (i := 116) rfl)) rfl
theorem k_357 : (Cond.privateMethod ({ cls := "BranchStore$Tree", name := "relink", desc := "(III)V" } : Jvm.MethodName)) ∈ lw_tbl := z_t2 (List.mem_of_getElem? (i := 117) rfl)
theorem k_358 : (Cond.instanceMethod ({ cls := "BranchStore$Tree", name := "relink", desc := "(III)V" } : Jvm.MethodName)) ∈ lw_ok := z_ok (z_t2 (List.mem_of_getElem? (i := 118) rfl)) rfl
theorem k_359 : (Cond.code ({ cls := "BranchStore$Tree", name := "relink", desc := "(III)V" } : Jvm.MethodName) prog_7_method_25_code (4 : Nat) (Option.none : Option FieldType)) ∈ lw_ok := z_ok (z_t2 (List.mem_of_getElem? (i := 119) rfl)) rfl
theorem k_360 : (Cond.methodLink "BranchStore$Tree" (158 : Nat) ({ cls := "BranchStore$Tree", name := "resized", desc := "(II)I" } : Jvm.MethodName)) ∈ lw_ok := z_ok (z_t2 (List.mem_of_getElem? (i := 120) rfl)) rfl
theorem k_361 : (Cond.privateMethod ({ cls := "BranchStore$Tree", name := "resized", desc := "(II)I" } : Jvm.MethodName)) ∈ lw_tbl := z_t2 (List.mem_of_getElem? (i := 121) rfl)
theorem k_362 : (Cond.instanceMethod ({ cls := "BranchStore$Tree", name := "resized", desc := "(II)I" } : Jvm.MethodName)) ∈ lw_ok := z_ok (z_t2 (List.mem_of_getElem? (i := 122) rfl)) rfl
theorem k_363 : (Cond.code ({ cls := "BranchStore$Tree", name := "resized", desc := "(II)I" } : Jvm.MethodName) prog_7_method_27_code (7 : Nat) (Option.some FieldType.int)) ∈ lw_ok := z_ok (z_t2 (List.mem_of_getElem? (i := 123) rfl)) rfl
theorem k_364 : (Cond.methodLink "BranchStore$Tree" (169 : Nat) ({ cls := "BranchStore$Tree", name := "branch", desc := "(II)I" } : Jvm.MethodName)) ∈ lw_ok := z_ok (z_t2 (List.mem_of_getElem? (i := 124) rfl)) rfl
theorem k_365 : (Cond.privateMethod ({ cls := "BranchStore$Tree", name := "branch", desc := "(II)I" } : Jvm.MethodName)) ∈ lw_tbl := z_t2 (List.mem_of_getElem? (i := 125) rfl)
theorem k_366 : (Cond.instanceMethod ({ cls := "BranchStore$Tree", name := "branch", desc := "(II)I" } : Jvm.MethodName)) ∈ lw_ok := z_ok (z_t2 (List.mem_of_getElem? (i := 126) rfl)) rfl
theorem k_367 : (Cond.code ({ cls := "BranchStore$Tree", name := "branch", desc := "(II)I" } : Jvm.MethodName) prog_7_method_7_code (4 : Nat) (Option.some FieldType.int)) ∈ lw_ok := z_ok (z_t2 (List.mem_of_getElem? (i := 127) rfl)) rfl
theorem k_368 : (Cond.methodLink "BranchStore$Tree" (82 : Nat) ({ cls := "BranchStore$Tree", name := "room", desc := "(I)I" } : Jvm.MethodName)) ∈ lw_ok := z_ok (z_t2 (List.mem_of_getElem? (i := 128) rfl)) rfl
theorem k_369 : (Cond.privateMethod ({ cls := "BranchStore$Tree", name := "room", desc := "(I)I" } : Jvm.MethodName)) ∈ lw_tbl := z_t2 (List.mem_of_getElem? (i := 129) rfl)
theorem k_370 : (Cond.instanceMethod ({ cls := "BranchStore$Tree", name := "room", desc := "(I)I" } : Jvm.MethodName)) ∈ lw_ok := z_ok (z_t2 (List.mem_of_getElem? (i := 130) rfl)) rfl
theorem k_371 : (Cond.code ({ cls := "BranchStore$Tree", name := "room", desc := "(I)I" } : Jvm.MethodName) prog_7_method_2_code (4 : Nat) (Option.some FieldType.int)) ∈ lw_ok := z_ok (z_t2 (List.mem_of_getElem? (i := 131) rfl)) rfl
theorem k_372 : (Cond.methodLink "BranchStore$Tree" (64 : Nat) ({ cls := "java/util/Arrays", name := "copyOf", desc := "([II)[I" } : Jvm.MethodName)) ∈ lw_ok := z_ok (z_t2 (List.mem_of_getElem? (i := 132) rfl)) rfl
theorem k_373 : (Cond.static ({ cls := "java/util/Arrays", name := "copyOf", desc := "([II)[I" } : Jvm.MethodName)) ∈ lw_ok := z_ok (z_t2 (List.mem_of_getElem? (i := 133) rfl)) rfl
theorem k_374 : (Cond.code ({ cls := "java/util/Arrays", name := "copyOf", desc := "([II)[I" } : Jvm.MethodName) prog_21_method_123_code (3 : Nat) (Option.some (FieldType.array FieldType.int))) ∈ lw_ok := z_ok (z_t2 (List.mem_of_getElem? (i := 134) rfl)) rfl
theorem k_375 : (Cond.methodLink "java/util/Arrays" (316 : Nat) ({ cls := "[I", name := "clone", desc := "()Ljava/lang/Object;" } : Jvm.MethodName)) ∈ lw_ok := z_ok (z_t2 (List.mem_of_getElem? (i := 135) rfl)) rfl
theorem k_376 : (Cond.sameMethod "[I" "java/lang/Object" "clone" "()Ljava/lang/Object;") ∈ lw_ok := z_ok (z_t2 (List.mem_of_getElem? (i := 136) rfl)) rfl
theorem k_377 : (Cond.native ({ cls := "java/lang/Object", name := "clone", desc := "()Ljava/lang/Object;" } : Jvm.MethodName)) ∈ lw_ok := z_ok (z_t2 (List.mem_of_getElem? (i := 137) rfl)) rfl
theorem k_378 : (Cond.instanceMethod ({ cls := "java/lang/Object", name := "clone", desc := "()Ljava/lang/Object;" } : Jvm.MethodName)) ∈ lw_ok := z_ok (z_t2 (List.mem_of_getElem? (i := 138) rfl)) rfl
theorem k_379 : (Cond.selects "[I" ({ cls := "[I", name := "clone", desc := "()Ljava/lang/Object;" } : Jvm.MethodName) ({ cls := "java/lang/Object", name := "clone", desc := "()Ljava/lang/Object;" } : Jvm.MethodName)) ∈ lw_ok := z_ok (z_t2 (List.mem_of_getElem? (i := 139) rfl)) rfl
theorem k_380 : (Cond.castable "[I" "java/lang/Cloneable") ∈ lw_tbl := z_t2 (List.mem_of_getElem? (i := 140) rfl)
theorem k_381 : (Cond.classLink "java/util/Arrays" (317 : Nat) "[I") ∈ lw_ok := z_ok (z_t2 (List.mem_of_getElem? (i := 141) rfl)) rfl
theorem k_382 : (Cond.methodLink "java/util/Arrays" (304 : Nat) ({ cls := "java/lang/Math", name := "min", desc := "(II)I" } : Jvm.MethodName)) ∈ lw_ok := z_ok (z_t2 (List.mem_of_getElem? (i := 142) rfl)) rfl
theorem k_383 : (Cond.methodLink "java/util/Arrays" (150 : Nat) ({ cls := "java/lang/System", name := "arraycopy", desc := "(Ljava/lang/Object;ILjava/lang/Object;II)V" } : Jvm.MethodName)) ∈ lw_ok := z_ok (z_t2 (List.mem_of_getElem? (i := 143) rfl)) rfl
theorem k_384 : (Cond.static ({ cls := "java/lang/System", name := "arraycopy", desc := "(Ljava/lang/Object;ILjava/lang/Object;II)V" } : Jvm.MethodName)) ∈ lw_ok := z_ok (z_t2 (List.mem_of_getElem? (i := 144) rfl)) rfl
theorem k_385 : (Cond.native ({ cls := "java/lang/System", name := "arraycopy", desc := "(Ljava/lang/Object;ILjava/lang/Object;II)V" } : Jvm.MethodName)) ∈ lw_ok := z_ok (z_t2 (List.mem_of_getElem? (i := 145) rfl)) rfl
theorem k_386 : (Cond.methodLink "BranchStore$Tree" (165 : Nat) ({ cls := "BranchStore$Shape", name := "add", desc := "([IIII)V" } : Jvm.MethodName)) ∈ lw_ok := z_ok (z_t2 (List.mem_of_getElem? (i := 146) rfl)) rfl
theorem k_387 : (Cond.declares ({ cls := "BranchStore$Shape", name := "add", desc := "([IIII)V" } : Jvm.MethodName)) ∈ lw_tbl := z_t2 (List.mem_of_getElem? (i := 147) rfl)
theorem k_388 : (Cond.sameMethod "BranchStore$Shape" "BranchStore$Shape" "add" "([IIII)V") ∈ lw_ok := z_ok (z_t2 (List.mem_of_getElem? (i := 148) rfl)) rfl
theorem k_389 : (Cond.selects "BranchStore$All" ({ cls := "BranchStore$Shape", name := "add", desc := "([IIII)V" } : Jvm.MethodName) ({ cls := "BranchStore$All", name := "add", desc := "([IIII)V" } : Jvm.MethodName)) ∈ lw_ok := z_ok (z_t2 (List.mem_of_getElem? (i := 149) rfl)) rfl
theorem k_390 : (Cond.instanceMethod ({ cls := "BranchStore$All", name := "add", desc := "([IIII)V" } : Jvm.MethodName)) ∈ lw_ok := z_ok (z_t2 (List.mem_of_getElem? (i := 150) rfl)) rfl
theorem k_391 : (Cond.code ({ cls := "BranchStore$All", name := "add", desc := "([IIII)V" } : Jvm.MethodName) prog_2_method_3_code (5 : Nat) (Option.none : Option FieldType)) ∈ lw_ok := z_ok (z_t2 (List.mem_of_getElem? (i := 151) rfl)) rfl
theorem k_392 : (Cond.selects "BranchStore$Few" ({ cls := "BranchStore$Shape", name := "add", desc := "([IIII)V" } : Jvm.MethodName) ({ cls := "BranchStore$Few", name := "add", desc := "([IIII)V" } : Jvm.MethodName)) ∈ lw_ok := z_ok (z_t2 (List.mem_of_getElem? (i := 152) rfl)) rfl
theorem k_393 : (Cond.instanceMethod ({ cls := "BranchStore$Few", name := "add", desc := "([IIII)V" } : Jvm.MethodName)) ∈ lw_ok := z_ok (z_t2 (List.mem_of_getElem? (i := 153) rfl)) rfl
theorem k_394 : (Cond.code ({ cls := "BranchStore$Few", name := "add", desc := "([IIII)V" } : Jvm.MethodName) prog_3_method_6_code (7 : Nat) (Option.none : Option FieldType)) ∈ lw_ok := z_ok (z_t2 (List.mem_of_getElem? (i := 154) rfl)) rfl
theorem k_395 : (Cond.selects "BranchStore$Some" ({ cls := "BranchStore$Shape", name := "add", desc := "([IIII)V" } : Jvm.MethodName) ({ cls := "BranchStore$Some", name := "add", desc := "([IIII)V" } : Jvm.MethodName)) ∈ lw_ok := z_ok (z_t2 (List.mem_of_getElem? (i := 155) rfl)) rfl
theorem k_396 : (Cond.instanceMethod ({ cls := "BranchStore$Some", name := "add", desc := "([IIII)V" } : Jvm.MethodName)) ∈ lw_ok := z_ok (z_t2 (List.mem_of_getElem? (i := 156) rfl)) rfl
theorem k_397 : (Cond.code ({ cls := "BranchStore$Some", name := "add", desc := "([IIII)V" } : Jvm.MethodName) prog_6_method_5_code (5 : Nat) (Option.none : Option FieldType)) ∈ lw_ok := z_ok (z_t2 (List.mem_of_getElem? (i := 157) rfl)) rfl
theorem k_398 : (Cond.methodLink "BranchStoreLaw" (173 : Nat) ({ cls := "BranchStore", name := "compact", desc := "()I" } : Jvm.MethodName)) ∈ lw_ok := z_ok (z_t2 (List.mem_of_getElem? (i := 158) rfl)) rfl
theorem k_399 : (Cond.instanceMethod ({ cls := "BranchStore", name := "compact", desc := "()I" } : Jvm.MethodName)) ∈ lw_ok := z_ok (z_t2 (List.mem_of_getElem? (i := 159) rfl)) rfl
theorem k_400 : (Cond.selects "BranchStore" ({ cls := "BranchStore", name := "compact", desc := "()I" } : Jvm.MethodName) ({ cls := "BranchStore", name := "compact", desc := "()I" } : Jvm.MethodName)) ∈ lw_ok := z_ok (z_t2 (List.mem_of_getElem? (i := 160) rfl)) rfl
theorem k_401 : (Cond.code ({ cls := "BranchStore", name := "compact", desc := "()I" } : Jvm.MethodName) prog_1_method_27_code (1 : Nat) (Option.some FieldType.int)) ∈ lw_ok := z_ok (z_t2 (List.mem_of_getElem? (i := 161) rfl)) rfl
theorem k_402 : (Cond.methodLink "BranchStore" (160 : Nat) ({ cls := "BranchStore$Tree", name := "compact", desc := "()I" } : Jvm.MethodName)) ∈ lw_ok := z_ok (z_t2 (List.mem_of_getElem? (i := 162) rfl)) rfl
theorem k_403 : (Cond.instanceMethod ({ cls := "BranchStore$Tree", name := "compact", desc := "()I" } : Jvm.MethodName)) ∈ lw_ok := z_ok (z_t2 (List.mem_of_getElem? (i := 163) rfl)) rfl
theorem k_404 : (Cond.selects "BranchStore$Tree" ({ cls := "BranchStore$Tree", name := "compact", desc := "()I" } : Jvm.MethodName) ({ cls := "BranchStore$Tree", name := "compact", desc := "()I" } : Jvm.MethodName)) ∈ lw_ok := z_ok (z_t2 (List.mem_of_getElem? (i := 164) rfl)) rfl
theorem k_405 : (Cond.code ({ cls := "BranchStore$Tree", name := "compact", desc := "()I" } : Jvm.MethodName) prog_7_method_33_code (4 : Nat) (Option.some FieldType.int)) ∈ lw_ok := z_ok (z_t2 (List.mem_of_getElem? (i := 165) rfl)) rfl
theorem k_406 : (Cond.methodLink "BranchStore$Tree" (206 : Nat) ({ cls := "BranchStore$Tree", name := "shifted", desc := "(I[I)I" } : Jvm.MethodName)) ∈ lw_ok := z_ok (z_t2 (List.mem_of_getElem? (i := 166) rfl)) rfl
theorem k_407 : (Cond.privateMethod ({ cls := "BranchStore$Tree", name := "shifted", desc := "(I[I)I" } : Jvm.MethodName)) ∈ lw_tbl := z_t2 (List.mem_of_getElem? (i := 167) rfl)
theorem k_408 : (Cond.instanceMethod ({ cls := "BranchStore$Tree", name := "shifted", desc := "(I[I)I" } : Jvm.MethodName)) ∈ lw_ok := z_ok (z_t2 (List.mem_of_getElem? (i := 168) rfl)) rfl
theorem k_409 : (Cond.code ({ cls := "BranchStore$Tree", name := "shifted", desc := "(I[I)I" } : Jvm.MethodName) prog_7_method_34_code (9 : Nat) (Option.some FieldType.int)) ∈ lw_ok := z_ok (z_t2 (List.mem_of_getElem? (i := 169) rfl)) rfl
theorem k_410 : (Cond.methodLink "BranchStoreLaw" (180 : Nat) ({ cls := "BranchStore", name := "clear", desc := "()I" } : Jvm.MethodName)) ∈ lw_ok := z_ok (z_t2 (List.mem_of_getElem? (i := 170) rfl)) rfl
theorem k_411 : (Cond.instanceMethod ({ cls := "BranchStore", name := "clear", desc := "()I" } : Jvm.MethodName)) ∈ lw_ok := z_ok (z_t2 (List.mem_of_getElem? (i := 171) rfl)) rfl
theorem k_412 : (Cond.selects "BranchStore" ({ cls := "BranchStore", name := "clear", desc := "()I" } : Jvm.MethodName) ({ cls := "BranchStore", name := "clear", desc := "()I" } : Jvm.MethodName)) ∈ lw_ok := z_ok (z_t2 (List.mem_of_getElem? (i := 172) rfl)) rfl
theorem k_413 : (Cond.code ({ cls := "BranchStore", name := "clear", desc := "()I" } : Jvm.MethodName) prog_1_method_29_code (2 : Nat) (Option.some FieldType.int)) ∈ lw_ok := z_ok (z_t2 (List.mem_of_getElem? (i := 173) rfl)) rfl
theorem k_414 : (Cond.methodLink "BranchStore" (27 : Nat) ({ cls := "BranchStore$Tree", name := "keys", desc := "()I" } : Jvm.MethodName)) ∈ lw_ok := z_ok (z_t2 (List.mem_of_getElem? (i := 174) rfl)) rfl
theorem k_415 : (Cond.instanceMethod ({ cls := "BranchStore$Tree", name := "keys", desc := "()I" } : Jvm.MethodName)) ∈ lw_ok := z_ok (z_t2 (List.mem_of_getElem? (i := 175) rfl)) rfl
theorem k_416 : (Cond.selects "BranchStore$Tree" ({ cls := "BranchStore$Tree", name := "keys", desc := "()I" } : Jvm.MethodName) ({ cls := "BranchStore$Tree", name := "keys", desc := "()I" } : Jvm.MethodName)) ∈ lw_ok := z_ok (z_t2 (List.mem_of_getElem? (i := 176) rfl)) rfl
theorem k_417 : (Cond.code ({ cls := "BranchStore$Tree", name := "keys", desc := "()I" } : Jvm.MethodName) prog_7_method_14_code (1 : Nat) (Option.some FieldType.int)) ∈ lw_ok := z_ok (z_t2 (List.mem_of_getElem? (i := 177) rfl)) rfl
theorem k_418 : (Cond.methodLink "BranchStore" (175 : Nat) ({ cls := "BranchStore$Tree", name := "clear", desc := "()V" } : Jvm.MethodName)) ∈ lw_ok := z_ok (z_t2 (List.mem_of_getElem? (i := 178) rfl)) rfl
theorem k_419 : (Cond.instanceMethod ({ cls := "BranchStore$Tree", name := "clear", desc := "()V" } : Jvm.MethodName)) ∈ lw_ok := z_ok (z_t2 (List.mem_of_getElem? (i := 179) rfl)) rfl
theorem k_420 : (Cond.selects "BranchStore$Tree" ({ cls := "BranchStore$Tree", name := "clear", desc := "()V" } : Jvm.MethodName) ({ cls := "BranchStore$Tree", name := "clear", desc := "()V" } : Jvm.MethodName)) ∈ lw_ok := z_ok (z_t2 (List.mem_of_getElem? (i := 180) rfl)) rfl
theorem k_421 : (Cond.code ({ cls := "BranchStore$Tree", name := "clear", desc := "()V" } : Jvm.MethodName) prog_7_method_4_code (2 : Nat) (Option.none : Option FieldType)) ∈ lw_ok := z_ok (z_t2 (List.mem_of_getElem? (i := 181) rfl)) rfl
theorem k_422 : (Cond.methodLink "BranchStoreLaw" (78 : Nat) ({ cls := "BranchStoreLaw", name := "cell", desc := "([II)I" } : Jvm.MethodName)) ∈ lw_ok := z_ok (z_t2 (List.mem_of_getElem? (i := 182) rfl)) rfl
theorem k_423 : (Cond.static ({ cls := "BranchStoreLaw", name := "cell", desc := "([II)I" } : Jvm.MethodName)) ∈ lw_ok := z_ok (z_t2 (List.mem_of_getElem? (i := 183) rfl)) rfl
theorem k_424 : (Cond.code ({ cls := "BranchStoreLaw", name := "cell", desc := "([II)I" } : Jvm.MethodName) method_2_code (2 : Nat) (Option.some FieldType.int)) ∈ lw_ok := z_ok (z_t2 (List.mem_of_getElem? (i := 184) rfl)) rfl
theorem k_425 : (Cond.methodLink "BranchStoreLaw" (91 : Nat) ({ cls := "BranchStoreLaw", name := "number", desc := "(LBranchStore;J)I" } : Jvm.MethodName)) ∈ lw_ok := z_ok (z_t2 (List.mem_of_getElem? (i := 185) rfl)) rfl
theorem k_426 : (Cond.static ({ cls := "BranchStoreLaw", name := "number", desc := "(LBranchStore;J)I" } : Jvm.MethodName)) ∈ lw_ok := z_ok (z_t2 (List.mem_of_getElem? (i := 186) rfl)) rfl
theorem k_427 : (Cond.codeWith ({ cls := "BranchStoreLaw", name := "number", desc := "(LBranchStore;J)I" } : Jvm.MethodName) method_3_code (4 : Nat) (Option.some FieldType.int) [((0 : Nat), (5 : Nat), (8 : Nat), (13 : Nat))]) ∈ lw_ok := z_ok (z_t2 (List.mem_of_getElem? (i := 187) rfl)) rfl
theorem k_428 : (Cond.classLink "BranchStoreLaw" (13 : Nat) "java/lang/IllegalStateException") ∈ lw_ok := z_ok (z_t2 (List.mem_of_getElem? (i := 188) rfl)) rfl
theorem k_429 : (Cond.methodLink "BranchStoreLaw" (7 : Nat) ({ cls := "BranchStore", name := "number", desc := "(J)V" } : Jvm.MethodName)) ∈ lw_ok := z_ok (z_t2 (List.mem_of_getElem? (i := 189) rfl)) rfl
theorem k_430 : (Cond.instanceMethod ({ cls := "BranchStore", name := "number", desc := "(J)V" } : Jvm.MethodName)) ∈ lw_ok := z_ok (z_t2 (List.mem_of_getElem? (i := 190) rfl)) rfl
theorem k_431 : (Cond.selects "BranchStore" ({ cls := "BranchStore", name := "number", desc := "(J)V" } : Jvm.MethodName) ({ cls := "BranchStore", name := "number", desc := "(J)V" } : Jvm.MethodName)) ∈ lw_ok := z_ok (z_t2 (List.mem_of_getElem? (i := 191) rfl)) rfl
theorem k_432 : (Cond.code ({ cls := "BranchStore", name := "number", desc := "(J)V" } : Jvm.MethodName) prog_1_method_6_code (3 : Nat) (Option.none : Option FieldType)) ∈ lw_ok := z_ok (z_t2 (List.mem_of_getElem? (i := 192) rfl)) rfl
theorem k_433 : (Cond.classLink "BranchStore" (64 : Nat) "java/lang/IllegalStateException") ∈ lw_ok := z_ok (z_t2 (List.mem_of_getElem? (i := 193) rfl)) rfl
theorem k_434 : (Cond.instantiable "java/lang/IllegalStateException" (6 : Nat)) ∈ lw_ok := z_ok (z_t2 (List.mem_of_getElem? (i := 194) rfl)) rfl
theorem k_435 : (Cond.castable "java/lang/IllegalStateException" "java/lang/IllegalStateException") ∈ lw_tbl := z_t2 (List.mem_of_getElem? (i := 195) rfl)
theorem k_436 : (Cond.declares ({ cls := "java/lang/RuntimeException", name := "<init>", desc := "()V" } : Jvm.MethodName)) ∈ lw_tbl := z_t2 (List.mem_of_getElem? (i := 196) rfl)
theorem k_437 : (Cond.declares ({ cls := "java/lang/RuntimeException", name := "<init>", desc := "(Ljava/lang/String;)V" } : Jvm.MethodName)) ∈ lw_tbl := z_t2 (List.mem_of_getElem? (i := 197) rfl)
theorem k_438 : (Cond.declares ({ cls := "java/lang/Exception", name := "<init>", desc := "()V" } : Jvm.MethodName)) ∈ lw_tbl := z_t2 (List.mem_of_getElem? (i := 198) rfl)
theorem k_439 : (Cond.declares ({ cls := "java/lang/Exception", name := "<init>", desc := "(Ljava/lang/String;)V" } : Jvm.MethodName)) ∈ lw_tbl := z_t2 (List.mem_of_getElem? (i := 199) rfl)
theorem k_440 : (Cond.declares ({ cls := "java/lang/Throwable", name := "<init>", desc := "()V" } : Jvm.MethodName)) ∈ lw_tbl := z_t2 (List.mem_of_getElem? (i := 200) rfl)
theorem k_441 : (Cond.declares ({ cls := "java/lang/Throwable", name := "<init>", desc := "(Ljava/lang/String;)V" } : Jvm.MethodName)) ∈ lw_tbl := z_t2 (List.mem_of_getElem? (i := 201) rfl)
theorem k_442 : (Cond.selects "java/lang/IllegalStateException" ({ cls := "java/lang/Throwable", name := "fillInStackTrace", desc := "(I)Ljava/lang/Throwable;" } : Jvm.MethodName) ({ cls := "java/lang/Throwable", name := "fillInStackTrace", desc := "(I)Ljava/lang/Throwable;" } : Jvm.MethodName)) ∈ lw_ok := z_ok (z_t2 (List.mem_of_getElem? (i := 202) rfl)) rfl
theorem k_443 : (Cond.selects "java/lang/IllegalStateException" ({ cls := "java/lang/Throwable", name := "fillInStackTrace", desc := "()Ljava/lang/Throwable;" } : Jvm.MethodName) ({ cls := "java/lang/Throwable", name := "fillInStackTrace", desc := "()Ljava/lang/Throwable;" } : Jvm.MethodName)) ∈ lw_ok := z_ok (z_t2 (List.mem_of_getElem? (i := 203) rfl)) rfl
theorem k_444 : (Cond.lays "java/lang/IllegalStateException" "java/lang/Throwable" "cause" "Ljava/lang/Throwable;") ∈ lw_ok := z_ok (z_t2 (List.mem_of_getElem? (i := 204) rfl)) rfl
theorem k_445 : (Cond.lays "java/lang/Throwable" "java/lang/Throwable" "cause" "Ljava/lang/Throwable;") ∈ lw_ok := z_ok (z_t2 (List.mem_of_getElem? (i := 205) rfl)) rfl
theorem k_446 : (Cond.lays "java/lang/IllegalStateException" "java/lang/Throwable" "stackTrace" "[Ljava/lang/StackTraceElement;") ∈ lw_ok := z_ok (z_t2 (List.mem_of_getElem? (i := 206) rfl)) rfl
theorem k_447 : (Cond.lays "java/lang/Throwable" "java/lang/Throwable" "stackTrace" "[Ljava/lang/StackTraceElement;") ∈ lw_ok := z_ok (z_t2 (List.mem_of_getElem? (i := 207) rfl)) rfl
theorem k_448 : (Cond.lays "java/lang/IllegalStateException" "java/lang/Throwable" "suppressedExceptions" "Ljava/util/List;") ∈ lw_ok := z_ok (z_t2 (List.mem_of_getElem? (i := 208) rfl)) rfl
theorem k_449 : (Cond.lays "java/lang/Throwable" "java/lang/Throwable" "suppressedExceptions" "Ljava/util/List;") ∈ lw_ok := z_ok (z_t2 (List.mem_of_getElem? (i := 209) rfl)) rfl
theorem k_450 : (Cond.lays "java/lang/IllegalStateException" "java/lang/Throwable" "detailMessage" "Ljava/lang/String;") ∈ lw_ok := z_ok (z_t2 (List.mem_of_getElem? (i := 210) rfl)) rfl
theorem k_451 : (Cond.lays "java/lang/Throwable" "java/lang/Throwable" "detailMessage" "Ljava/lang/String;") ∈ lw_ok := z_ok (z_t2 (List.mem_of_getElem? (i := 211) rfl)) rfl
theorem k_452 : (Cond.lays "java/lang/IllegalStateException" "java/lang/Throwable" "backtrace" "Ljava/lang/Object;") ∈ lw_ok := z_ok (z_t2 (List.mem_of_getElem? (i := 212) rfl)) rfl
theorem k_453 : (Cond.lays "java/lang/Throwable" "java/lang/Throwable" "backtrace" "Ljava/lang/Object;") ∈ lw_ok := z_ok (z_t2 (List.mem_of_getElem? (i := 213) rfl)) rfl
theorem k_454 : (Cond.fieldLink "java/lang/Throwable" (198 : Nat) "java/lang/Throwable" "backtrace" "Ljava/lang/Object;") ∈ lw_ok := z_ok (z_t2 (List.mem_of_getElem? (i := 214) rfl)) rfl
theorem k_455 : (Cond.superclass "java/lang/Throwable" "java/lang/Object") ∈ lw_ok := z_ok (z_t2 (List.mem_of_getElem? (i := 215) rfl)) rfl
theorem k_456 : (Cond.instanceMethod ({ cls := "java/lang/Throwable", name := "<init>", desc := "()V" } : Jvm.MethodName)) ∈ lw_ok := z_ok (z_t2 (List.mem_of_getElem? (i := 216) rfl)) rfl
theorem k_457 : (Cond.code ({ cls := "java/lang/Throwable", name := "<init>", desc := "()V" } : Jvm.MethodName) prog_19_method_1_code (1 : Nat) (Option.none : Option FieldType)) ∈ lw_ok := z_ok (z_t2 (List.mem_of_getElem? (i := 217) rfl)) rfl
theorem k_458 : (Cond.methodLink "java/lang/Throwable" (1 : Nat) ({ cls := "java/lang/Object", name := "<init>", desc := "()V" } : Jvm.MethodName)) ∈ lw_ok := z_ok (z_t2 (List.mem_of_getElem? (i := 218) rfl)) rfl
theorem k_459 : (Cond.fieldLink "java/lang/Throwable" (13 : Nat) "java/lang/Throwable" "UNASSIGNED_STACK" "[Ljava/lang/StackTraceElement;") ∈ lw_ok := z_ok (z_t2 (List.mem_of_getElem? (i := 219) rfl)) rfl
theorem k_460 : (Cond.laysStatic "java/lang/Throwable" "UNASSIGNED_STACK" "[Ljava/lang/StackTraceElement;") ∈ lw_tbl := z_t2 (List.mem_of_getElem? (i := 220) rfl)
theorem k_461 : (Cond.fieldLink "java/lang/Throwable" (20 : Nat) "java/lang/Throwable" "SUPPRESSED_SENTINEL" "Ljava/util/List;") ∈ lw_ok := z_ok (z_t2 (List.mem_of_getElem? (i := 221) rfl)) rfl
theorem k_462 : (Cond.laysStatic "java/lang/Throwable" "SUPPRESSED_SENTINEL" "Ljava/util/List;") ∈ lw_tbl := z_t2 (List.mem_of_getElem? (i := 222) rfl)
theorem k_463 : (Cond.methodLink "java/lang/Throwable" (27 : Nat) ({ cls := "java/lang/Throwable", name := "fillInStackTrace", desc := "()Ljava/lang/Throwable;" } : Jvm.MethodName)) ∈ lw_ok := z_ok (z_t2 (List.mem_of_getElem? (i := 223) rfl)) rfl
theorem k_464 : (Cond.instanceMethod ({ cls := "java/lang/Throwable", name := "fillInStackTrace", desc := "()Ljava/lang/Throwable;" } : Jvm.MethodName)) ∈ lw_ok := z_ok (z_t2 (List.mem_of_getElem? (i := 224) rfl)) rfl
theorem k_465 : (Cond.sameMethod "java/lang/Throwable" "java/lang/Throwable" "fillInStackTrace" "()Ljava/lang/Throwable;") ∈ lw_ok := z_ok (z_t2 (List.mem_of_getElem? (i := 225) rfl)) rfl
theorem k_466 : (Cond.selects "java/lang/IllegalArgumentException" ({ cls := "java/lang/Throwable", name := "fillInStackTrace", desc := "()Ljava/lang/Throwable;" } : Jvm.MethodName) ({ cls := "java/lang/Throwable", name := "fillInStackTrace", desc := "()Ljava/lang/Throwable;" } : Jvm.MethodName)) ∈ lw_ok := z_ok (z_t2 (List.mem_of_getElem? (i := 226) rfl)) rfl
theorem k_467 : (Cond.selects "java/lang/IndexOutOfBoundsException" ({ cls := "java/lang/Throwable", name := "fillInStackTrace", desc := "()Ljava/lang/Throwable;" } : Jvm.MethodName) ({ cls := "java/lang/Throwable", name := "fillInStackTrace", desc := "()Ljava/lang/Throwable;" } : Jvm.MethodName)) ∈ lw_ok := z_ok (z_t2 (List.mem_of_getElem? (i := 227) rfl)) rfl
theorem k_468 : (Cond.selects "java/lang/UnsupportedOperationException" ({ cls := "java/lang/Throwable", name := "fillInStackTrace", desc := "()Ljava/lang/Throwable;" } : Jvm.MethodName) ({ cls := "java/lang/Throwable", name := "fillInStackTrace", desc := "()Ljava/lang/Throwable;" } : Jvm.MethodName)) ∈ lw_ok := z_ok (z_t2 (List.mem_of_getElem? (i := 228) rfl)) rfl
theorem k_469 : (Cond.selects "java/util/NoSuchElementException" ({ cls := "java/lang/Throwable", name := "fillInStackTrace", desc := "()Ljava/lang/Throwable;" } : Jvm.MethodName) ({ cls := "java/lang/Throwable", name := "fillInStackTrace", desc := "()Ljava/lang/Throwable;" } : Jvm.MethodName)) ∈ lw_ok := z_ok (z_t2 (List.mem_of_getElem? (i := 229) rfl)) rfl
theorem k_470 : (Cond.codeSync ({ cls := "java/lang/Throwable", name := "fillInStackTrace", desc := "()Ljava/lang/Throwable;" } : Jvm.MethodName) prog_19_method_18_code (1 : Nat) (Option.some (FieldType.object "java/lang/Throwable"))) ∈ lw_ok := z_ok (z_t2 (List.mem_of_getElem? (i := 230) rfl)) rfl
theorem k_471 : (Cond.methodLink "java/lang/Throwable" (202 : Nat) ({ cls := "java/lang/Throwable", name := "fillInStackTrace", desc := "(I)Ljava/lang/Throwable;" } : Jvm.MethodName)) ∈ lw_ok := z_ok (z_t2 (List.mem_of_getElem? (i := 231) rfl)) rfl
theorem k_472 : (Cond.privateMethod ({ cls := "java/lang/Throwable", name := "fillInStackTrace", desc := "(I)Ljava/lang/Throwable;" } : Jvm.MethodName)) ∈ lw_tbl := z_t2 (List.mem_of_getElem? (i := 232) rfl)
theorem k_473 : (Cond.instanceMethod ({ cls := "java/lang/Throwable", name := "fillInStackTrace", desc := "(I)Ljava/lang/Throwable;" } : Jvm.MethodName)) ∈ lw_ok := z_ok (z_t2 (List.mem_of_getElem? (i := 233) rfl)) rfl
theorem k_474 : (Cond.instantiable "java/lang/Throwable" (6 : Nat)) ∈ lw_ok := z_ok (z_t2 (List.mem_of_getElem? (i := 234) rfl)) rfl
theorem k_475 : (Cond.native ({ cls := "java/lang/Throwable", name := "fillInStackTrace", desc := "(I)Ljava/lang/Throwable;" } : Jvm.MethodName)) ∈ lw_ok := z_ok (z_t2 (List.mem_of_getElem? (i := 235) rfl)) rfl
theorem k_476 : (Cond.methodLink "BranchStore" (66 : Nat) ({ cls := "java/lang/IllegalStateException", name := "<init>", desc := "()V" } : Jvm.MethodName)) ∈ lw_ok := z_ok (z_t2 (List.mem_of_getElem? (i := 236) rfl)) rfl
theorem k_477 : (Cond.instanceMethod ({ cls := "java/lang/IllegalStateException", name := "<init>", desc := "()V" } : Jvm.MethodName)) ∈ lw_ok := z_ok (z_t2 (List.mem_of_getElem? (i := 237) rfl)) rfl
theorem k_478 : (Cond.code ({ cls := "java/lang/IllegalStateException", name := "<init>", desc := "()V" } : Jvm.MethodName) prog_13_method_1_code (1 : Nat) (Option.none : Option FieldType)) ∈ lw_ok := z_ok (z_t2 (List.mem_of_getElem? (i := 238) rfl)) rfl
theorem k_479 : (Cond.methodLink "java/lang/IllegalStateException" (1 : Nat) ({ cls := "java/lang/RuntimeException", name := "<init>", desc := "()V" } : Jvm.MethodName)) ∈ lw_ok := z_ok (z_t2 (List.mem_of_getElem? (i := 239) rfl)) rfl
theorem k_480 : (Cond.instanceMethod ({ cls := "java/lang/RuntimeException", name := "<init>", desc := "()V" } : Jvm.MethodName)) ∈ lw_ok := z_ok (z_t3 (List.mem_of_getElem? (i := 0) rfl)) rfl
theorem k_481 : (Cond.code ({ cls := "java/lang/RuntimeException", name := "<init>", desc := "()V" } : Jvm.MethodName) prog_17_method_1_code (1 : Nat) (Option.none : Option FieldType)) ∈ lw_ok := z_ok (z_t3 (List.mem_of_getElem? (i := 1) rfl)) rfl
theorem k_482 : (Cond.methodLink "java/lang/RuntimeException" (1 : Nat) ({ cls := "java/lang/Exception", name := "<init>", desc := "()V" } : Jvm.MethodName)) ∈ lw_ok := z_ok (z_t3 (List.mem_of_getElem? (i := 2) rfl)) rfl
theorem k_483 : (Cond.instanceMethod ({ cls := "java/lang/Exception", name := "<init>", desc := "()V" } : Jvm.MethodName)) ∈ lw_ok := z_ok (z_t3 (List.mem_of_getElem? (i := 3) rfl)) rfl
theorem k_484 : (Cond.code ({ cls := "java/lang/Exception", name := "<init>", desc := "()V" } : Jvm.MethodName) prog_11_method_1_code (1 : Nat) (Option.none : Option FieldType)) ∈ lw_ok := z_ok (z_t3 (List.mem_of_getElem? (i := 4) rfl)) rfl
theorem k_485 : (Cond.methodLink "java/lang/Exception" (1 : Nat) ({ cls := "java/lang/Throwable", name := "<init>", desc := "()V" } : Jvm.MethodName)) ∈ lw_ok := z_ok (z_t3 (List.mem_of_getElem? (i := 5) rfl)) rfl
theorem k_486 : (Cond.fieldLink "java/lang/Throwable" (198 : Nat) "java/lang/Throwable" "backtrace" "Ljava/lang/Object;") ∈ lw_ok := z_ok (z_t3 (List.mem_of_getElem? (i := 6) rfl)) rfl
theorem k_487 : (Cond.fieldLink "java/lang/Throwable" (7 : Nat) "java/lang/Throwable" "cause" "Ljava/lang/Throwable;") ∈ lw_ok := z_ok (z_t3 (List.mem_of_getElem? (i := 7) rfl)) rfl
theorem k_488 : (Cond.fieldLink "java/lang/Throwable" (17 : Nat) "java/lang/Throwable" "stackTrace" "[Ljava/lang/StackTraceElement;") ∈ lw_ok := z_ok (z_t3 (List.mem_of_getElem? (i := 8) rfl)) rfl
theorem k_489 : (Cond.fieldLink "java/lang/Throwable" (24 : Nat) "java/lang/Throwable" "suppressedExceptions" "Ljava/util/List;") ∈ lw_ok := z_ok (z_t3 (List.mem_of_getElem? (i := 9) rfl)) rfl
theorem k_490 : (Cond.soleField "java/lang/Throwable" "backtrace") ∈ lw_ok := z_ok (z_t3 (List.mem_of_getElem? (i := 10) rfl)) rfl
theorem k_491 : (Cond.soleField "java/lang/Throwable" "detailMessage") ∈ lw_ok := z_ok (z_t3 (List.mem_of_getElem? (i := 11) rfl)) rfl
theorem k_492 : (Cond.soleField "java/lang/Throwable" "cause") ∈ lw_ok := z_ok (z_t3 (List.mem_of_getElem? (i := 12) rfl)) rfl
theorem k_493 : (Cond.soleField "java/lang/Throwable" "stackTrace") ∈ lw_ok := z_ok (z_t3 (List.mem_of_getElem? (i := 13) rfl)) rfl
theorem k_494 : (Cond.lays "java/lang/IllegalStateException" "java/lang/Throwable" "depth" "I") ∈ lw_ok := z_ok (z_t3 (List.mem_of_getElem? (i := 14) rfl)) rfl
theorem k_495 : (Cond.soleField "java/lang/Throwable" "depth") ∈ lw_ok := z_ok (z_t3 (List.mem_of_getElem? (i := 15) rfl)) rfl
theorem k_496 : (Cond.soleField "java/lang/Throwable" "suppressedExceptions") ∈ lw_ok := z_ok (z_t3 (List.mem_of_getElem? (i := 16) rfl)) rfl
theorem k_497 : (Cond.superclass "java/lang/IllegalStateException" "java/lang/RuntimeException") ∈ lw_ok := z_ok (z_t3 (List.mem_of_getElem? (i := 17) rfl)) rfl
theorem k_498 : (Cond.methodLink "BranchStore" (67 : Nat) ({ cls := "BranchStore$Key", name := "begin", desc := "()V" } : Jvm.MethodName)) ∈ lw_ok := z_ok (z_t3 (List.mem_of_getElem? (i := 18) rfl)) rfl
theorem k_499 : (Cond.methodLink "BranchStore" (70 : Nat) ({ cls := "BranchStore$Key", name := "number", desc := "(J)V" } : Jvm.MethodName)) ∈ lw_ok := z_ok (z_t3 (List.mem_of_getElem? (i := 19) rfl)) rfl
theorem k_500 : (Cond.methodLink "BranchStoreLaw" (98 : Nat) ({ cls := "BranchStoreLaw", name := "pair", desc := "(LBranchStore;JJ)I" } : Jvm.MethodName)) ∈ lw_ok := z_ok (z_t3 (List.mem_of_getElem? (i := 20) rfl)) rfl
theorem k_501 : (Cond.static ({ cls := "BranchStoreLaw", name := "pair", desc := "(LBranchStore;JJ)I" } : Jvm.MethodName)) ∈ lw_ok := z_ok (z_t3 (List.mem_of_getElem? (i := 21) rfl)) rfl
theorem k_502 : (Cond.codeWith ({ cls := "BranchStoreLaw", name := "pair", desc := "(LBranchStore;JJ)I" } : Jvm.MethodName) method_4_code (6 : Nat) (Option.some FieldType.int) [((0 : Nat), (6 : Nat), (9 : Nat), (13 : Nat))]) ∈ lw_ok := z_ok (z_t3 (List.mem_of_getElem? (i := 22) rfl)) rfl
theorem k_503 : (Cond.methodLink "BranchStoreLaw" (15 : Nat) ({ cls := "BranchStore", name := "pair", desc := "(JJ)V" } : Jvm.MethodName)) ∈ lw_ok := z_ok (z_t3 (List.mem_of_getElem? (i := 23) rfl)) rfl
theorem k_504 : (Cond.instanceMethod ({ cls := "BranchStore", name := "pair", desc := "(JJ)V" } : Jvm.MethodName)) ∈ lw_ok := z_ok (z_t3 (List.mem_of_getElem? (i := 24) rfl)) rfl
theorem k_505 : (Cond.selects "BranchStore" ({ cls := "BranchStore", name := "pair", desc := "(JJ)V" } : Jvm.MethodName) ({ cls := "BranchStore", name := "pair", desc := "(JJ)V" } : Jvm.MethodName)) ∈ lw_ok := z_ok (z_t3 (List.mem_of_getElem? (i := 25) rfl)) rfl
theorem k_506 : (Cond.code ({ cls := "BranchStore", name := "pair", desc := "(JJ)V" } : Jvm.MethodName) prog_1_method_7_code (5 : Nat) (Option.none : Option FieldType)) ∈ lw_ok := z_ok (z_t3 (List.mem_of_getElem? (i := 26) rfl)) rfl
theorem k_507 : (Cond.methodLink "BranchStoreLaw" (102 : Nat) ({ cls := "BranchStoreLaw", name := "letter", desc := "(LBranchStore;I[J)I" } : Jvm.MethodName)) ∈ lw_ok := z_ok (z_t3 (List.mem_of_getElem? (i := 27) rfl)) rfl
theorem k_508 : (Cond.static ({ cls := "BranchStoreLaw", name := "letter", desc := "(LBranchStore;I[J)I" } : Jvm.MethodName)) ∈ lw_ok := z_ok (z_t3 (List.mem_of_getElem? (i := 28) rfl)) rfl
theorem k_509 : (Cond.codeWith ({ cls := "BranchStoreLaw", name := "letter", desc := "(LBranchStore;I[J)I" } : Jvm.MethodName) method_5_code (4 : Nat) (Option.some FieldType.int) [((0 : Nat), (9 : Nat), (12 : Nat), (13 : Nat)), ((0 : Nat), (9 : Nat), (15 : Nat), (23 : Nat)), ((0 : Nat), (9 : Nat), (18 : Nat), (25 : Nat))]) ∈ lw_ok := z_ok (z_t3 (List.mem_of_getElem? (i := 29) rfl)) rfl
theorem k_510 : (Cond.classLink "BranchStoreLaw" (23 : Nat) "java/lang/IllegalArgumentException") ∈ lw_ok := z_ok (z_t3 (List.mem_of_getElem? (i := 30) rfl)) rfl
theorem k_511 : (Cond.classLink "BranchStoreLaw" (25 : Nat) "java/lang/UnsupportedOperationException") ∈ lw_ok := z_ok (z_t3 (List.mem_of_getElem? (i := 31) rfl)) rfl
theorem k_512 : (Cond.methodLink "BranchStoreLaw" (19 : Nat) ({ cls := "BranchStore", name := "letter", desc := "(I)I" } : Jvm.MethodName)) ∈ lw_ok := z_ok (z_t3 (List.mem_of_getElem? (i := 32) rfl)) rfl
theorem k_513 : (Cond.instanceMethod ({ cls := "BranchStore", name := "letter", desc := "(I)I" } : Jvm.MethodName)) ∈ lw_ok := z_ok (z_t3 (List.mem_of_getElem? (i := 33) rfl)) rfl
theorem k_514 : (Cond.selects "BranchStore" ({ cls := "BranchStore", name := "letter", desc := "(I)I" } : Jvm.MethodName) ({ cls := "BranchStore", name := "letter", desc := "(I)I" } : Jvm.MethodName)) ∈ lw_ok := z_ok (z_t3 (List.mem_of_getElem? (i := 34) rfl)) rfl
theorem k_515 : (Cond.code ({ cls := "BranchStore", name := "letter", desc := "(I)I" } : Jvm.MethodName) prog_1_method_8_code (2 : Nat) (Option.some FieldType.int)) ∈ lw_ok := z_ok (z_t3 (List.mem_of_getElem? (i := 35) rfl)) rfl
theorem k_516 : (Cond.classLink "BranchStore" (74 : Nat) "java/lang/IllegalArgumentException") ∈ lw_ok := z_ok (z_t3 (List.mem_of_getElem? (i := 36) rfl)) rfl
theorem k_517 : (Cond.instantiable "java/lang/IllegalArgumentException" (6 : Nat)) ∈ lw_ok := z_ok (z_t3 (List.mem_of_getElem? (i := 37) rfl)) rfl
theorem k_518 : (Cond.castable "java/lang/IllegalArgumentException" "java/lang/IllegalArgumentException") ∈ lw_tbl := z_t3 (List.mem_of_getElem? (i := 38) rfl)
theorem k_519 : (Cond.selects "java/lang/IllegalArgumentException" ({ cls := "java/lang/Throwable", name := "fillInStackTrace", desc := "(I)Ljava/lang/Throwable;" } : Jvm.MethodName) ({ cls := "java/lang/Throwable", name := "fillInStackTrace", desc := "(I)Ljava/lang/Throwable;" } : Jvm.MethodName)) ∈ lw_ok := z_ok (z_t3 (List.mem_of_getElem? (i := 39) rfl)) rfl
theorem k_520 : (Cond.lays "java/lang/IllegalArgumentException" "java/lang/Throwable" "cause" "Ljava/lang/Throwable;") ∈ lw_ok := z_ok (z_t3 (List.mem_of_getElem? (i := 40) rfl)) rfl
theorem k_521 : (Cond.lays "java/lang/IllegalArgumentException" "java/lang/Throwable" "stackTrace" "[Ljava/lang/StackTraceElement;") ∈ lw_ok := z_ok (z_t3 (List.mem_of_getElem? (i := 41) rfl)) rfl
theorem k_522 : (Cond.lays "java/lang/IllegalArgumentException" "java/lang/Throwable" "suppressedExceptions" "Ljava/util/List;") ∈ lw_ok := z_ok (z_t3 (List.mem_of_getElem? (i := 42) rfl)) rfl
theorem k_523 : (Cond.lays "java/lang/IllegalArgumentException" "java/lang/Throwable" "detailMessage" "Ljava/lang/String;") ∈ lw_ok := z_ok (z_t3 (List.mem_of_getElem? (i := 43) rfl)) rfl
theorem k_524 : (Cond.lays "java/lang/IllegalArgumentException" "java/lang/Throwable" "backtrace" "Ljava/lang/Object;") ∈ lw_ok := z_ok (z_t3 (List.mem_of_getElem? (i := 44) rfl)) rfl
theorem k_525 : (Cond.methodLink "BranchStore" (76 : Nat) ({ cls := "java/lang/IllegalArgumentException", name := "<init>", desc := "()V" } : Jvm.MethodName)) ∈ lw_ok := z_ok (z_t3 (List.mem_of_getElem? (i := 45) rfl)) rfl
theorem k_526 : (Cond.instanceMethod ({ cls := "java/lang/IllegalArgumentException", name := "<init>", desc := "()V" } : Jvm.MethodName)) ∈ lw_ok := z_ok (z_t3 (List.mem_of_getElem? (i := 46) rfl)) rfl
theorem k_527 : (Cond.code ({ cls := "java/lang/IllegalArgumentException", name := "<init>", desc := "()V" } : Jvm.MethodName) prog_12_method_1_code (1 : Nat) (Option.none : Option FieldType)) ∈ lw_ok := z_ok (z_t3 (List.mem_of_getElem? (i := 47) rfl)) rfl
theorem k_528 : (Cond.methodLink "java/lang/IllegalArgumentException" (1 : Nat) ({ cls := "java/lang/RuntimeException", name := "<init>", desc := "()V" } : Jvm.MethodName)) ∈ lw_ok := z_ok (z_t3 (List.mem_of_getElem? (i := 48) rfl)) rfl
theorem k_529 : (Cond.lays "java/lang/IllegalArgumentException" "java/lang/Throwable" "depth" "I") ∈ lw_ok := z_ok (z_t3 (List.mem_of_getElem? (i := 49) rfl)) rfl
theorem k_530 : (Cond.superclass "java/lang/IllegalArgumentException" "java/lang/RuntimeException") ∈ lw_ok := z_ok (z_t3 (List.mem_of_getElem? (i := 50) rfl)) rfl
theorem k_531 : (Cond.classLink "BranchStore" (80 : Nat) "java/lang/UnsupportedOperationException") ∈ lw_ok := z_ok (z_t3 (List.mem_of_getElem? (i := 51) rfl)) rfl
theorem k_532 : (Cond.instantiable "java/lang/UnsupportedOperationException" (6 : Nat)) ∈ lw_ok := z_ok (z_t3 (List.mem_of_getElem? (i := 52) rfl)) rfl
theorem k_533 : (Cond.castable "java/lang/UnsupportedOperationException" "java/lang/UnsupportedOperationException") ∈ lw_tbl := z_t3 (List.mem_of_getElem? (i := 53) rfl)
theorem k_534 : (Cond.selects "java/lang/UnsupportedOperationException" ({ cls := "java/lang/Throwable", name := "fillInStackTrace", desc := "(I)Ljava/lang/Throwable;" } : Jvm.MethodName) ({ cls := "java/lang/Throwable", name := "fillInStackTrace", desc := "(I)Ljava/lang/Throwable;" } : Jvm.MethodName)) ∈ lw_ok := z_ok (z_t3 (List.mem_of_getElem? (i := 54) rfl)) rfl
theorem k_535 : (Cond.lays "java/lang/UnsupportedOperationException" "java/lang/Throwable" "cause" "Ljava/lang/Throwable;") ∈ lw_ok := z_ok (z_t3 (List.mem_of_getElem? (i := 55) rfl)) rfl
theorem k_536 : (Cond.lays "java/lang/UnsupportedOperationException" "java/lang/Throwable" "stackTrace" "[Ljava/lang/StackTraceElement;") ∈ lw_ok := z_ok (z_t3 (List.mem_of_getElem? (i := 56) rfl)) rfl
theorem k_537 : (Cond.lays "java/lang/UnsupportedOperationException" "java/lang/Throwable" "suppressedExceptions" "Ljava/util/List;") ∈ lw_ok := z_ok (z_t3 (List.mem_of_getElem? (i := 57) rfl)) rfl
theorem k_538 : (Cond.lays "java/lang/UnsupportedOperationException" "java/lang/Throwable" "detailMessage" "Ljava/lang/String;") ∈ lw_ok := z_ok (z_t3 (List.mem_of_getElem? (i := 58) rfl)) rfl
theorem k_539 : (Cond.lays "java/lang/UnsupportedOperationException" "java/lang/Throwable" "backtrace" "Ljava/lang/Object;") ∈ lw_ok := z_ok (z_t3 (List.mem_of_getElem? (i := 59) rfl)) rfl
theorem k_540 : (Cond.methodLink "BranchStore" (82 : Nat) ({ cls := "java/lang/UnsupportedOperationException", name := "<init>", desc := "()V" } : Jvm.MethodName)) ∈ lw_ok := z_ok (z_t3 (List.mem_of_getElem? (i := 60) rfl)) rfl
theorem k_541 : (Cond.instanceMethod ({ cls := "java/lang/UnsupportedOperationException", name := "<init>", desc := "()V" } : Jvm.MethodName)) ∈ lw_ok := z_ok (z_t3 (List.mem_of_getElem? (i := 61) rfl)) rfl
theorem k_542 : (Cond.code ({ cls := "java/lang/UnsupportedOperationException", name := "<init>", desc := "()V" } : Jvm.MethodName) prog_20_method_1_code (1 : Nat) (Option.none : Option FieldType)) ∈ lw_ok := z_ok (z_t3 (List.mem_of_getElem? (i := 62) rfl)) rfl
theorem k_543 : (Cond.methodLink "java/lang/UnsupportedOperationException" (1 : Nat) ({ cls := "java/lang/RuntimeException", name := "<init>", desc := "()V" } : Jvm.MethodName)) ∈ lw_ok := z_ok (z_t3 (List.mem_of_getElem? (i := 63) rfl)) rfl
theorem k_544 : (Cond.lays "java/lang/UnsupportedOperationException" "java/lang/Throwable" "depth" "I") ∈ lw_ok := z_ok (z_t3 (List.mem_of_getElem? (i := 64) rfl)) rfl
theorem k_545 : (Cond.superclass "java/lang/UnsupportedOperationException" "java/lang/RuntimeException") ∈ lw_ok := z_ok (z_t3 (List.mem_of_getElem? (i := 65) rfl)) rfl
theorem k_546 : (Cond.methodLink "BranchStore" (83 : Nat) ({ cls := "BranchStore$Key", name := "letter", desc := "(I)V" } : Jvm.MethodName)) ∈ lw_ok := z_ok (z_t3 (List.mem_of_getElem? (i := 66) rfl)) rfl
theorem k_547 : (Cond.instanceMethod ({ cls := "BranchStore$Key", name := "letter", desc := "(I)V" } : Jvm.MethodName)) ∈ lw_ok := z_ok (z_t3 (List.mem_of_getElem? (i := 67) rfl)) rfl
theorem k_548 : (Cond.selects "BranchStore$Key" ({ cls := "BranchStore$Key", name := "letter", desc := "(I)V" } : Jvm.MethodName) ({ cls := "BranchStore$Key", name := "letter", desc := "(I)V" } : Jvm.MethodName)) ∈ lw_ok := z_ok (z_t3 (List.mem_of_getElem? (i := 68) rfl)) rfl
theorem k_549 : (Cond.code ({ cls := "BranchStore$Key", name := "letter", desc := "(I)V" } : Jvm.MethodName) prog_4_method_7_code (2 : Nat) (Option.none : Option FieldType)) ∈ lw_ok := z_ok (z_t3 (List.mem_of_getElem? (i := 69) rfl)) rfl
theorem k_550 : (Cond.methodLink "BranchStoreLaw" (114 : Nat) ({ cls := "BranchStoreLaw", name := "take", desc := "(LBranchStore;)I" } : Jvm.MethodName)) ∈ lw_ok := z_ok (z_t3 (List.mem_of_getElem? (i := 70) rfl)) rfl
theorem k_551 : (Cond.static ({ cls := "BranchStoreLaw", name := "take", desc := "(LBranchStore;)I" } : Jvm.MethodName)) ∈ lw_ok := z_ok (z_t3 (List.mem_of_getElem? (i := 71) rfl)) rfl
theorem k_552 : (Cond.codeWith ({ cls := "BranchStoreLaw", name := "take", desc := "(LBranchStore;)I" } : Jvm.MethodName) method_6_code (2 : Nat) (Option.some FieldType.int) [((0 : Nat), (4 : Nat), (7 : Nat), (30 : Nat))]) ∈ lw_ok := z_ok (z_t3 (List.mem_of_getElem? (i := 72) rfl)) rfl
theorem k_553 : (Cond.classLink "BranchStoreLaw" (30 : Nat) "java/util/NoSuchElementException") ∈ lw_ok := z_ok (z_t3 (List.mem_of_getElem? (i := 73) rfl)) rfl
theorem k_554 : (Cond.methodLink "BranchStoreLaw" (27 : Nat) ({ cls := "BranchStore", name := "take", desc := "()V" } : Jvm.MethodName)) ∈ lw_ok := z_ok (z_t3 (List.mem_of_getElem? (i := 74) rfl)) rfl
theorem k_555 : (Cond.instanceMethod ({ cls := "BranchStore", name := "take", desc := "()V" } : Jvm.MethodName)) ∈ lw_ok := z_ok (z_t3 (List.mem_of_getElem? (i := 75) rfl)) rfl
theorem k_556 : (Cond.selects "BranchStore" ({ cls := "BranchStore", name := "take", desc := "()V" } : Jvm.MethodName) ({ cls := "BranchStore", name := "take", desc := "()V" } : Jvm.MethodName)) ∈ lw_ok := z_ok (z_t3 (List.mem_of_getElem? (i := 76) rfl)) rfl
theorem k_557 : (Cond.code ({ cls := "BranchStore", name := "take", desc := "()V" } : Jvm.MethodName) prog_1_method_11_code (1 : Nat) (Option.none : Option FieldType)) ∈ lw_ok := z_ok (z_t3 (List.mem_of_getElem? (i := 77) rfl)) rfl
theorem k_558 : (Cond.classLink "BranchStore" (13 : Nat) "java/util/NoSuchElementException") ∈ lw_ok := z_ok (z_t3 (List.mem_of_getElem? (i := 78) rfl)) rfl
theorem k_559 : (Cond.instantiable "java/util/NoSuchElementException" (6 : Nat)) ∈ lw_ok := z_ok (z_t3 (List.mem_of_getElem? (i := 79) rfl)) rfl
theorem k_560 : (Cond.castable "java/util/NoSuchElementException" "java/util/NoSuchElementException") ∈ lw_tbl := z_t3 (List.mem_of_getElem? (i := 80) rfl)
theorem k_561 : (Cond.selects "java/util/NoSuchElementException" ({ cls := "java/lang/Throwable", name := "fillInStackTrace", desc := "(I)Ljava/lang/Throwable;" } : Jvm.MethodName) ({ cls := "java/lang/Throwable", name := "fillInStackTrace", desc := "(I)Ljava/lang/Throwable;" } : Jvm.MethodName)) ∈ lw_ok := z_ok (z_t3 (List.mem_of_getElem? (i := 81) rfl)) rfl
theorem k_562 : (Cond.lays "java/util/NoSuchElementException" "java/lang/Throwable" "cause" "Ljava/lang/Throwable;") ∈ lw_ok := z_ok (z_t3 (List.mem_of_getElem? (i := 82) rfl)) rfl
theorem k_563 : (Cond.lays "java/util/NoSuchElementException" "java/lang/Throwable" "stackTrace" "[Ljava/lang/StackTraceElement;") ∈ lw_ok := z_ok (z_t3 (List.mem_of_getElem? (i := 83) rfl)) rfl
theorem k_564 : (Cond.lays "java/util/NoSuchElementException" "java/lang/Throwable" "suppressedExceptions" "Ljava/util/List;") ∈ lw_ok := z_ok (z_t3 (List.mem_of_getElem? (i := 84) rfl)) rfl
theorem k_565 : (Cond.lays "java/util/NoSuchElementException" "java/lang/Throwable" "detailMessage" "Ljava/lang/String;") ∈ lw_ok := z_ok (z_t3 (List.mem_of_getElem? (i := 85) rfl)) rfl
theorem k_566 : (Cond.lays "java/util/NoSuchElementException" "java/lang/Throwable" "backtrace" "Ljava/lang/Object;") ∈ lw_ok := z_ok (z_t3 (List.mem_of_getElem? (i := 86) rfl)) rfl
theorem k_567 : (Cond.methodLink "BranchStore" (15 : Nat) ({ cls := "java/util/NoSuchElementException", name := "<init>", desc := "()V" } : Jvm.MethodName)) ∈ lw_ok := z_ok (z_t3 (List.mem_of_getElem? (i := 87) rfl)) rfl
theorem k_568 : (Cond.instanceMethod ({ cls := "java/util/NoSuchElementException", name := "<init>", desc := "()V" } : Jvm.MethodName)) ∈ lw_ok := z_ok (z_t3 (List.mem_of_getElem? (i := 88) rfl)) rfl
theorem k_569 : (Cond.code ({ cls := "java/util/NoSuchElementException", name := "<init>", desc := "()V" } : Jvm.MethodName) prog_22_method_1_code (1 : Nat) (Option.none : Option FieldType)) ∈ lw_ok := z_ok (z_t3 (List.mem_of_getElem? (i := 89) rfl)) rfl
theorem k_570 : (Cond.methodLink "java/util/NoSuchElementException" (1 : Nat) ({ cls := "java/lang/RuntimeException", name := "<init>", desc := "()V" } : Jvm.MethodName)) ∈ lw_ok := z_ok (z_t3 (List.mem_of_getElem? (i := 90) rfl)) rfl
theorem k_571 : (Cond.lays "java/util/NoSuchElementException" "java/lang/Throwable" "depth" "I") ∈ lw_ok := z_ok (z_t3 (List.mem_of_getElem? (i := 91) rfl)) rfl
theorem k_572 : (Cond.superclass "java/util/NoSuchElementException" "java/lang/RuntimeException") ∈ lw_ok := z_ok (z_t3 (List.mem_of_getElem? (i := 92) rfl)) rfl
theorem k_573 : (Cond.methodLink "BranchStoreLaw" (118 : Nat) ({ cls := "BranchStoreLaw", name := "put", desc := "(LBranchStore;J[J)I" } : Jvm.MethodName)) ∈ lw_ok := z_ok (z_t3 (List.mem_of_getElem? (i := 93) rfl)) rfl
theorem k_574 : (Cond.static ({ cls := "BranchStoreLaw", name := "put", desc := "(LBranchStore;J[J)I" } : Jvm.MethodName)) ∈ lw_ok := z_ok (z_t3 (List.mem_of_getElem? (i := 94) rfl)) rfl
theorem k_575 : (Cond.codeWith ({ cls := "BranchStoreLaw", name := "put", desc := "(LBranchStore;J[J)I" } : Jvm.MethodName) method_7_code (5 : Nat) (Option.some FieldType.int) [((0 : Nat), (16 : Nat), (19 : Nat), (25 : Nat))]) ∈ lw_ok := z_ok (z_t3 (List.mem_of_getElem? (i := 95) rfl)) rfl
theorem k_576 : (Cond.methodLink "BranchStoreLaw" (32 : Nat) ({ cls := "BranchStore", name := "put", desc := "(J)Z" } : Jvm.MethodName)) ∈ lw_ok := z_ok (z_t3 (List.mem_of_getElem? (i := 96) rfl)) rfl
theorem k_577 : (Cond.instanceMethod ({ cls := "BranchStore", name := "put", desc := "(J)Z" } : Jvm.MethodName)) ∈ lw_ok := z_ok (z_t3 (List.mem_of_getElem? (i := 97) rfl)) rfl
theorem k_578 : (Cond.selects "BranchStore" ({ cls := "BranchStore", name := "put", desc := "(J)Z" } : Jvm.MethodName) ({ cls := "BranchStore", name := "put", desc := "(J)Z" } : Jvm.MethodName)) ∈ lw_ok := z_ok (z_t3 (List.mem_of_getElem? (i := 98) rfl)) rfl
theorem k_579 : (Cond.code ({ cls := "BranchStore", name := "put", desc := "(J)Z" } : Jvm.MethodName) prog_1_method_12_code (4 : Nat) (Option.some FieldType.boolean)) ∈ lw_ok := z_ok (z_t3 (List.mem_of_getElem? (i := 99) rfl)) rfl
theorem k_580 : (Cond.methodLink "BranchStore" (93 : Nat) ({ cls := "BranchStore$Tree", name := "setValue", desc := "(IJ)V" } : Jvm.MethodName)) ∈ lw_ok := z_ok (z_t3 (List.mem_of_getElem? (i := 100) rfl)) rfl
theorem k_581 : (Cond.instanceMethod ({ cls := "BranchStore$Tree", name := "setValue", desc := "(IJ)V" } : Jvm.MethodName)) ∈ lw_ok := z_ok (z_t3 (List.mem_of_getElem? (i := 101) rfl)) rfl
theorem k_582 : (Cond.selects "BranchStore$Tree" ({ cls := "BranchStore$Tree", name := "setValue", desc := "(IJ)V" } : Jvm.MethodName) ({ cls := "BranchStore$Tree", name := "setValue", desc := "(IJ)V" } : Jvm.MethodName)) ∈ lw_ok := z_ok (z_t3 (List.mem_of_getElem? (i := 102) rfl)) rfl
theorem k_583 : (Cond.code ({ cls := "BranchStore$Tree", name := "setValue", desc := "(IJ)V" } : Jvm.MethodName) prog_7_method_10_code (4 : Nat) (Option.none : Option FieldType)) ∈ lw_ok := z_ok (z_t3 (List.mem_of_getElem? (i := 103) rfl)) rfl
theorem k_584 : (Cond.methodLink "BranchStore" (97 : Nat) ({ cls := "BranchStore$Tree", name := "add", desc := "(LBranchStore$Key;J)V" } : Jvm.MethodName)) ∈ lw_ok := z_ok (z_t3 (List.mem_of_getElem? (i := 104) rfl)) rfl
theorem k_585 : (Cond.instanceMethod ({ cls := "BranchStore$Tree", name := "add", desc := "(LBranchStore$Key;J)V" } : Jvm.MethodName)) ∈ lw_ok := z_ok (z_t3 (List.mem_of_getElem? (i := 105) rfl)) rfl
theorem k_586 : (Cond.selects "BranchStore$Tree" ({ cls := "BranchStore$Tree", name := "add", desc := "(LBranchStore$Key;J)V" } : Jvm.MethodName) ({ cls := "BranchStore$Tree", name := "add", desc := "(LBranchStore$Key;J)V" } : Jvm.MethodName)) ∈ lw_ok := z_ok (z_t3 (List.mem_of_getElem? (i := 106) rfl)) rfl
theorem k_587 : (Cond.code ({ cls := "BranchStore$Tree", name := "add", desc := "(LBranchStore$Key;J)V" } : Jvm.MethodName) prog_7_method_26_code (15 : Nat) (Option.none : Option FieldType)) ∈ lw_ok := z_ok (z_t3 (List.mem_of_getElem? (i := 107) rfl)) rfl
theorem k_588 : (Cond.methodLink "BranchStore$Tree" (151 : Nat) ({ cls := "BranchStore$Tree", name := "leaf", desc := "(LBranchStore$Key;JZ)I" } : Jvm.MethodName)) ∈ lw_ok := z_ok (z_t3 (List.mem_of_getElem? (i := 108) rfl)) rfl
theorem k_589 : (Cond.privateMethod ({ cls := "BranchStore$Tree", name := "leaf", desc := "(LBranchStore$Key;JZ)I" } : Jvm.MethodName)) ∈ lw_tbl := z_t3 (List.mem_of_getElem? (i := 109) rfl)
theorem k_590 : (Cond.instanceMethod ({ cls := "BranchStore$Tree", name := "leaf", desc := "(LBranchStore$Key;JZ)I" } : Jvm.MethodName)) ∈ lw_ok := z_ok (z_t3 (List.mem_of_getElem? (i := 110) rfl)) rfl
theorem k_591 : (Cond.code ({ cls := "BranchStore$Tree", name := "leaf", desc := "(LBranchStore$Key;JZ)I" } : Jvm.MethodName) prog_7_method_9_code (7 : Nat) (Option.some FieldType.int)) ∈ lw_ok := z_ok (z_t3 (List.mem_of_getElem? (i := 111) rfl)) rfl
theorem k_592 : (Cond.methodLink "BranchStore$Tree" (95 : Nat) ({ cls := "BranchStore$Tree", name := "setValue", desc := "(IJ)V" } : Jvm.MethodName)) ∈ lw_ok := z_ok (z_t3 (List.mem_of_getElem? (i := 112) rfl)) rfl
theorem k_593 : (Cond.methodLink "BranchStoreLaw" (122 : Nat) ({ cls := "BranchStoreLaw", name := "get", desc := "(LBranchStore;[J)I" } : Jvm.MethodName)) ∈ lw_ok := z_ok (z_t3 (List.mem_of_getElem? (i := 113) rfl)) rfl
theorem k_594 : (Cond.static ({ cls := "BranchStoreLaw", name := "get", desc := "(LBranchStore;[J)I" } : Jvm.MethodName)) ∈ lw_ok := z_ok (z_t3 (List.mem_of_getElem? (i := 114) rfl)) rfl
theorem k_595 : (Cond.codeWith ({ cls := "BranchStoreLaw", name := "get", desc := "(LBranchStore;[J)I" } : Jvm.MethodName) method_8_code (3 : Nat) (Option.some FieldType.int) [((0 : Nat), (7 : Nat), (10 : Nat), (30 : Nat))]) ∈ lw_ok := z_ok (z_t3 (List.mem_of_getElem? (i := 115) rfl)) rfl
theorem k_596 : (Cond.methodLink "BranchStoreLaw" (36 : Nat) ({ cls := "BranchStore", name := "get", desc := "()J" } : Jvm.MethodName)) ∈ lw_ok := z_ok (z_t3 (List.mem_of_getElem? (i := 116) rfl)) rfl
theorem k_597 : (Cond.instanceMethod ({ cls := "BranchStore", name := "get", desc := "()J" } : Jvm.MethodName)) ∈ lw_ok := z_ok (z_t3 (List.mem_of_getElem? (i := 117) rfl)) rfl
theorem k_598 : (Cond.selects "BranchStore" ({ cls := "BranchStore", name := "get", desc := "()J" } : Jvm.MethodName) ({ cls := "BranchStore", name := "get", desc := "()J" } : Jvm.MethodName)) ∈ lw_ok := z_ok (z_t3 (List.mem_of_getElem? (i := 118) rfl)) rfl
theorem k_599 : (Cond.code ({ cls := "BranchStore", name := "get", desc := "()J" } : Jvm.MethodName) prog_1_method_13_code (1 : Nat) (Option.some FieldType.long)) ∈ lw_ok := z_ok (z_t3 (List.mem_of_getElem? (i := 119) rfl)) rfl
theorem k_600 : (Cond.methodLink "BranchStore" (101 : Nat) ({ cls := "BranchStore", name := "found", desc := "(LBranchStore$Key;)I" } : Jvm.MethodName)) ∈ lw_ok := z_ok (z_t3 (List.mem_of_getElem? (i := 120) rfl)) rfl
theorem k_601 : (Cond.privateMethod ({ cls := "BranchStore", name := "found", desc := "(LBranchStore$Key;)I" } : Jvm.MethodName)) ∈ lw_tbl := z_t3 (List.mem_of_getElem? (i := 121) rfl)
theorem k_602 : (Cond.instanceMethod ({ cls := "BranchStore", name := "found", desc := "(LBranchStore$Key;)I" } : Jvm.MethodName)) ∈ lw_ok := z_ok (z_t3 (List.mem_of_getElem? (i := 122) rfl)) rfl
theorem k_603 : (Cond.code ({ cls := "BranchStore", name := "found", desc := "(LBranchStore$Key;)I" } : Jvm.MethodName) prog_1_method_1_code (3 : Nat) (Option.some FieldType.int)) ∈ lw_ok := z_ok (z_t3 (List.mem_of_getElem? (i := 123) rfl)) rfl
theorem k_604 : (Cond.methodLink "BranchStore" (104 : Nat) ({ cls := "BranchStore$Tree", name := "value", desc := "(I)J" } : Jvm.MethodName)) ∈ lw_ok := z_ok (z_t3 (List.mem_of_getElem? (i := 124) rfl)) rfl
theorem k_605 : (Cond.instanceMethod ({ cls := "BranchStore$Tree", name := "value", desc := "(I)J" } : Jvm.MethodName)) ∈ lw_ok := z_ok (z_t3 (List.mem_of_getElem? (i := 125) rfl)) rfl
theorem k_606 : (Cond.selects "BranchStore$Tree" ({ cls := "BranchStore$Tree", name := "value", desc := "(I)J" } : Jvm.MethodName) ({ cls := "BranchStore$Tree", name := "value", desc := "(I)J" } : Jvm.MethodName)) ∈ lw_ok := z_ok (z_t3 (List.mem_of_getElem? (i := 126) rfl)) rfl
theorem k_607 : (Cond.code ({ cls := "BranchStore$Tree", name := "value", desc := "(I)J" } : Jvm.MethodName) prog_7_method_11_code (2 : Nat) (Option.some FieldType.long)) ∈ lw_ok := z_ok (z_t3 (List.mem_of_getElem? (i := 127) rfl)) rfl
theorem k_608 : (Cond.constantLong "BranchStore$Tree" (99 : Nat) (4294967295 : Int64)) ∈ lw_ok := z_ok (z_t3 (List.mem_of_getElem? (i := 128) rfl)) rfl
theorem k_609 : (Cond.methodLink "BranchStoreLaw" (126 : Nat) ({ cls := "BranchStoreLaw", name := "remove", desc := "(LBranchStore;[J)I" } : Jvm.MethodName)) ∈ lw_ok := z_ok (z_t3 (List.mem_of_getElem? (i := 129) rfl)) rfl
theorem k_610 : (Cond.static ({ cls := "BranchStoreLaw", name := "remove", desc := "(LBranchStore;[J)I" } : Jvm.MethodName)) ∈ lw_ok := z_ok (z_t3 (List.mem_of_getElem? (i := 130) rfl)) rfl
theorem k_611 : (Cond.codeWith ({ cls := "BranchStoreLaw", name := "remove", desc := "(LBranchStore;[J)I" } : Jvm.MethodName) method_9_code (3 : Nat) (Option.some FieldType.int) [((0 : Nat), (7 : Nat), (10 : Nat), (30 : Nat))]) ∈ lw_ok := z_ok (z_t3 (List.mem_of_getElem? (i := 131) rfl)) rfl
theorem k_612 : (Cond.methodLink "BranchStoreLaw" (40 : Nat) ({ cls := "BranchStore", name := "remove", desc := "()J" } : Jvm.MethodName)) ∈ lw_ok := z_ok (z_t3 (List.mem_of_getElem? (i := 132) rfl)) rfl
theorem k_613 : (Cond.instanceMethod ({ cls := "BranchStore", name := "remove", desc := "()J" } : Jvm.MethodName)) ∈ lw_ok := z_ok (z_t3 (List.mem_of_getElem? (i := 133) rfl)) rfl
theorem k_614 : (Cond.selects "BranchStore" ({ cls := "BranchStore", name := "remove", desc := "()J" } : Jvm.MethodName) ({ cls := "BranchStore", name := "remove", desc := "()J" } : Jvm.MethodName)) ∈ lw_ok := z_ok (z_t3 (List.mem_of_getElem? (i := 134) rfl)) rfl
theorem k_615 : (Cond.code ({ cls := "BranchStore", name := "remove", desc := "()J" } : Jvm.MethodName) prog_1_method_14_code (3 : Nat) (Option.some FieldType.long)) ∈ lw_ok := z_ok (z_t3 (List.mem_of_getElem? (i := 135) rfl)) rfl
theorem k_616 : (Cond.methodLink "BranchStoreLaw" (129 : Nat) ({ cls := "BranchStoreLaw", name := "seek", desc := "(LBranchStore;I[J)I" } : Jvm.MethodName)) ∈ lw_ok := z_ok (z_t3 (List.mem_of_getElem? (i := 136) rfl)) rfl
theorem k_617 : (Cond.static ({ cls := "BranchStoreLaw", name := "seek", desc := "(LBranchStore;I[J)I" } : Jvm.MethodName)) ∈ lw_ok := z_ok (z_t3 (List.mem_of_getElem? (i := 137) rfl)) rfl
theorem k_618 : (Cond.codeWith ({ cls := "BranchStoreLaw", name := "seek", desc := "(LBranchStore;I[J)I" } : Jvm.MethodName) method_10_code (4 : Nat) (Option.some FieldType.int) [((0 : Nat), (16 : Nat), (19 : Nat), (23 : Nat))]) ∈ lw_ok := z_ok (z_t3 (List.mem_of_getElem? (i := 138) rfl)) rfl
theorem k_619 : (Cond.methodLink "BranchStoreLaw" (43 : Nat) ({ cls := "BranchStore", name := "seek", desc := "(I)Z" } : Jvm.MethodName)) ∈ lw_ok := z_ok (z_t3 (List.mem_of_getElem? (i := 139) rfl)) rfl
theorem k_620 : (Cond.instanceMethod ({ cls := "BranchStore", name := "seek", desc := "(I)Z" } : Jvm.MethodName)) ∈ lw_ok := z_ok (z_t3 (List.mem_of_getElem? (i := 140) rfl)) rfl
theorem k_621 : (Cond.selects "BranchStore" ({ cls := "BranchStore", name := "seek", desc := "(I)Z" } : Jvm.MethodName) ({ cls := "BranchStore", name := "seek", desc := "(I)Z" } : Jvm.MethodName)) ∈ lw_ok := z_ok (z_t3 (List.mem_of_getElem? (i := 141) rfl)) rfl
theorem k_622 : (Cond.code ({ cls := "BranchStore", name := "seek", desc := "(I)Z" } : Jvm.MethodName) prog_1_method_15_code (4 : Nat) (Option.some FieldType.boolean)) ∈ lw_ok := z_ok (z_t3 (List.mem_of_getElem? (i := 142) rfl)) rfl
theorem k_623 : (Cond.methodLink "BranchStore" (111 : Nat) ({ cls := "BranchStore", name := "comes", desc := "(I)Z" } : Jvm.MethodName)) ∈ lw_ok := z_ok (z_t3 (List.mem_of_getElem? (i := 143) rfl)) rfl
theorem k_624 : (Cond.privateMethod ({ cls := "BranchStore", name := "comes", desc := "(I)Z" } : Jvm.MethodName)) ∈ lw_tbl := z_t3 (List.mem_of_getElem? (i := 144) rfl)
theorem k_625 : (Cond.instanceMethod ({ cls := "BranchStore", name := "comes", desc := "(I)Z" } : Jvm.MethodName)) ∈ lw_ok := z_ok (z_t3 (List.mem_of_getElem? (i := 145) rfl)) rfl
theorem k_626 : (Cond.code ({ cls := "BranchStore", name := "comes", desc := "(I)Z" } : Jvm.MethodName) prog_1_method_3_code (2 : Nat) (Option.some FieldType.boolean)) ∈ lw_ok := z_ok (z_t3 (List.mem_of_getElem? (i := 146) rfl)) rfl
theorem k_627 : (Cond.methodLink "BranchStoreLaw" (132 : Nat) ({ cls := "BranchStoreLaw", name := "move", desc := "(LBranchStore;Z[J)I" } : Jvm.MethodName)) ∈ lw_ok := z_ok (z_t3 (List.mem_of_getElem? (i := 147) rfl)) rfl
theorem k_628 : (Cond.static ({ cls := "BranchStoreLaw", name := "move", desc := "(LBranchStore;Z[J)I" } : Jvm.MethodName)) ∈ lw_ok := z_ok (z_t3 (List.mem_of_getElem? (i := 148) rfl)) rfl
theorem k_629 : (Cond.codeWith ({ cls := "BranchStoreLaw", name := "move", desc := "(LBranchStore;Z[J)I" } : Jvm.MethodName) method_11_code (4 : Nat) (Option.some FieldType.int) [((0 : Nat), (16 : Nat), (19 : Nat), (30 : Nat))]) ∈ lw_ok := z_ok (z_t3 (List.mem_of_getElem? (i := 149) rfl)) rfl
theorem k_630 : (Cond.methodLink "BranchStoreLaw" (47 : Nat) ({ cls := "BranchStore", name := "move", desc := "(Z)Z" } : Jvm.MethodName)) ∈ lw_ok := z_ok (z_t3 (List.mem_of_getElem? (i := 150) rfl)) rfl
theorem k_631 : (Cond.instanceMethod ({ cls := "BranchStore", name := "move", desc := "(Z)Z" } : Jvm.MethodName)) ∈ lw_ok := z_ok (z_t3 (List.mem_of_getElem? (i := 151) rfl)) rfl
theorem k_632 : (Cond.selects "BranchStore" ({ cls := "BranchStore", name := "move", desc := "(Z)Z" } : Jvm.MethodName) ({ cls := "BranchStore", name := "move", desc := "(Z)Z" } : Jvm.MethodName)) ∈ lw_ok := z_ok (z_t3 (List.mem_of_getElem? (i := 152) rfl)) rfl
theorem k_633 : (Cond.code ({ cls := "BranchStore", name := "move", desc := "(Z)Z" } : Jvm.MethodName) prog_1_method_16_code (3 : Nat) (Option.some FieldType.boolean)) ∈ lw_ok := z_ok (z_t3 (List.mem_of_getElem? (i := 153) rfl)) rfl
theorem k_634 : (Cond.methodLink "BranchStore" (115 : Nat) ({ cls := "BranchStore", name := "known", desc := "()LBranchStore$Key;" } : Jvm.MethodName)) ∈ lw_ok := z_ok (z_t3 (List.mem_of_getElem? (i := 154) rfl)) rfl
theorem k_635 : (Cond.privateMethod ({ cls := "BranchStore", name := "known", desc := "()LBranchStore$Key;" } : Jvm.MethodName)) ∈ lw_tbl := z_t3 (List.mem_of_getElem? (i := 155) rfl)
theorem k_636 : (Cond.instanceMethod ({ cls := "BranchStore", name := "known", desc := "()LBranchStore$Key;" } : Jvm.MethodName)) ∈ lw_ok := z_ok (z_t3 (List.mem_of_getElem? (i := 156) rfl)) rfl
theorem k_637 : (Cond.code ({ cls := "BranchStore", name := "known", desc := "()LBranchStore$Key;" } : Jvm.MethodName) prog_1_method_2_code (1 : Nat) (Option.some (FieldType.object "BranchStore$Key"))) ∈ lw_ok := z_ok (z_t3 (List.mem_of_getElem? (i := 157) rfl)) rfl
theorem k_638 : (Cond.methodLink "BranchStoreLaw" (141 : Nat) ({ cls := "BranchStoreLaw", name := "length", desc := "(LBranchStore;[J)I" } : Jvm.MethodName)) ∈ lw_ok := z_ok (z_t3 (List.mem_of_getElem? (i := 158) rfl)) rfl
theorem k_639 : (Cond.static ({ cls := "BranchStoreLaw", name := "length", desc := "(LBranchStore;[J)I" } : Jvm.MethodName)) ∈ lw_ok := z_ok (z_t3 (List.mem_of_getElem? (i := 159) rfl)) rfl
theorem k_640 : (Cond.codeWith ({ cls := "BranchStoreLaw", name := "length", desc := "(LBranchStore;[J)I" } : Jvm.MethodName) method_12_code (3 : Nat) (Option.some FieldType.int) [((0 : Nat), (8 : Nat), (11 : Nat), (30 : Nat))]) ∈ lw_ok := z_ok (z_t3 (List.mem_of_getElem? (i := 160) rfl)) rfl
theorem k_641 : (Cond.methodLink "BranchStoreLaw" (51 : Nat) ({ cls := "BranchStore", name := "length", desc := "()I" } : Jvm.MethodName)) ∈ lw_ok := z_ok (z_t3 (List.mem_of_getElem? (i := 161) rfl)) rfl
theorem k_642 : (Cond.instanceMethod ({ cls := "BranchStore", name := "length", desc := "()I" } : Jvm.MethodName)) ∈ lw_ok := z_ok (z_t3 (List.mem_of_getElem? (i := 162) rfl)) rfl
theorem k_643 : (Cond.selects "BranchStore" ({ cls := "BranchStore", name := "length", desc := "()I" } : Jvm.MethodName) ({ cls := "BranchStore", name := "length", desc := "()I" } : Jvm.MethodName)) ∈ lw_ok := z_ok (z_t3 (List.mem_of_getElem? (i := 163) rfl)) rfl
theorem k_644 : (Cond.code ({ cls := "BranchStore", name := "length", desc := "()I" } : Jvm.MethodName) prog_1_method_18_code (2 : Nat) (Option.some FieldType.int)) ∈ lw_ok := z_ok (z_t3 (List.mem_of_getElem? (i := 164) rfl)) rfl
theorem k_645 : (Cond.methodLink "BranchStoreLaw" (144 : Nat) ({ cls := "BranchStoreLaw", name := "part", desc := "(LBranchStore;I[J)I" } : Jvm.MethodName)) ∈ lw_ok := z_ok (z_t3 (List.mem_of_getElem? (i := 165) rfl)) rfl
theorem k_646 : (Cond.static ({ cls := "BranchStoreLaw", name := "part", desc := "(LBranchStore;I[J)I" } : Jvm.MethodName)) ∈ lw_ok := z_ok (z_t3 (List.mem_of_getElem? (i := 166) rfl)) rfl
theorem k_647 : (Cond.codeWith ({ cls := "BranchStoreLaw", name := "part", desc := "(LBranchStore;I[J)I" } : Jvm.MethodName) method_13_code (4 : Nat) (Option.some FieldType.int) [((0 : Nat), (8 : Nat), (11 : Nat), (30 : Nat)), ((0 : Nat), (8 : Nat), (14 : Nat), (59 : Nat))]) ∈ lw_ok := z_ok (z_t3 (List.mem_of_getElem? (i := 167) rfl)) rfl
theorem k_648 : (Cond.classLink "BranchStoreLaw" (59 : Nat) "java/lang/IndexOutOfBoundsException") ∈ lw_ok := z_ok (z_t3 (List.mem_of_getElem? (i := 168) rfl)) rfl
theorem k_649 : (Cond.methodLink "BranchStoreLaw" (55 : Nat) ({ cls := "BranchStore", name := "part", desc := "(I)J" } : Jvm.MethodName)) ∈ lw_ok := z_ok (z_t3 (List.mem_of_getElem? (i := 169) rfl)) rfl
theorem k_650 : (Cond.instanceMethod ({ cls := "BranchStore", name := "part", desc := "(I)J" } : Jvm.MethodName)) ∈ lw_ok := z_ok (z_t3 (List.mem_of_getElem? (i := 170) rfl)) rfl
theorem k_651 : (Cond.selects "BranchStore" ({ cls := "BranchStore", name := "part", desc := "(I)J" } : Jvm.MethodName) ({ cls := "BranchStore", name := "part", desc := "(I)J" } : Jvm.MethodName)) ∈ lw_ok := z_ok (z_t3 (List.mem_of_getElem? (i := 171) rfl)) rfl
theorem k_652 : (Cond.code ({ cls := "BranchStore", name := "part", desc := "(I)J" } : Jvm.MethodName) prog_1_method_19_code (3 : Nat) (Option.some FieldType.long)) ∈ lw_ok := z_ok (z_t3 (List.mem_of_getElem? (i := 172) rfl)) rfl
theorem k_653 : (Cond.classLink "BranchStore" (119 : Nat) "java/lang/IndexOutOfBoundsException") ∈ lw_ok := z_ok (z_t3 (List.mem_of_getElem? (i := 173) rfl)) rfl
theorem k_654 : (Cond.instantiable "java/lang/IndexOutOfBoundsException" (6 : Nat)) ∈ lw_ok := z_ok (z_t3 (List.mem_of_getElem? (i := 174) rfl)) rfl
theorem k_655 : (Cond.castable "java/lang/IndexOutOfBoundsException" "java/lang/IndexOutOfBoundsException") ∈ lw_tbl := z_t3 (List.mem_of_getElem? (i := 175) rfl)
theorem k_656 : (Cond.selects "java/lang/IndexOutOfBoundsException" ({ cls := "java/lang/Throwable", name := "fillInStackTrace", desc := "(I)Ljava/lang/Throwable;" } : Jvm.MethodName) ({ cls := "java/lang/Throwable", name := "fillInStackTrace", desc := "(I)Ljava/lang/Throwable;" } : Jvm.MethodName)) ∈ lw_ok := z_ok (z_t3 (List.mem_of_getElem? (i := 176) rfl)) rfl
theorem k_657 : (Cond.lays "java/lang/IndexOutOfBoundsException" "java/lang/Throwable" "cause" "Ljava/lang/Throwable;") ∈ lw_ok := z_ok (z_t3 (List.mem_of_getElem? (i := 177) rfl)) rfl
theorem k_658 : (Cond.lays "java/lang/IndexOutOfBoundsException" "java/lang/Throwable" "stackTrace" "[Ljava/lang/StackTraceElement;") ∈ lw_ok := z_ok (z_t3 (List.mem_of_getElem? (i := 178) rfl)) rfl
theorem k_659 : (Cond.lays "java/lang/IndexOutOfBoundsException" "java/lang/Throwable" "suppressedExceptions" "Ljava/util/List;") ∈ lw_ok := z_ok (z_t3 (List.mem_of_getElem? (i := 179) rfl)) rfl
theorem k_660 : (Cond.lays "java/lang/IndexOutOfBoundsException" "java/lang/Throwable" "detailMessage" "Ljava/lang/String;") ∈ lw_ok := z_ok (z_t3 (List.mem_of_getElem? (i := 180) rfl)) rfl
theorem k_661 : (Cond.lays "java/lang/IndexOutOfBoundsException" "java/lang/Throwable" "backtrace" "Ljava/lang/Object;") ∈ lw_ok := z_ok (z_t3 (List.mem_of_getElem? (i := 181) rfl)) rfl
theorem k_662 : (Cond.methodLink "BranchStore" (121 : Nat) ({ cls := "java/lang/IndexOutOfBoundsException", name := "<init>", desc := "()V" } : Jvm.MethodName)) ∈ lw_ok := z_ok (z_t3 (List.mem_of_getElem? (i := 182) rfl)) rfl
theorem k_663 : (Cond.instanceMethod ({ cls := "java/lang/IndexOutOfBoundsException", name := "<init>", desc := "()V" } : Jvm.MethodName)) ∈ lw_ok := z_ok (z_t3 (List.mem_of_getElem? (i := 183) rfl)) rfl
theorem k_664 : (Cond.code ({ cls := "java/lang/IndexOutOfBoundsException", name := "<init>", desc := "()V" } : Jvm.MethodName) prog_14_method_1_code (1 : Nat) (Option.none : Option FieldType)) ∈ lw_ok := z_ok (z_t3 (List.mem_of_getElem? (i := 184) rfl)) rfl
theorem k_665 : (Cond.methodLink "java/lang/IndexOutOfBoundsException" (1 : Nat) ({ cls := "java/lang/RuntimeException", name := "<init>", desc := "()V" } : Jvm.MethodName)) ∈ lw_ok := z_ok (z_t3 (List.mem_of_getElem? (i := 185) rfl)) rfl
theorem k_666 : (Cond.lays "java/lang/IndexOutOfBoundsException" "java/lang/Throwable" "depth" "I") ∈ lw_ok := z_ok (z_t3 (List.mem_of_getElem? (i := 186) rfl)) rfl
theorem k_667 : (Cond.superclass "java/lang/IndexOutOfBoundsException" "java/lang/RuntimeException") ∈ lw_ok := z_ok (z_t3 (List.mem_of_getElem? (i := 187) rfl)) rfl
theorem k_668 : (Cond.methodLink "BranchStore" (122 : Nat) ({ cls := "BranchStore$Key", name := "part", desc := "(I)J" } : Jvm.MethodName)) ∈ lw_ok := z_ok (z_t3 (List.mem_of_getElem? (i := 188) rfl)) rfl
theorem k_669 : (Cond.instanceMethod ({ cls := "BranchStore$Key", name := "part", desc := "(I)J" } : Jvm.MethodName)) ∈ lw_ok := z_ok (z_t3 (List.mem_of_getElem? (i := 189) rfl)) rfl
theorem k_670 : (Cond.selects "BranchStore$Key" ({ cls := "BranchStore$Key", name := "part", desc := "(I)J" } : Jvm.MethodName) ({ cls := "BranchStore$Key", name := "part", desc := "(I)J" } : Jvm.MethodName)) ∈ lw_ok := z_ok (z_t3 (List.mem_of_getElem? (i := 190) rfl)) rfl
theorem k_671 : (Cond.code ({ cls := "BranchStore$Key", name := "part", desc := "(I)J" } : Jvm.MethodName) prog_4_method_10_code (5 : Nat) (Option.some FieldType.long)) ∈ lw_ok := z_ok (z_t3 (List.mem_of_getElem? (i := 191) rfl)) rfl
theorem k_672 : (Cond.methodLink "BranchStore" (125 : Nat) ({ cls := "BranchStore$Key", name := "byteOf", desc := "(I)I" } : Jvm.MethodName)) ∈ lw_ok := z_ok (z_t3 (List.mem_of_getElem? (i := 192) rfl)) rfl
theorem k_673 : (Cond.instanceMethod ({ cls := "BranchStore$Key", name := "byteOf", desc := "(I)I" } : Jvm.MethodName)) ∈ lw_ok := z_ok (z_t3 (List.mem_of_getElem? (i := 193) rfl)) rfl
theorem k_674 : (Cond.selects "BranchStore$Key" ({ cls := "BranchStore$Key", name := "byteOf", desc := "(I)I" } : Jvm.MethodName) ({ cls := "BranchStore$Key", name := "byteOf", desc := "(I)I" } : Jvm.MethodName)) ∈ lw_ok := z_ok (z_t3 (List.mem_of_getElem? (i := 194) rfl)) rfl
theorem k_675 : (Cond.code ({ cls := "BranchStore$Key", name := "byteOf", desc := "(I)I" } : Jvm.MethodName) prog_4_method_11_code (4 : Nat) (Option.some FieldType.int)) ∈ lw_ok := z_ok (z_t3 (List.mem_of_getElem? (i := 195) rfl)) rfl
theorem k_676 : (Cond.methodLink "BranchStoreLaw" (147 : Nat) ({ cls := "BranchStoreLaw", name := "value", desc := "(LBranchStore;[J)I" } : Jvm.MethodName)) ∈ lw_ok := z_ok (z_t3 (List.mem_of_getElem? (i := 196) rfl)) rfl
theorem k_677 : (Cond.static ({ cls := "BranchStoreLaw", name := "value", desc := "(LBranchStore;[J)I" } : Jvm.MethodName)) ∈ lw_ok := z_ok (z_t3 (List.mem_of_getElem? (i := 197) rfl)) rfl
theorem k_678 : (Cond.codeWith ({ cls := "BranchStoreLaw", name := "value", desc := "(LBranchStore;[J)I" } : Jvm.MethodName) method_14_code (3 : Nat) (Option.some FieldType.int) [((0 : Nat), (7 : Nat), (10 : Nat), (30 : Nat))]) ∈ lw_ok := z_ok (z_t3 (List.mem_of_getElem? (i := 198) rfl)) rfl
theorem k_679 : (Cond.methodLink "BranchStoreLaw" (61 : Nat) ({ cls := "BranchStore", name := "value", desc := "()J" } : Jvm.MethodName)) ∈ lw_ok := z_ok (z_t3 (List.mem_of_getElem? (i := 199) rfl)) rfl
theorem k_680 : (Cond.instanceMethod ({ cls := "BranchStore", name := "value", desc := "()J" } : Jvm.MethodName)) ∈ lw_ok := z_ok (z_t3 (List.mem_of_getElem? (i := 200) rfl)) rfl
theorem k_681 : (Cond.selects "BranchStore" ({ cls := "BranchStore", name := "value", desc := "()J" } : Jvm.MethodName) ({ cls := "BranchStore", name := "value", desc := "()J" } : Jvm.MethodName)) ∈ lw_ok := z_ok (z_t3 (List.mem_of_getElem? (i := 201) rfl)) rfl
theorem k_682 : (Cond.code ({ cls := "BranchStore", name := "value", desc := "()J" } : Jvm.MethodName) prog_1_method_20_code (1 : Nat) (Option.some FieldType.long)) ∈ lw_ok := z_ok (z_t3 (List.mem_of_getElem? (i := 202) rfl)) rfl
theorem k_683 : (Cond.methodLink "BranchStoreLaw" (154 : Nat) ({ cls := "BranchStoreLaw", name := "select", desc := "(LBranchStore;I)I" } : Jvm.MethodName)) ∈ lw_ok := z_ok (z_t3 (List.mem_of_getElem? (i := 203) rfl)) rfl
theorem k_684 : (Cond.static ({ cls := "BranchStoreLaw", name := "select", desc := "(LBranchStore;I)I" } : Jvm.MethodName)) ∈ lw_ok := z_ok (z_t3 (List.mem_of_getElem? (i := 204) rfl)) rfl
theorem k_685 : (Cond.codeWith ({ cls := "BranchStoreLaw", name := "select", desc := "(LBranchStore;I)I" } : Jvm.MethodName) method_15_code (3 : Nat) (Option.some FieldType.int) [((0 : Nat), (5 : Nat), (8 : Nat), (59 : Nat))]) ∈ lw_ok := z_ok (z_t3 (List.mem_of_getElem? (i := 205) rfl)) rfl
theorem k_686 : (Cond.methodLink "BranchStoreLaw" (64 : Nat) ({ cls := "BranchStore", name := "select", desc := "(I)V" } : Jvm.MethodName)) ∈ lw_ok := z_ok (z_t3 (List.mem_of_getElem? (i := 206) rfl)) rfl
theorem k_687 : (Cond.instanceMethod ({ cls := "BranchStore", name := "select", desc := "(I)V" } : Jvm.MethodName)) ∈ lw_ok := z_ok (z_t3 (List.mem_of_getElem? (i := 207) rfl)) rfl
theorem k_688 : (Cond.selects "BranchStore" ({ cls := "BranchStore", name := "select", desc := "(I)V" } : Jvm.MethodName) ({ cls := "BranchStore", name := "select", desc := "(I)V" } : Jvm.MethodName)) ∈ lw_ok := z_ok (z_t3 (List.mem_of_getElem? (i := 208) rfl)) rfl
theorem k_689 : (Cond.code ({ cls := "BranchStore", name := "select", desc := "(I)V" } : Jvm.MethodName) prog_1_method_22_code (2 : Nat) (Option.none : Option FieldType)) ∈ lw_ok := z_ok (z_t3 (List.mem_of_getElem? (i := 209) rfl)) rfl
theorem k_690 : (Cond.methodLink "BranchStoreLaw" (166 : Nat) ({ cls := "BranchStoreLaw", name := "begins", desc := "(LBranchStore;[J)I" } : Jvm.MethodName)) ∈ lw_ok := z_ok (z_t3 (List.mem_of_getElem? (i := 210) rfl)) rfl
theorem k_691 : (Cond.static ({ cls := "BranchStoreLaw", name := "begins", desc := "(LBranchStore;[J)I" } : Jvm.MethodName)) ∈ lw_ok := z_ok (z_t3 (List.mem_of_getElem? (i := 211) rfl)) rfl
theorem k_692 : (Cond.codeWith ({ cls := "BranchStoreLaw", name := "begins", desc := "(LBranchStore;[J)I" } : Jvm.MethodName) method_16_code (3 : Nat) (Option.some FieldType.int) [((0 : Nat), (8 : Nat), (11 : Nat), (13 : Nat))]) ∈ lw_ok := z_ok (z_t3 (List.mem_of_getElem? (i := 212) rfl)) rfl
theorem k_693 : (Cond.methodLink "BranchStoreLaw" (68 : Nat) ({ cls := "BranchStore", name := "begins", desc := "()I" } : Jvm.MethodName)) ∈ lw_ok := z_ok (z_t3 (List.mem_of_getElem? (i := 213) rfl)) rfl
theorem k_694 : (Cond.instanceMethod ({ cls := "BranchStore", name := "begins", desc := "()I" } : Jvm.MethodName)) ∈ lw_ok := z_ok (z_t3 (List.mem_of_getElem? (i := 214) rfl)) rfl
theorem k_695 : (Cond.selects "BranchStore" ({ cls := "BranchStore", name := "begins", desc := "()I" } : Jvm.MethodName) ({ cls := "BranchStore", name := "begins", desc := "()I" } : Jvm.MethodName)) ∈ lw_ok := z_ok (z_t3 (List.mem_of_getElem? (i := 215) rfl)) rfl
theorem k_696 : (Cond.code ({ cls := "BranchStore", name := "begins", desc := "()I" } : Jvm.MethodName) prog_1_method_25_code (1 : Nat) (Option.some FieldType.int)) ∈ lw_ok := z_ok (z_t3 (List.mem_of_getElem? (i := 216) rfl)) rfl
theorem k_697 : (Cond.methodLink "BranchStore" (140 : Nat) ({ cls := "BranchStore$Tree", name := "begins", desc := "(LBranchStore$Key;I)I" } : Jvm.MethodName)) ∈ lw_ok := z_ok (z_t3 (List.mem_of_getElem? (i := 217) rfl)) rfl
theorem k_698 : (Cond.instanceMethod ({ cls := "BranchStore$Tree", name := "begins", desc := "(LBranchStore$Key;I)I" } : Jvm.MethodName)) ∈ lw_ok := z_ok (z_t3 (List.mem_of_getElem? (i := 218) rfl)) rfl
theorem k_699 : (Cond.selects "BranchStore$Tree" ({ cls := "BranchStore$Tree", name := "begins", desc := "(LBranchStore$Key;I)I" } : Jvm.MethodName) ({ cls := "BranchStore$Tree", name := "begins", desc := "(LBranchStore$Key;I)I" } : Jvm.MethodName)) ∈ lw_ok := z_ok (z_t3 (List.mem_of_getElem? (i := 219) rfl)) rfl
theorem k_700 : (Cond.code ({ cls := "BranchStore$Tree", name := "begins", desc := "(LBranchStore$Key;I)I" } : Jvm.MethodName) prog_7_method_24_code (5 : Nat) (Option.some FieldType.int)) ∈ lw_ok := z_ok (z_t3 (List.mem_of_getElem? (i := 220) rfl)) rfl
theorem k_701 : (Cond.methodLink "BranchStoreLaw" (169 : Nat) ({ cls := "BranchStoreLaw", name := "load", desc := "(LBranchStore;JIJ)I" } : Jvm.MethodName)) ∈ lw_ok := z_ok (z_t3 (List.mem_of_getElem? (i := 221) rfl)) rfl
theorem k_702 : (Cond.static ({ cls := "BranchStoreLaw", name := "load", desc := "(LBranchStore;JIJ)I" } : Jvm.MethodName)) ∈ lw_ok := z_ok (z_t3 (List.mem_of_getElem? (i := 222) rfl)) rfl
theorem k_703 : (Cond.codeWith ({ cls := "BranchStoreLaw", name := "load", desc := "(LBranchStore;JIJ)I" } : Jvm.MethodName) method_17_code (7 : Nat) (Option.some FieldType.int) [((0 : Nat), (8 : Nat), (11 : Nat), (13 : Nat)), ((0 : Nat), (8 : Nat), (15 : Nat), (23 : Nat)), ((0 : Nat), (8 : Nat), (19 : Nat), (25 : Nat))]) ∈ lw_ok := z_ok (z_t3 (List.mem_of_getElem? (i := 223) rfl)) rfl
theorem k_704 : (Cond.methodLink "BranchStoreLaw" (71 : Nat) ({ cls := "BranchStore", name := "load", desc := "(JIJ)V" } : Jvm.MethodName)) ∈ lw_ok := z_ok (z_t3 (List.mem_of_getElem? (i := 224) rfl)) rfl
theorem k_705 : (Cond.instanceMethod ({ cls := "BranchStore", name := "load", desc := "(JIJ)V" } : Jvm.MethodName)) ∈ lw_ok := z_ok (z_t3 (List.mem_of_getElem? (i := 225) rfl)) rfl
theorem k_706 : (Cond.selects "BranchStore" ({ cls := "BranchStore", name := "load", desc := "(JIJ)V" } : Jvm.MethodName) ({ cls := "BranchStore", name := "load", desc := "(JIJ)V" } : Jvm.MethodName)) ∈ lw_ok := z_ok (z_t3 (List.mem_of_getElem? (i := 226) rfl)) rfl
theorem k_707 : (Cond.code ({ cls := "BranchStore", name := "load", desc := "(JIJ)V" } : Jvm.MethodName) prog_1_method_26_code (8 : Nat) (Option.none : Option FieldType)) ∈ lw_ok := z_ok (z_t3 (List.mem_of_getElem? (i := 227) rfl)) rfl
theorem k_708 : (Cond.constantLong "BranchStore" (146 : Nat) (9223372036854775807 : Int64)) ∈ lw_ok := z_ok (z_t3 (List.mem_of_getElem? (i := 228) rfl)) rfl
theorem k_709 : (Cond.methodLink "BranchStore" (148 : Nat) ({ cls := "java/lang/Long", name := "divideUnsigned", desc := "(JJ)J" } : Jvm.MethodName)) ∈ lw_ok := z_ok (z_t3 (List.mem_of_getElem? (i := 229) rfl)) rfl
theorem k_710 : (Cond.static ({ cls := "java/lang/Long", name := "divideUnsigned", desc := "(JJ)J" } : Jvm.MethodName)) ∈ lw_ok := z_ok (z_t3 (List.mem_of_getElem? (i := 230) rfl)) rfl
theorem k_711 : (Cond.code ({ cls := "java/lang/Long", name := "divideUnsigned", desc := "(JJ)J" } : Jvm.MethodName) prog_15_method_44_code (8 : Nat) (Option.some FieldType.long)) ∈ lw_ok := z_ok (z_t3 (List.mem_of_getElem? (i := 231) rfl)) rfl
theorem k_712 : (Cond.constantLong "java/lang/Long" (306 : Nat) (-1 : Int64)) ∈ lw_ok := z_ok (z_t3 (List.mem_of_getElem? (i := 232) rfl)) rfl
theorem k_713 : (Cond.methodLink "BranchStore" (152 : Nat) ({ cls := "java/lang/Long", name := "compareUnsigned", desc := "(JJ)I" } : Jvm.MethodName)) ∈ lw_ok := z_ok (z_t3 (List.mem_of_getElem? (i := 233) rfl)) rfl
theorem k_714 : (Cond.static ({ cls := "java/lang/Long", name := "compareUnsigned", desc := "(JJ)I" } : Jvm.MethodName)) ∈ lw_ok := z_ok (z_t3 (List.mem_of_getElem? (i := 234) rfl)) rfl
theorem k_715 : (Cond.code ({ cls := "java/lang/Long", name := "compareUnsigned", desc := "(JJ)I" } : Jvm.MethodName) prog_15_method_43_code (4 : Nat) (Option.some FieldType.int)) ∈ lw_ok := z_ok (z_t3 (List.mem_of_getElem? (i := 235) rfl)) rfl
theorem k_716 : (Cond.constantLong "java/lang/Long" (168 : Nat) (-9223372036854775808 : Int64)) ∈ lw_ok := z_ok (z_t3 (List.mem_of_getElem? (i := 236) rfl)) rfl
theorem k_717 : (Cond.methodLink "java/lang/Long" (302 : Nat) ({ cls := "java/lang/Long", name := "compare", desc := "(JJ)I" } : Jvm.MethodName)) ∈ lw_ok := z_ok (z_t3 (List.mem_of_getElem? (i := 237) rfl)) rfl
theorem k_718 : (Cond.static ({ cls := "java/lang/Long", name := "compare", desc := "(JJ)I" } : Jvm.MethodName)) ∈ lw_ok := z_ok (z_t3 (List.mem_of_getElem? (i := 238) rfl)) rfl
theorem k_719 : (Cond.code ({ cls := "java/lang/Long", name := "compare", desc := "(JJ)I" } : Jvm.MethodName) prog_15_method_42_code (4 : Nat) (Option.some FieldType.int)) ∈ lw_ok := z_ok (z_t3 (List.mem_of_getElem? (i := 239) rfl)) rfl
theorem k_720 : (Cond.methodLink "BranchStore" (156 : Nat) ({ cls := "BranchStore$Tree", name := "build", desc := "(JJIJ)V" } : Jvm.MethodName)) ∈ lw_ok := z_ok (z_t4 (List.mem_of_getElem? (i := 0) rfl)) rfl
theorem k_721 : (Cond.instanceMethod ({ cls := "BranchStore$Tree", name := "build", desc := "(JJIJ)V" } : Jvm.MethodName)) ∈ lw_ok := z_ok (z_t4 (List.mem_of_getElem? (i := 1) rfl)) rfl
theorem k_722 : (Cond.selects "BranchStore$Tree" ({ cls := "BranchStore$Tree", name := "build", desc := "(JJIJ)V" } : Jvm.MethodName) ({ cls := "BranchStore$Tree", name := "build", desc := "(JJIJ)V" } : Jvm.MethodName)) ∈ lw_ok := z_ok (z_t4 (List.mem_of_getElem? (i := 2) rfl)) rfl
theorem k_723 : (Cond.code ({ cls := "BranchStore$Tree", name := "build", desc := "(JJIJ)V" } : Jvm.MethodName) prog_7_method_30_code (8 : Nat) (Option.none : Option FieldType)) ∈ lw_ok := z_ok (z_t4 (List.mem_of_getElem? (i := 3) rfl)) rfl
theorem k_724 : (Cond.methodLink "BranchStore$Tree" (196 : Nat) ({ cls := "BranchStore$Tree", name := "built", desc := "(II)I" } : Jvm.MethodName)) ∈ lw_ok := z_ok (z_t4 (List.mem_of_getElem? (i := 4) rfl)) rfl
theorem k_725 : (Cond.privateMethod ({ cls := "BranchStore$Tree", name := "built", desc := "(II)I" } : Jvm.MethodName)) ∈ lw_tbl := z_t4 (List.mem_of_getElem? (i := 5) rfl)
theorem k_726 : (Cond.instanceMethod ({ cls := "BranchStore$Tree", name := "built", desc := "(II)I" } : Jvm.MethodName)) ∈ lw_ok := z_ok (z_t4 (List.mem_of_getElem? (i := 6) rfl)) rfl
theorem k_727 : (Cond.code ({ cls := "BranchStore$Tree", name := "built", desc := "(II)I" } : Jvm.MethodName) prog_7_method_31_code (11 : Nat) (Option.some FieldType.int)) ∈ lw_ok := z_ok (z_t4 (List.mem_of_getElem? (i := 7) rfl)) rfl
theorem k_728 : (Cond.methodLink "BranchStore$Tree" (199 : Nat) ({ cls := "BranchStore$Tree", name := "number", desc := "(LBranchStore$Key;I)V" } : Jvm.MethodName)) ∈ lw_ok := z_ok (z_t4 (List.mem_of_getElem? (i := 8) rfl)) rfl
theorem k_729 : (Cond.privateMethod ({ cls := "BranchStore$Tree", name := "number", desc := "(LBranchStore$Key;I)V" } : Jvm.MethodName)) ∈ lw_tbl := z_t4 (List.mem_of_getElem? (i := 9) rfl)
theorem k_730 : (Cond.instanceMethod ({ cls := "BranchStore$Tree", name := "number", desc := "(LBranchStore$Key;I)V" } : Jvm.MethodName)) ∈ lw_ok := z_ok (z_t4 (List.mem_of_getElem? (i := 10) rfl)) rfl
theorem k_731 : (Cond.code ({ cls := "BranchStore$Tree", name := "number", desc := "(LBranchStore$Key;I)V" } : Jvm.MethodName) prog_7_method_29_code (3 : Nat) (Option.none : Option FieldType)) ∈ lw_ok := z_ok (z_t4 (List.mem_of_getElem? (i := 11) rfl)) rfl
theorem k_732 : (Cond.methodLink "BranchStore$Tree" (179 : Nat) ({ cls := "BranchStore$Key", name := "begin", desc := "()V" } : Jvm.MethodName)) ∈ lw_ok := z_ok (z_t4 (List.mem_of_getElem? (i := 12) rfl)) rfl
theorem k_733 : (Cond.methodLink "BranchStore$Tree" (189 : Nat) ({ cls := "BranchStore$Key", name := "number", desc := "(J)V" } : Jvm.MethodName)) ∈ lw_ok := z_ok (z_t4 (List.mem_of_getElem? (i := 13) rfl)) rfl
theorem k_734 : (Cond.methodLink "BranchStore$Tree" (202 : Nat) ({ cls := "BranchStore$Tree", name := "behind", desc := "(III)I" } : Jvm.MethodName)) ∈ lw_ok := z_ok (z_t4 (List.mem_of_getElem? (i := 14) rfl)) rfl
theorem k_735 : (Cond.privateMethod ({ cls := "BranchStore$Tree", name := "behind", desc := "(III)I" } : Jvm.MethodName)) ∈ lw_tbl := z_t4 (List.mem_of_getElem? (i := 15) rfl)
theorem k_736 : (Cond.instanceMethod ({ cls := "BranchStore$Tree", name := "behind", desc := "(III)I" } : Jvm.MethodName)) ∈ lw_ok := z_ok (z_t4 (List.mem_of_getElem? (i := 16) rfl)) rfl
theorem k_737 : (Cond.code ({ cls := "BranchStore$Tree", name := "behind", desc := "(III)I" } : Jvm.MethodName) prog_7_method_32_code (8 : Nat) (Option.some FieldType.int)) ∈ lw_ok := z_ok (z_t4 (List.mem_of_getElem? (i := 17) rfl)) rfl
theorem k_738 : (Cond.methodLink "BranchStoreLaw" (177 : Nat) ({ cls := "BranchStoreLaw", name := "about", desc := "(LBranchStore;I[J)I" } : Jvm.MethodName)) ∈ lw_ok := z_ok (z_t4 (List.mem_of_getElem? (i := 18) rfl)) rfl
theorem k_739 : (Cond.static ({ cls := "BranchStoreLaw", name := "about", desc := "(LBranchStore;I[J)I" } : Jvm.MethodName)) ∈ lw_ok := z_ok (z_t4 (List.mem_of_getElem? (i := 19) rfl)) rfl
theorem k_740 : (Cond.codeWith ({ cls := "BranchStoreLaw", name := "about", desc := "(LBranchStore;I[J)I" } : Jvm.MethodName) method_18_code (4 : Nat) (Option.some FieldType.int) [((0 : Nat), (9 : Nat), (12 : Nat), (23 : Nat))]) ∈ lw_ok := z_ok (z_t4 (List.mem_of_getElem? (i := 20) rfl)) rfl
theorem k_741 : (Cond.methodLink "BranchStoreLaw" (75 : Nat) ({ cls := "BranchStore", name := "about", desc := "(I)I" } : Jvm.MethodName)) ∈ lw_ok := z_ok (z_t4 (List.mem_of_getElem? (i := 21) rfl)) rfl
theorem k_742 : (Cond.instanceMethod ({ cls := "BranchStore", name := "about", desc := "(I)I" } : Jvm.MethodName)) ∈ lw_ok := z_ok (z_t4 (List.mem_of_getElem? (i := 22) rfl)) rfl
theorem k_743 : (Cond.selects "BranchStore" ({ cls := "BranchStore", name := "about", desc := "(I)I" } : Jvm.MethodName) ({ cls := "BranchStore", name := "about", desc := "(I)I" } : Jvm.MethodName)) ∈ lw_ok := z_ok (z_t4 (List.mem_of_getElem? (i := 23) rfl)) rfl
theorem k_744 : (Cond.code ({ cls := "BranchStore", name := "about", desc := "(I)I" } : Jvm.MethodName) prog_1_method_28_code (2 : Nat) (Option.some FieldType.int)) ∈ lw_ok := z_ok (z_t4 (List.mem_of_getElem? (i := 24) rfl)) rfl
theorem k_745 : (Cond.methodLink "BranchStore" (167 : Nat) ({ cls := "BranchStore$Tree", name := "deepest", desc := "()I" } : Jvm.MethodName)) ∈ lw_ok := z_ok (z_t4 (List.mem_of_getElem? (i := 25) rfl)) rfl
theorem k_746 : (Cond.instanceMethod ({ cls := "BranchStore$Tree", name := "deepest", desc := "()I" } : Jvm.MethodName)) ∈ lw_ok := z_ok (z_t4 (List.mem_of_getElem? (i := 26) rfl)) rfl
theorem k_747 : (Cond.selects "BranchStore$Tree" ({ cls := "BranchStore$Tree", name := "deepest", desc := "()I" } : Jvm.MethodName) ({ cls := "BranchStore$Tree", name := "deepest", desc := "()I" } : Jvm.MethodName)) ∈ lw_ok := z_ok (z_t4 (List.mem_of_getElem? (i := 27) rfl)) rfl
theorem k_748 : (Cond.code ({ cls := "BranchStore$Tree", name := "deepest", desc := "()I" } : Jvm.MethodName) prog_7_method_36_code (1 : Nat) (Option.some FieldType.int)) ∈ lw_ok := z_ok (z_t4 (List.mem_of_getElem? (i := 28) rfl)) rfl
theorem k_749 : (Cond.methodLink "BranchStore$Tree" (213 : Nat) ({ cls := "BranchStore$Tree", name := "deepestOf", desc := "(I)I" } : Jvm.MethodName)) ∈ lw_ok := z_ok (z_t4 (List.mem_of_getElem? (i := 29) rfl)) rfl
theorem k_750 : (Cond.privateMethod ({ cls := "BranchStore$Tree", name := "deepestOf", desc := "(I)I" } : Jvm.MethodName)) ∈ lw_tbl := z_t4 (List.mem_of_getElem? (i := 30) rfl)
theorem k_751 : (Cond.instanceMethod ({ cls := "BranchStore$Tree", name := "deepestOf", desc := "(I)I" } : Jvm.MethodName)) ∈ lw_ok := z_ok (z_t4 (List.mem_of_getElem? (i := 31) rfl)) rfl
theorem k_752 : (Cond.code ({ cls := "BranchStore$Tree", name := "deepestOf", desc := "(I)I" } : Jvm.MethodName) prog_7_method_37_code (5 : Nat) (Option.some FieldType.int)) ∈ lw_ok := z_ok (z_t4 (List.mem_of_getElem? (i := 32) rfl)) rfl
theorem k_753 : (Cond.methodLink "BranchStore$Tree" (216 : Nat) ({ cls := "java/lang/Math", name := "max", desc := "(II)I" } : Jvm.MethodName)) ∈ lw_ok := z_ok (z_t4 (List.mem_of_getElem? (i := 33) rfl)) rfl
theorem k_754 : (Cond.methodLink "BranchStore" (170 : Nat) ({ cls := "BranchStore$Tree", name := "deep", desc := "(LBranchStore$Key;)I" } : Jvm.MethodName)) ∈ lw_ok := z_ok (z_t4 (List.mem_of_getElem? (i := 34) rfl)) rfl
theorem k_755 : (Cond.instanceMethod ({ cls := "BranchStore$Tree", name := "deep", desc := "(LBranchStore$Key;)I" } : Jvm.MethodName)) ∈ lw_ok := z_ok (z_t4 (List.mem_of_getElem? (i := 35) rfl)) rfl
theorem k_756 : (Cond.selects "BranchStore$Tree" ({ cls := "BranchStore$Tree", name := "deep", desc := "(LBranchStore$Key;)I" } : Jvm.MethodName) ({ cls := "BranchStore$Tree", name := "deep", desc := "(LBranchStore$Key;)I" } : Jvm.MethodName)) ∈ lw_ok := z_ok (z_t4 (List.mem_of_getElem? (i := 36) rfl)) rfl
theorem k_757 : (Cond.code ({ cls := "BranchStore$Tree", name := "deep", desc := "(LBranchStore$Key;)I" } : Jvm.MethodName) prog_7_method_35_code (4 : Nat) (Option.some FieldType.int)) ∈ lw_ok := z_ok (z_t4 (List.mem_of_getElem? (i := 37) rfl)) rfl
theorem k_758 : (Cond.methodLink "BranchStore$Tree" (210 : Nat) ({ cls := "BranchStore$Tree", name := "find", desc := "(LBranchStore$Key;)I" } : Jvm.MethodName)) ∈ lw_ok := z_ok (z_t4 (List.mem_of_getElem? (i := 38) rfl)) rfl
theorem k_759 : (Cond.methodLink "BranchStore" (173 : Nat) ({ cls := "BranchStore$Tree", name := "first", desc := "()I" } : Jvm.MethodName)) ∈ lw_ok := z_ok (z_t4 (List.mem_of_getElem? (i := 39) rfl)) rfl
theorem k_760 : (Cond.instanceMethod ({ cls := "BranchStore$Tree", name := "first", desc := "()I" } : Jvm.MethodName)) ∈ lw_ok := z_ok (z_t4 (List.mem_of_getElem? (i := 40) rfl)) rfl
theorem k_761 : (Cond.selects "BranchStore$Tree" ({ cls := "BranchStore$Tree", name := "first", desc := "()I" } : Jvm.MethodName) ({ cls := "BranchStore$Tree", name := "first", desc := "()I" } : Jvm.MethodName)) ∈ lw_ok := z_ok (z_t4 (List.mem_of_getElem? (i := 41) rfl)) rfl
theorem k_762 : (Cond.code ({ cls := "BranchStore$Tree", name := "first", desc := "()I" } : Jvm.MethodName) prog_7_method_38_code (1 : Nat) (Option.some FieldType.int)) ∈ lw_ok := z_ok (z_t4 (List.mem_of_getElem? (i := 42) rfl)) rfl
theorem k_763 : (Cond.classLink "BranchStoreLaw" (86 : Nat) "BranchStoreModel") ∈ lw_ok := z_ok (z_t4 (List.mem_of_getElem? (i := 43) rfl)) rfl
theorem k_764 : (Cond.instantiable "BranchStoreModel" (16 : Nat)) ∈ lw_ok := z_ok (z_t4 (List.mem_of_getElem? (i := 44) rfl)) rfl
theorem k_765 : (Cond.methodLink "BranchStoreLaw" (88 : Nat) ({ cls := "BranchStoreModel", name := "<init>", desc := "(I)V" } : Jvm.MethodName)) ∈ lw_ok := z_ok (z_t4 (List.mem_of_getElem? (i := 45) rfl)) rfl
theorem k_766 : (Cond.instanceMethod ({ cls := "BranchStoreModel", name := "<init>", desc := "(I)V" } : Jvm.MethodName)) ∈ lw_ok := z_ok (z_t4 (List.mem_of_getElem? (i := 46) rfl)) rfl
theorem k_767 : (Cond.code ({ cls := "BranchStoreModel", name := "<init>", desc := "(I)V" } : Jvm.MethodName) prog_9_method_1_code (4 : Nat) (Option.none : Option FieldType)) ∈ lw_ok := z_ok (z_t4 (List.mem_of_getElem? (i := 47) rfl)) rfl
theorem k_768 : (Cond.methodLink "BranchStoreModel" (1 : Nat) ({ cls := "java/lang/Object", name := "<init>", desc := "()V" } : Jvm.MethodName)) ∈ lw_ok := z_ok (z_t4 (List.mem_of_getElem? (i := 48) rfl)) rfl
theorem k_769 : (Cond.constant "BranchStoreModel" (16 : Nat) (36072 : Int32)) ∈ lw_ok := z_ok (z_t4 (List.mem_of_getElem? (i := 49) rfl)) rfl
theorem k_770 : (Cond.fieldLink "BranchStoreModel" (45 : Nat) "BranchStoreModel" "sort" "I") ∈ lw_ok := z_ok (z_t4 (List.mem_of_getElem? (i := 50) rfl)) rfl
theorem k_771 : (Cond.fieldLink "BranchStoreModel" (7 : Nat) "BranchStoreModel" "first" "[J") ∈ lw_ok := z_ok (z_t4 (List.mem_of_getElem? (i := 51) rfl)) rfl
theorem k_772 : (Cond.fieldLink "BranchStoreModel" (13 : Nat) "BranchStoreModel" "second" "[J") ∈ lw_ok := z_ok (z_t4 (List.mem_of_getElem? (i := 52) rfl)) rfl
theorem k_773 : (Cond.fieldLink "BranchStoreModel" (17 : Nat) "BranchStoreModel" "letters" "[I") ∈ lw_ok := z_ok (z_t4 (List.mem_of_getElem? (i := 53) rfl)) rfl
theorem k_774 : (Cond.fieldLink "BranchStoreModel" (21 : Nat) "BranchStoreModel" "many" "[I") ∈ lw_ok := z_ok (z_t4 (List.mem_of_getElem? (i := 54) rfl)) rfl
theorem k_775 : (Cond.fieldLink "BranchStoreModel" (24 : Nat) "BranchStoreModel" "values" "[J") ∈ lw_ok := z_ok (z_t4 (List.mem_of_getElem? (i := 55) rfl)) rfl
theorem k_776 : (Cond.fieldLink "BranchStoreModel" (27 : Nat) "BranchStoreModel" "order" "[I") ∈ lw_ok := z_ok (z_t4 (List.mem_of_getElem? (i := 56) rfl)) rfl
theorem k_777 : (Cond.fieldLink "BranchStoreModel" (59 : Nat) "BranchStoreModel" "count" "I") ∈ lw_ok := z_ok (z_t4 (List.mem_of_getElem? (i := 57) rfl)) rfl
theorem k_778 : (Cond.fieldLink "BranchStoreModel" (30 : Nat) "BranchStoreModel" "free" "[I") ∈ lw_ok := z_ok (z_t4 (List.mem_of_getElem? (i := 58) rfl)) rfl
theorem k_779 : (Cond.fieldLink "BranchStoreModel" (49 : Nat) "BranchStoreModel" "frees" "I") ∈ lw_ok := z_ok (z_t4 (List.mem_of_getElem? (i := 59) rfl)) rfl
theorem k_780 : (Cond.fieldLink "BranchStoreModel" (79 : Nat) "BranchStoreModel" "cursor" "Z") ∈ lw_ok := z_ok (z_t4 (List.mem_of_getElem? (i := 60) rfl)) rfl
theorem k_781 : (Cond.fieldLink "BranchStoreModel" (52 : Nat) "BranchStoreModel" "thrown" "I") ∈ lw_ok := z_ok (z_t4 (List.mem_of_getElem? (i := 61) rfl)) rfl
theorem k_782 : (Cond.fieldLink "BranchStoreModel" (33 : Nat) "BranchStoreModel" "code" "[I") ∈ lw_ok := z_ok (z_t4 (List.mem_of_getElem? (i := 62) rfl)) rfl
theorem k_783 : (Cond.fieldLink "BranchStoreModel" (36 : Nat) "BranchStoreModel" "next" "[I") ∈ lw_ok := z_ok (z_t4 (List.mem_of_getElem? (i := 63) rfl)) rfl
theorem k_784 : (Cond.fieldLink "BranchStoreModel" (39 : Nat) "BranchStoreModel" "common" "[I") ∈ lw_ok := z_ok (z_t4 (List.mem_of_getElem? (i := 64) rfl)) rfl
theorem k_785 : (Cond.fieldLink "BranchStoreModel" (42 : Nat) "BranchStoreModel" "met" "[I") ∈ lw_ok := z_ok (z_t4 (List.mem_of_getElem? (i := 65) rfl)) rfl
theorem k_786 : (Cond.laysFinal "BranchStoreModel" "BranchStoreModel" "sort" "I") ∈ lw_ok := z_ok (z_t4 (List.mem_of_getElem? (i := 66) rfl)) rfl
theorem k_787 : (Cond.soleField "BranchStoreModel" "sort") ∈ lw_ok := z_ok (z_t4 (List.mem_of_getElem? (i := 67) rfl)) rfl
theorem k_788 : (Cond.laysFinal "BranchStoreModel" "BranchStoreModel" "first" "[J") ∈ lw_ok := z_ok (z_t4 (List.mem_of_getElem? (i := 68) rfl)) rfl
theorem k_789 : (Cond.soleField "BranchStoreModel" "first") ∈ lw_ok := z_ok (z_t4 (List.mem_of_getElem? (i := 69) rfl)) rfl
theorem k_790 : (Cond.laysFinal "BranchStoreModel" "BranchStoreModel" "second" "[J") ∈ lw_ok := z_ok (z_t4 (List.mem_of_getElem? (i := 70) rfl)) rfl
theorem k_791 : (Cond.soleField "BranchStoreModel" "second") ∈ lw_ok := z_ok (z_t4 (List.mem_of_getElem? (i := 71) rfl)) rfl
theorem k_792 : (Cond.laysFinal "BranchStoreModel" "BranchStoreModel" "letters" "[I") ∈ lw_ok := z_ok (z_t4 (List.mem_of_getElem? (i := 72) rfl)) rfl
theorem k_793 : (Cond.soleField "BranchStoreModel" "letters") ∈ lw_ok := z_ok (z_t4 (List.mem_of_getElem? (i := 73) rfl)) rfl
theorem k_794 : (Cond.laysFinal "BranchStoreModel" "BranchStoreModel" "many" "[I") ∈ lw_ok := z_ok (z_t4 (List.mem_of_getElem? (i := 74) rfl)) rfl
theorem k_795 : (Cond.soleField "BranchStoreModel" "many") ∈ lw_ok := z_ok (z_t4 (List.mem_of_getElem? (i := 75) rfl)) rfl
theorem k_796 : (Cond.laysFinal "BranchStoreModel" "BranchStoreModel" "values" "[J") ∈ lw_ok := z_ok (z_t4 (List.mem_of_getElem? (i := 76) rfl)) rfl
theorem k_797 : (Cond.soleField "BranchStoreModel" "values") ∈ lw_ok := z_ok (z_t4 (List.mem_of_getElem? (i := 77) rfl)) rfl
theorem k_798 : (Cond.laysFinal "BranchStoreModel" "BranchStoreModel" "order" "[I") ∈ lw_ok := z_ok (z_t4 (List.mem_of_getElem? (i := 78) rfl)) rfl
theorem k_799 : (Cond.soleField "BranchStoreModel" "order") ∈ lw_ok := z_ok (z_t4 (List.mem_of_getElem? (i := 79) rfl)) rfl
theorem k_800 : (Cond.lays "BranchStoreModel" "BranchStoreModel" "count" "I") ∈ lw_ok := z_ok (z_t4 (List.mem_of_getElem? (i := 80) rfl)) rfl
theorem k_801 : (Cond.soleField "BranchStoreModel" "count") ∈ lw_ok := z_ok (z_t4 (List.mem_of_getElem? (i := 81) rfl)) rfl
theorem k_802 : (Cond.laysFinal "BranchStoreModel" "BranchStoreModel" "free" "[I") ∈ lw_ok := z_ok (z_t4 (List.mem_of_getElem? (i := 82) rfl)) rfl
theorem k_803 : (Cond.soleField "BranchStoreModel" "free") ∈ lw_ok := z_ok (z_t4 (List.mem_of_getElem? (i := 83) rfl)) rfl
theorem k_804 : (Cond.lays "BranchStoreModel" "BranchStoreModel" "frees" "I") ∈ lw_ok := z_ok (z_t4 (List.mem_of_getElem? (i := 84) rfl)) rfl
theorem k_805 : (Cond.soleField "BranchStoreModel" "frees") ∈ lw_ok := z_ok (z_t4 (List.mem_of_getElem? (i := 85) rfl)) rfl
theorem k_806 : (Cond.lays "BranchStoreModel" "BranchStoreModel" "cursor" "Z") ∈ lw_ok := z_ok (z_t4 (List.mem_of_getElem? (i := 86) rfl)) rfl
theorem k_807 : (Cond.soleField "BranchStoreModel" "cursor") ∈ lw_ok := z_ok (z_t4 (List.mem_of_getElem? (i := 87) rfl)) rfl
theorem k_808 : (Cond.lays "BranchStoreModel" "BranchStoreModel" "thrown" "I") ∈ lw_ok := z_ok (z_t4 (List.mem_of_getElem? (i := 88) rfl)) rfl
theorem k_809 : (Cond.soleField "BranchStoreModel" "thrown") ∈ lw_ok := z_ok (z_t4 (List.mem_of_getElem? (i := 89) rfl)) rfl
theorem k_810 : (Cond.laysFinal "BranchStoreModel" "BranchStoreModel" "code" "[I") ∈ lw_ok := z_ok (z_t4 (List.mem_of_getElem? (i := 90) rfl)) rfl
theorem k_811 : (Cond.soleField "BranchStoreModel" "code") ∈ lw_ok := z_ok (z_t4 (List.mem_of_getElem? (i := 91) rfl)) rfl
theorem k_812 : (Cond.laysFinal "BranchStoreModel" "BranchStoreModel" "next" "[I") ∈ lw_ok := z_ok (z_t4 (List.mem_of_getElem? (i := 92) rfl)) rfl
theorem k_813 : (Cond.soleField "BranchStoreModel" "next") ∈ lw_ok := z_ok (z_t4 (List.mem_of_getElem? (i := 93) rfl)) rfl
theorem k_814 : (Cond.laysFinal "BranchStoreModel" "BranchStoreModel" "common" "[I") ∈ lw_ok := z_ok (z_t4 (List.mem_of_getElem? (i := 94) rfl)) rfl
theorem k_815 : (Cond.soleField "BranchStoreModel" "common") ∈ lw_ok := z_ok (z_t4 (List.mem_of_getElem? (i := 95) rfl)) rfl
theorem k_816 : (Cond.laysFinal "BranchStoreModel" "BranchStoreModel" "met" "[I") ∈ lw_ok := z_ok (z_t4 (List.mem_of_getElem? (i := 96) rfl)) rfl
theorem k_817 : (Cond.soleField "BranchStoreModel" "met") ∈ lw_ok := z_ok (z_t4 (List.mem_of_getElem? (i := 97) rfl)) rfl
theorem k_818 : (Cond.superclass "BranchStoreModel" "java/lang/Object") ∈ lw_ok := z_ok (z_t4 (List.mem_of_getElem? (i := 98) rfl)) rfl
theorem k_819 : (Cond.arrayClass FieldType.long) ∈ lw_ok := z_ok (z_t4 (List.mem_of_getElem? (i := 99) rfl)) rfl
theorem k_820 : (Cond.methodLink "BranchStoreLaw" (95 : Nat) ({ cls := "BranchStoreModel", name := "thrown", desc := "()I" } : Jvm.MethodName)) ∈ lw_ok := z_ok (z_t4 (List.mem_of_getElem? (i := 100) rfl)) rfl
theorem k_821 : (Cond.instanceMethod ({ cls := "BranchStoreModel", name := "thrown", desc := "()I" } : Jvm.MethodName)) ∈ lw_ok := z_ok (z_t4 (List.mem_of_getElem? (i := 101) rfl)) rfl
theorem k_822 : (Cond.selects "BranchStoreModel" ({ cls := "BranchStoreModel", name := "thrown", desc := "()I" } : Jvm.MethodName) ({ cls := "BranchStoreModel", name := "thrown", desc := "()I" } : Jvm.MethodName)) ∈ lw_ok := z_ok (z_t4 (List.mem_of_getElem? (i := 102) rfl)) rfl
theorem k_823 : (Cond.code ({ cls := "BranchStoreModel", name := "thrown", desc := "()I" } : Jvm.MethodName) prog_9_method_2_code (1 : Nat) (Option.some FieldType.int)) ∈ lw_ok := z_ok (z_t4 (List.mem_of_getElem? (i := 103) rfl)) rfl
theorem k_824 : (Cond.methodLink "BranchStoreLaw" (94 : Nat) ({ cls := "BranchStoreModel", name := "number", desc := "(J)V" } : Jvm.MethodName)) ∈ lw_ok := z_ok (z_t4 (List.mem_of_getElem? (i := 104) rfl)) rfl
theorem k_825 : (Cond.instanceMethod ({ cls := "BranchStoreModel", name := "number", desc := "(J)V" } : Jvm.MethodName)) ∈ lw_ok := z_ok (z_t4 (List.mem_of_getElem? (i := 105) rfl)) rfl
theorem k_826 : (Cond.selects "BranchStoreModel" ({ cls := "BranchStoreModel", name := "number", desc := "(J)V" } : Jvm.MethodName) ({ cls := "BranchStoreModel", name := "number", desc := "(J)V" } : Jvm.MethodName)) ∈ lw_ok := z_ok (z_t4 (List.mem_of_getElem? (i := 106) rfl)) rfl
theorem k_827 : (Cond.code ({ cls := "BranchStoreModel", name := "number", desc := "(J)V" } : Jvm.MethodName) prog_9_method_12_code (3 : Nat) (Option.none : Option FieldType)) ∈ lw_ok := z_ok (z_t4 (List.mem_of_getElem? (i := 107) rfl)) rfl
theorem k_828 : (Cond.methodLink "BranchStoreModel" (70 : Nat) ({ cls := "BranchStoreModel", name := "fails", desc := "(ZI)Z" } : Jvm.MethodName)) ∈ lw_ok := z_ok (z_t4 (List.mem_of_getElem? (i := 108) rfl)) rfl
theorem k_829 : (Cond.privateMethod ({ cls := "BranchStoreModel", name := "fails", desc := "(ZI)Z" } : Jvm.MethodName)) ∈ lw_tbl := z_t4 (List.mem_of_getElem? (i := 109) rfl)
theorem k_830 : (Cond.instanceMethod ({ cls := "BranchStoreModel", name := "fails", desc := "(ZI)Z" } : Jvm.MethodName)) ∈ lw_ok := z_ok (z_t4 (List.mem_of_getElem? (i := 110) rfl)) rfl
theorem k_831 : (Cond.code ({ cls := "BranchStoreModel", name := "fails", desc := "(ZI)Z" } : Jvm.MethodName) prog_9_method_3_code (3 : Nat) (Option.some FieldType.boolean)) ∈ lw_ok := z_ok (z_t4 (List.mem_of_getElem? (i := 111) rfl)) rfl
theorem k_832 : (Cond.methodLink "BranchStoreLaw" (101 : Nat) ({ cls := "BranchStoreModel", name := "pair", desc := "(JJ)V" } : Jvm.MethodName)) ∈ lw_ok := z_ok (z_t4 (List.mem_of_getElem? (i := 112) rfl)) rfl
theorem k_833 : (Cond.instanceMethod ({ cls := "BranchStoreModel", name := "pair", desc := "(JJ)V" } : Jvm.MethodName)) ∈ lw_ok := z_ok (z_t4 (List.mem_of_getElem? (i := 113) rfl)) rfl
theorem k_834 : (Cond.selects "BranchStoreModel" ({ cls := "BranchStoreModel", name := "pair", desc := "(JJ)V" } : Jvm.MethodName) ({ cls := "BranchStoreModel", name := "pair", desc := "(JJ)V" } : Jvm.MethodName)) ∈ lw_ok := z_ok (z_t4 (List.mem_of_getElem? (i := 114) rfl)) rfl
theorem k_835 : (Cond.code ({ cls := "BranchStoreModel", name := "pair", desc := "(JJ)V" } : Jvm.MethodName) prog_9_method_13_code (5 : Nat) (Option.none : Option FieldType)) ∈ lw_ok := z_ok (z_t4 (List.mem_of_getElem? (i := 115) rfl)) rfl
theorem k_836 : (Cond.methodLink "BranchStoreLaw" (105 : Nat) ({ cls := "BranchStoreModel", name := "letter", desc := "(I)I" } : Jvm.MethodName)) ∈ lw_ok := z_ok (z_t4 (List.mem_of_getElem? (i := 116) rfl)) rfl
theorem k_837 : (Cond.instanceMethod ({ cls := "BranchStoreModel", name := "letter", desc := "(I)I" } : Jvm.MethodName)) ∈ lw_ok := z_ok (z_t4 (List.mem_of_getElem? (i := 117) rfl)) rfl
theorem k_838 : (Cond.selects "BranchStoreModel" ({ cls := "BranchStoreModel", name := "letter", desc := "(I)I" } : Jvm.MethodName) ({ cls := "BranchStoreModel", name := "letter", desc := "(I)I" } : Jvm.MethodName)) ∈ lw_ok := z_ok (z_t4 (List.mem_of_getElem? (i := 118) rfl)) rfl
theorem k_839 : (Cond.code ({ cls := "BranchStoreModel", name := "letter", desc := "(I)I" } : Jvm.MethodName) prog_9_method_14_code (2 : Nat) (Option.some FieldType.int)) ∈ lw_ok := z_ok (z_t4 (List.mem_of_getElem? (i := 119) rfl)) rfl
theorem k_840 : (Cond.constant "BranchStoreModel" (74 : Nat) (36000 : Int32)) ∈ lw_ok := z_ok (z_t4 (List.mem_of_getElem? (i := 120) rfl)) rfl
theorem k_841 : (Cond.methodLink "BranchStoreLaw" (109 : Nat) ({ cls := "BranchStoreModel", name := "erase", desc := "()V" } : Jvm.MethodName)) ∈ lw_ok := z_ok (z_t4 (List.mem_of_getElem? (i := 121) rfl)) rfl
theorem k_842 : (Cond.instanceMethod ({ cls := "BranchStoreModel", name := "erase", desc := "()V" } : Jvm.MethodName)) ∈ lw_ok := z_ok (z_t4 (List.mem_of_getElem? (i := 122) rfl)) rfl
theorem k_843 : (Cond.selects "BranchStoreModel" ({ cls := "BranchStoreModel", name := "erase", desc := "()V" } : Jvm.MethodName) ({ cls := "BranchStoreModel", name := "erase", desc := "()V" } : Jvm.MethodName)) ∈ lw_ok := z_ok (z_t4 (List.mem_of_getElem? (i := 123) rfl)) rfl
theorem k_844 : (Cond.code ({ cls := "BranchStoreModel", name := "erase", desc := "()V" } : Jvm.MethodName) prog_9_method_15_code (1 : Nat) (Option.none : Option FieldType)) ∈ lw_ok := z_ok (z_t4 (List.mem_of_getElem? (i := 124) rfl)) rfl
theorem k_845 : (Cond.methodLink "BranchStoreModel" (75 : Nat) ({ cls := "BranchStoreModel", name := "blank", desc := "(I)V" } : Jvm.MethodName)) ∈ lw_ok := z_ok (z_t4 (List.mem_of_getElem? (i := 125) rfl)) rfl
theorem k_846 : (Cond.privateMethod ({ cls := "BranchStoreModel", name := "blank", desc := "(I)V" } : Jvm.MethodName)) ∈ lw_tbl := z_t4 (List.mem_of_getElem? (i := 126) rfl)
theorem k_847 : (Cond.instanceMethod ({ cls := "BranchStoreModel", name := "blank", desc := "(I)V" } : Jvm.MethodName)) ∈ lw_ok := z_ok (z_t4 (List.mem_of_getElem? (i := 127) rfl)) rfl
theorem k_848 : (Cond.code ({ cls := "BranchStoreModel", name := "blank", desc := "(I)V" } : Jvm.MethodName) prog_9_method_7_code (2 : Nat) (Option.none : Option FieldType)) ∈ lw_ok := z_ok (z_t4 (List.mem_of_getElem? (i := 128) rfl)) rfl
theorem k_849 : (Cond.methodLink "BranchStoreLaw" (113 : Nat) ({ cls := "BranchStoreModel", name := "keep", desc := "()V" } : Jvm.MethodName)) ∈ lw_ok := z_ok (z_t4 (List.mem_of_getElem? (i := 129) rfl)) rfl
theorem k_850 : (Cond.instanceMethod ({ cls := "BranchStoreModel", name := "keep", desc := "()V" } : Jvm.MethodName)) ∈ lw_ok := z_ok (z_t4 (List.mem_of_getElem? (i := 130) rfl)) rfl
theorem k_851 : (Cond.selects "BranchStoreModel" ({ cls := "BranchStoreModel", name := "keep", desc := "()V" } : Jvm.MethodName) ({ cls := "BranchStoreModel", name := "keep", desc := "()V" } : Jvm.MethodName)) ∈ lw_ok := z_ok (z_t4 (List.mem_of_getElem? (i := 131) rfl)) rfl
theorem k_852 : (Cond.code ({ cls := "BranchStoreModel", name := "keep", desc := "()V" } : Jvm.MethodName) prog_9_method_16_code (1 : Nat) (Option.none : Option FieldType)) ∈ lw_ok := z_ok (z_t4 (List.mem_of_getElem? (i := 132) rfl)) rfl
theorem k_853 : (Cond.methodLink "BranchStoreModel" (66 : Nat) ({ cls := "BranchStoreModel", name := "copy", desc := "(II)V" } : Jvm.MethodName)) ∈ lw_ok := z_ok (z_t4 (List.mem_of_getElem? (i := 133) rfl)) rfl
theorem k_854 : (Cond.privateMethod ({ cls := "BranchStoreModel", name := "copy", desc := "(II)V" } : Jvm.MethodName)) ∈ lw_tbl := z_t4 (List.mem_of_getElem? (i := 134) rfl)
theorem k_855 : (Cond.instanceMethod ({ cls := "BranchStoreModel", name := "copy", desc := "(II)V" } : Jvm.MethodName)) ∈ lw_ok := z_ok (z_t4 (List.mem_of_getElem? (i := 135) rfl)) rfl
theorem k_856 : (Cond.code ({ cls := "BranchStoreModel", name := "copy", desc := "(II)V" } : Jvm.MethodName) prog_9_method_6_code (4 : Nat) (Option.none : Option FieldType)) ∈ lw_ok := z_ok (z_t4 (List.mem_of_getElem? (i := 136) rfl)) rfl
theorem k_857 : (Cond.methodLink "BranchStoreLaw" (117 : Nat) ({ cls := "BranchStoreModel", name := "take", desc := "()V" } : Jvm.MethodName)) ∈ lw_ok := z_ok (z_t4 (List.mem_of_getElem? (i := 137) rfl)) rfl
theorem k_858 : (Cond.instanceMethod ({ cls := "BranchStoreModel", name := "take", desc := "()V" } : Jvm.MethodName)) ∈ lw_ok := z_ok (z_t4 (List.mem_of_getElem? (i := 138) rfl)) rfl
theorem k_859 : (Cond.selects "BranchStoreModel" ({ cls := "BranchStoreModel", name := "take", desc := "()V" } : Jvm.MethodName) ({ cls := "BranchStoreModel", name := "take", desc := "()V" } : Jvm.MethodName)) ∈ lw_ok := z_ok (z_t4 (List.mem_of_getElem? (i := 139) rfl)) rfl
theorem k_860 : (Cond.code ({ cls := "BranchStoreModel", name := "take", desc := "()V" } : Jvm.MethodName) prog_9_method_17_code (1 : Nat) (Option.none : Option FieldType)) ∈ lw_ok := z_ok (z_t4 (List.mem_of_getElem? (i := 140) rfl)) rfl
theorem k_861 : (Cond.methodLink "BranchStoreLaw" (121 : Nat) ({ cls := "BranchStoreModel", name := "put", desc := "(J)Z" } : Jvm.MethodName)) ∈ lw_ok := z_ok (z_t4 (List.mem_of_getElem? (i := 141) rfl)) rfl
theorem k_862 : (Cond.instanceMethod ({ cls := "BranchStoreModel", name := "put", desc := "(J)Z" } : Jvm.MethodName)) ∈ lw_ok := z_ok (z_t4 (List.mem_of_getElem? (i := 142) rfl)) rfl
theorem k_863 : (Cond.selects "BranchStoreModel" ({ cls := "BranchStoreModel", name := "put", desc := "(J)Z" } : Jvm.MethodName) ({ cls := "BranchStoreModel", name := "put", desc := "(J)Z" } : Jvm.MethodName)) ∈ lw_ok := z_ok (z_t4 (List.mem_of_getElem? (i := 143) rfl)) rfl
theorem k_864 : (Cond.code ({ cls := "BranchStoreModel", name := "put", desc := "(J)Z" } : Jvm.MethodName) prog_9_method_18_code (5 : Nat) (Option.some FieldType.boolean)) ∈ lw_ok := z_ok (z_t4 (List.mem_of_getElem? (i := 144) rfl)) rfl
theorem k_865 : (Cond.methodLink "BranchStoreModel" (83 : Nat) ({ cls := "BranchStoreModel", name := "below", desc := "(I)I" } : Jvm.MethodName)) ∈ lw_ok := z_ok (z_t4 (List.mem_of_getElem? (i := 145) rfl)) rfl
theorem k_866 : (Cond.privateMethod ({ cls := "BranchStoreModel", name := "below", desc := "(I)I" } : Jvm.MethodName)) ∈ lw_tbl := z_t4 (List.mem_of_getElem? (i := 146) rfl)
theorem k_867 : (Cond.instanceMethod ({ cls := "BranchStoreModel", name := "below", desc := "(I)I" } : Jvm.MethodName)) ∈ lw_ok := z_ok (z_t4 (List.mem_of_getElem? (i := 147) rfl)) rfl
theorem k_868 : (Cond.code ({ cls := "BranchStoreModel", name := "below", desc := "(I)I" } : Jvm.MethodName) prog_9_method_8_code (5 : Nat) (Option.some FieldType.int)) ∈ lw_ok := z_ok (z_t4 (List.mem_of_getElem? (i := 148) rfl)) rfl
theorem k_869 : (Cond.methodLink "BranchStoreModel" (62 : Nat) ({ cls := "BranchStoreModel", name := "compare", desc := "(II)I" } : Jvm.MethodName)) ∈ lw_ok := z_ok (z_t4 (List.mem_of_getElem? (i := 149) rfl)) rfl
theorem k_870 : (Cond.privateMethod ({ cls := "BranchStoreModel", name := "compare", desc := "(II)I" } : Jvm.MethodName)) ∈ lw_tbl := z_t4 (List.mem_of_getElem? (i := 150) rfl)
theorem k_871 : (Cond.instanceMethod ({ cls := "BranchStoreModel", name := "compare", desc := "(II)I" } : Jvm.MethodName)) ∈ lw_ok := z_ok (z_t4 (List.mem_of_getElem? (i := 151) rfl)) rfl
theorem k_872 : (Cond.code ({ cls := "BranchStoreModel", name := "compare", desc := "(II)I" } : Jvm.MethodName) prog_9_method_5_code (6 : Nat) (Option.some FieldType.int)) ∈ lw_ok := z_ok (z_t4 (List.mem_of_getElem? (i := 152) rfl)) rfl
theorem k_873 : (Cond.methodLink "BranchStoreModel" (55 : Nat) ({ cls := "BranchStoreModel", name := "byOrder", desc := "(JJ)I" } : Jvm.MethodName)) ∈ lw_ok := z_ok (z_t4 (List.mem_of_getElem? (i := 153) rfl)) rfl
theorem k_874 : (Cond.static ({ cls := "BranchStoreModel", name := "byOrder", desc := "(JJ)I" } : Jvm.MethodName)) ∈ lw_ok := z_ok (z_t4 (List.mem_of_getElem? (i := 154) rfl)) rfl
theorem k_875 : (Cond.code ({ cls := "BranchStoreModel", name := "byOrder", desc := "(JJ)I" } : Jvm.MethodName) prog_9_method_4_code (4 : Nat) (Option.some FieldType.int)) ∈ lw_ok := z_ok (z_t4 (List.mem_of_getElem? (i := 155) rfl)) rfl
theorem k_876 : (Cond.methodLink "BranchStoreModel" (87 : Nat) ({ cls := "BranchStoreModel", name := "isAt", desc := "(II)Z" } : Jvm.MethodName)) ∈ lw_ok := z_ok (z_t4 (List.mem_of_getElem? (i := 156) rfl)) rfl
theorem k_877 : (Cond.privateMethod ({ cls := "BranchStoreModel", name := "isAt", desc := "(II)Z" } : Jvm.MethodName)) ∈ lw_tbl := z_t4 (List.mem_of_getElem? (i := 157) rfl)
theorem k_878 : (Cond.instanceMethod ({ cls := "BranchStoreModel", name := "isAt", desc := "(II)Z" } : Jvm.MethodName)) ∈ lw_ok := z_ok (z_t4 (List.mem_of_getElem? (i := 158) rfl)) rfl
theorem k_879 : (Cond.code ({ cls := "BranchStoreModel", name := "isAt", desc := "(II)Z" } : Jvm.MethodName) prog_9_method_9_code (3 : Nat) (Option.some FieldType.boolean)) ∈ lw_ok := z_ok (z_t4 (List.mem_of_getElem? (i := 159) rfl)) rfl
theorem k_880 : (Cond.methodLink "BranchStoreModel" (91 : Nat) ({ cls := "BranchStoreModel", name := "insert", desc := "(IIJ)V" } : Jvm.MethodName)) ∈ lw_ok := z_ok (z_t4 (List.mem_of_getElem? (i := 160) rfl)) rfl
theorem k_881 : (Cond.privateMethod ({ cls := "BranchStoreModel", name := "insert", desc := "(IIJ)V" } : Jvm.MethodName)) ∈ lw_tbl := z_t4 (List.mem_of_getElem? (i := 161) rfl)
theorem k_882 : (Cond.instanceMethod ({ cls := "BranchStoreModel", name := "insert", desc := "(IIJ)V" } : Jvm.MethodName)) ∈ lw_ok := z_ok (z_t4 (List.mem_of_getElem? (i := 162) rfl)) rfl
theorem k_883 : (Cond.code ({ cls := "BranchStoreModel", name := "insert", desc := "(IIJ)V" } : Jvm.MethodName) prog_9_method_10_code (6 : Nat) (Option.none : Option FieldType)) ∈ lw_ok := z_ok (z_t4 (List.mem_of_getElem? (i := 163) rfl)) rfl
theorem k_884 : (Cond.methodLink "BranchStoreLaw" (125 : Nat) ({ cls := "BranchStoreModel", name := "get", desc := "()J" } : Jvm.MethodName)) ∈ lw_ok := z_ok (z_t4 (List.mem_of_getElem? (i := 164) rfl)) rfl
theorem k_885 : (Cond.instanceMethod ({ cls := "BranchStoreModel", name := "get", desc := "()J" } : Jvm.MethodName)) ∈ lw_ok := z_ok (z_t4 (List.mem_of_getElem? (i := 165) rfl)) rfl
theorem k_886 : (Cond.selects "BranchStoreModel" ({ cls := "BranchStoreModel", name := "get", desc := "()J" } : Jvm.MethodName) ({ cls := "BranchStoreModel", name := "get", desc := "()J" } : Jvm.MethodName)) ∈ lw_ok := z_ok (z_t4 (List.mem_of_getElem? (i := 166) rfl)) rfl
theorem k_887 : (Cond.code ({ cls := "BranchStoreModel", name := "get", desc := "()J" } : Jvm.MethodName) prog_9_method_19_code (2 : Nat) (Option.some FieldType.long)) ∈ lw_ok := z_ok (z_t4 (List.mem_of_getElem? (i := 167) rfl)) rfl
theorem k_888 : (Cond.methodLink "BranchStoreLaw" (128 : Nat) ({ cls := "BranchStoreModel", name := "remove", desc := "()J" } : Jvm.MethodName)) ∈ lw_ok := z_ok (z_t4 (List.mem_of_getElem? (i := 168) rfl)) rfl
theorem k_889 : (Cond.instanceMethod ({ cls := "BranchStoreModel", name := "remove", desc := "()J" } : Jvm.MethodName)) ∈ lw_ok := z_ok (z_t4 (List.mem_of_getElem? (i := 169) rfl)) rfl
theorem k_890 : (Cond.selects "BranchStoreModel" ({ cls := "BranchStoreModel", name := "remove", desc := "()J" } : Jvm.MethodName) ({ cls := "BranchStoreModel", name := "remove", desc := "()J" } : Jvm.MethodName)) ∈ lw_ok := z_ok (z_t4 (List.mem_of_getElem? (i := 170) rfl)) rfl
theorem k_891 : (Cond.code ({ cls := "BranchStoreModel", name := "remove", desc := "()J" } : Jvm.MethodName) prog_9_method_20_code (4 : Nat) (Option.some FieldType.long)) ∈ lw_ok := z_ok (z_t4 (List.mem_of_getElem? (i := 171) rfl)) rfl
theorem k_892 : (Cond.methodLink "BranchStoreModel" (95 : Nat) ({ cls := "BranchStoreModel", name := "delete", desc := "(I)V" } : Jvm.MethodName)) ∈ lw_ok := z_ok (z_t4 (List.mem_of_getElem? (i := 172) rfl)) rfl
theorem k_893 : (Cond.privateMethod ({ cls := "BranchStoreModel", name := "delete", desc := "(I)V" } : Jvm.MethodName)) ∈ lw_tbl := z_t4 (List.mem_of_getElem? (i := 173) rfl)
theorem k_894 : (Cond.instanceMethod ({ cls := "BranchStoreModel", name := "delete", desc := "(I)V" } : Jvm.MethodName)) ∈ lw_ok := z_ok (z_t4 (List.mem_of_getElem? (i := 174) rfl)) rfl
theorem k_895 : (Cond.code ({ cls := "BranchStoreModel", name := "delete", desc := "(I)V" } : Jvm.MethodName) prog_9_method_11_code (3 : Nat) (Option.none : Option FieldType)) ∈ lw_ok := z_ok (z_t4 (List.mem_of_getElem? (i := 175) rfl)) rfl
theorem k_896 : (Cond.methodLink "BranchStoreLaw" (131 : Nat) ({ cls := "BranchStoreModel", name := "seek", desc := "(I)Z" } : Jvm.MethodName)) ∈ lw_ok := z_ok (z_t4 (List.mem_of_getElem? (i := 176) rfl)) rfl
theorem k_897 : (Cond.instanceMethod ({ cls := "BranchStoreModel", name := "seek", desc := "(I)Z" } : Jvm.MethodName)) ∈ lw_ok := z_ok (z_t4 (List.mem_of_getElem? (i := 177) rfl)) rfl
theorem k_898 : (Cond.selects "BranchStoreModel" ({ cls := "BranchStoreModel", name := "seek", desc := "(I)Z" } : Jvm.MethodName) ({ cls := "BranchStoreModel", name := "seek", desc := "(I)Z" } : Jvm.MethodName)) ∈ lw_ok := z_ok (z_t4 (List.mem_of_getElem? (i := 178) rfl)) rfl
theorem k_899 : (Cond.code ({ cls := "BranchStoreModel", name := "seek", desc := "(I)Z" } : Jvm.MethodName) prog_9_method_22_code (4 : Nat) (Option.some FieldType.boolean)) ∈ lw_ok := z_ok (z_t4 (List.mem_of_getElem? (i := 179) rfl)) rfl
theorem k_900 : (Cond.methodLink "BranchStoreModel" (98 : Nat) ({ cls := "BranchStoreModel", name := "goes", desc := "(I)Z" } : Jvm.MethodName)) ∈ lw_ok := z_ok (z_t4 (List.mem_of_getElem? (i := 180) rfl)) rfl
theorem k_901 : (Cond.privateMethod ({ cls := "BranchStoreModel", name := "goes", desc := "(I)Z" } : Jvm.MethodName)) ∈ lw_tbl := z_t4 (List.mem_of_getElem? (i := 181) rfl)
theorem k_902 : (Cond.instanceMethod ({ cls := "BranchStoreModel", name := "goes", desc := "(I)Z" } : Jvm.MethodName)) ∈ lw_ok := z_ok (z_t4 (List.mem_of_getElem? (i := 182) rfl)) rfl
theorem k_903 : (Cond.code ({ cls := "BranchStoreModel", name := "goes", desc := "(I)Z" } : Jvm.MethodName) prog_9_method_21_code (2 : Nat) (Option.some FieldType.boolean)) ∈ lw_ok := z_ok (z_t4 (List.mem_of_getElem? (i := 183) rfl)) rfl
theorem k_904 : (Cond.methodLink "BranchStoreLaw" (135 : Nat) ({ cls := "BranchStoreModel", name := "move", desc := "(Z)Z" } : Jvm.MethodName)) ∈ lw_ok := z_ok (z_t4 (List.mem_of_getElem? (i := 184) rfl)) rfl
theorem k_905 : (Cond.instanceMethod ({ cls := "BranchStoreModel", name := "move", desc := "(Z)Z" } : Jvm.MethodName)) ∈ lw_ok := z_ok (z_t4 (List.mem_of_getElem? (i := 185) rfl)) rfl
theorem k_906 : (Cond.selects "BranchStoreModel" ({ cls := "BranchStoreModel", name := "move", desc := "(Z)Z" } : Jvm.MethodName) ({ cls := "BranchStoreModel", name := "move", desc := "(Z)Z" } : Jvm.MethodName)) ∈ lw_ok := z_ok (z_t4 (List.mem_of_getElem? (i := 186) rfl)) rfl
theorem k_907 : (Cond.code ({ cls := "BranchStoreModel", name := "move", desc := "(Z)Z" } : Jvm.MethodName) prog_9_method_23_code (3 : Nat) (Option.some FieldType.boolean)) ∈ lw_ok := z_ok (z_t4 (List.mem_of_getElem? (i := 187) rfl)) rfl
theorem k_908 : (Cond.methodLink "BranchStoreLaw" (140 : Nat) ({ cls := "BranchStoreModel", name := "there", desc := "()Z" } : Jvm.MethodName)) ∈ lw_ok := z_ok (z_t4 (List.mem_of_getElem? (i := 188) rfl)) rfl
theorem k_909 : (Cond.instanceMethod ({ cls := "BranchStoreModel", name := "there", desc := "()Z" } : Jvm.MethodName)) ∈ lw_ok := z_ok (z_t4 (List.mem_of_getElem? (i := 189) rfl)) rfl
theorem k_910 : (Cond.selects "BranchStoreModel" ({ cls := "BranchStoreModel", name := "there", desc := "()Z" } : Jvm.MethodName) ({ cls := "BranchStoreModel", name := "there", desc := "()Z" } : Jvm.MethodName)) ∈ lw_ok := z_ok (z_t4 (List.mem_of_getElem? (i := 190) rfl)) rfl
theorem k_911 : (Cond.code ({ cls := "BranchStoreModel", name := "there", desc := "()Z" } : Jvm.MethodName) prog_9_method_24_code (1 : Nat) (Option.some FieldType.boolean)) ∈ lw_ok := z_ok (z_t4 (List.mem_of_getElem? (i := 191) rfl)) rfl
theorem k_912 : (Cond.methodLink "BranchStoreLaw" (143 : Nat) ({ cls := "BranchStoreModel", name := "length", desc := "()I" } : Jvm.MethodName)) ∈ lw_ok := z_ok (z_t4 (List.mem_of_getElem? (i := 192) rfl)) rfl
theorem k_913 : (Cond.instanceMethod ({ cls := "BranchStoreModel", name := "length", desc := "()I" } : Jvm.MethodName)) ∈ lw_ok := z_ok (z_t4 (List.mem_of_getElem? (i := 193) rfl)) rfl
theorem k_914 : (Cond.selects "BranchStoreModel" ({ cls := "BranchStoreModel", name := "length", desc := "()I" } : Jvm.MethodName) ({ cls := "BranchStoreModel", name := "length", desc := "()I" } : Jvm.MethodName)) ∈ lw_ok := z_ok (z_t4 (List.mem_of_getElem? (i := 194) rfl)) rfl
theorem k_915 : (Cond.code ({ cls := "BranchStoreModel", name := "length", desc := "()I" } : Jvm.MethodName) prog_9_method_25_code (1 : Nat) (Option.some FieldType.int)) ∈ lw_ok := z_ok (z_t4 (List.mem_of_getElem? (i := 195) rfl)) rfl
theorem k_916 : (Cond.methodLink "BranchStoreLaw" (146 : Nat) ({ cls := "BranchStoreModel", name := "part", desc := "(I)J" } : Jvm.MethodName)) ∈ lw_ok := z_ok (z_t4 (List.mem_of_getElem? (i := 196) rfl)) rfl
theorem k_917 : (Cond.instanceMethod ({ cls := "BranchStoreModel", name := "part", desc := "(I)J" } : Jvm.MethodName)) ∈ lw_ok := z_ok (z_t4 (List.mem_of_getElem? (i := 197) rfl)) rfl
theorem k_918 : (Cond.selects "BranchStoreModel" ({ cls := "BranchStoreModel", name := "part", desc := "(I)J" } : Jvm.MethodName) ({ cls := "BranchStoreModel", name := "part", desc := "(I)J" } : Jvm.MethodName)) ∈ lw_ok := z_ok (z_t4 (List.mem_of_getElem? (i := 198) rfl)) rfl
theorem k_919 : (Cond.code ({ cls := "BranchStoreModel", name := "part", desc := "(I)J" } : Jvm.MethodName) prog_9_method_26_code (3 : Nat) (Option.some FieldType.long)) ∈ lw_ok := z_ok (z_t4 (List.mem_of_getElem? (i := 199) rfl)) rfl
theorem k_920 : (Cond.constant "BranchStoreModel" (102 : Nat) (36048 : Int32)) ∈ lw_ok := z_ok (z_t4 (List.mem_of_getElem? (i := 200) rfl)) rfl
theorem k_921 : (Cond.methodLink "BranchStoreLaw" (149 : Nat) ({ cls := "BranchStoreModel", name := "value", desc := "()J" } : Jvm.MethodName)) ∈ lw_ok := z_ok (z_t4 (List.mem_of_getElem? (i := 201) rfl)) rfl
theorem k_922 : (Cond.instanceMethod ({ cls := "BranchStoreModel", name := "value", desc := "()J" } : Jvm.MethodName)) ∈ lw_ok := z_ok (z_t4 (List.mem_of_getElem? (i := 202) rfl)) rfl
theorem k_923 : (Cond.selects "BranchStoreModel" ({ cls := "BranchStoreModel", name := "value", desc := "()J" } : Jvm.MethodName) ({ cls := "BranchStoreModel", name := "value", desc := "()J" } : Jvm.MethodName)) ∈ lw_ok := z_ok (z_t4 (List.mem_of_getElem? (i := 203) rfl)) rfl
theorem k_924 : (Cond.code ({ cls := "BranchStoreModel", name := "value", desc := "()J" } : Jvm.MethodName) prog_9_method_27_code (2 : Nat) (Option.some FieldType.long)) ∈ lw_ok := z_ok (z_t4 (List.mem_of_getElem? (i := 204) rfl)) rfl
theorem k_925 : (Cond.methodLink "BranchStoreLaw" (153 : Nat) ({ cls := "BranchStoreModel", name := "rank", desc := "()I" } : Jvm.MethodName)) ∈ lw_ok := z_ok (z_t4 (List.mem_of_getElem? (i := 205) rfl)) rfl
theorem k_926 : (Cond.instanceMethod ({ cls := "BranchStoreModel", name := "rank", desc := "()I" } : Jvm.MethodName)) ∈ lw_ok := z_ok (z_t4 (List.mem_of_getElem? (i := 206) rfl)) rfl
theorem k_927 : (Cond.selects "BranchStoreModel" ({ cls := "BranchStoreModel", name := "rank", desc := "()I" } : Jvm.MethodName) ({ cls := "BranchStoreModel", name := "rank", desc := "()I" } : Jvm.MethodName)) ∈ lw_ok := z_ok (z_t4 (List.mem_of_getElem? (i := 207) rfl)) rfl
theorem k_928 : (Cond.code ({ cls := "BranchStoreModel", name := "rank", desc := "()I" } : Jvm.MethodName) prog_9_method_28_code (1 : Nat) (Option.some FieldType.int)) ∈ lw_ok := z_ok (z_t4 (List.mem_of_getElem? (i := 208) rfl)) rfl
theorem k_929 : (Cond.methodLink "BranchStoreLaw" (157 : Nat) ({ cls := "BranchStoreModel", name := "select", desc := "(I)V" } : Jvm.MethodName)) ∈ lw_ok := z_ok (z_t4 (List.mem_of_getElem? (i := 209) rfl)) rfl
theorem k_930 : (Cond.instanceMethod ({ cls := "BranchStoreModel", name := "select", desc := "(I)V" } : Jvm.MethodName)) ∈ lw_ok := z_ok (z_t4 (List.mem_of_getElem? (i := 210) rfl)) rfl
theorem k_931 : (Cond.selects "BranchStoreModel" ({ cls := "BranchStoreModel", name := "select", desc := "(I)V" } : Jvm.MethodName) ({ cls := "BranchStoreModel", name := "select", desc := "(I)V" } : Jvm.MethodName)) ∈ lw_ok := z_ok (z_t4 (List.mem_of_getElem? (i := 211) rfl)) rfl
theorem k_932 : (Cond.code ({ cls := "BranchStoreModel", name := "select", desc := "(I)V" } : Jvm.MethodName) prog_9_method_29_code (2 : Nat) (Option.none : Option FieldType)) ∈ lw_ok := z_ok (z_t4 (List.mem_of_getElem? (i := 212) rfl)) rfl
theorem k_933 : (Cond.methodLink "BranchStoreLaw" (161 : Nat) ({ cls := "BranchStoreModel", name := "range", desc := "()I" } : Jvm.MethodName)) ∈ lw_ok := z_ok (z_t4 (List.mem_of_getElem? (i := 213) rfl)) rfl
theorem k_934 : (Cond.instanceMethod ({ cls := "BranchStoreModel", name := "range", desc := "()I" } : Jvm.MethodName)) ∈ lw_ok := z_ok (z_t4 (List.mem_of_getElem? (i := 214) rfl)) rfl
theorem k_935 : (Cond.selects "BranchStoreModel" ({ cls := "BranchStoreModel", name := "range", desc := "()I" } : Jvm.MethodName) ({ cls := "BranchStoreModel", name := "range", desc := "()I" } : Jvm.MethodName)) ∈ lw_ok := z_ok (z_t4 (List.mem_of_getElem? (i := 215) rfl)) rfl
theorem k_936 : (Cond.code ({ cls := "BranchStoreModel", name := "range", desc := "()I" } : Jvm.MethodName) prog_9_method_30_code (3 : Nat) (Option.some FieldType.int)) ∈ lw_ok := z_ok (z_t4 (List.mem_of_getElem? (i := 216) rfl)) rfl
theorem k_937 : (Cond.methodLink "BranchStoreLaw" (165 : Nat) ({ cls := "BranchStoreModel", name := "cut", desc := "()I" } : Jvm.MethodName)) ∈ lw_ok := z_ok (z_t4 (List.mem_of_getElem? (i := 217) rfl)) rfl
theorem k_938 : (Cond.instanceMethod ({ cls := "BranchStoreModel", name := "cut", desc := "()I" } : Jvm.MethodName)) ∈ lw_ok := z_ok (z_t4 (List.mem_of_getElem? (i := 218) rfl)) rfl
theorem k_939 : (Cond.selects "BranchStoreModel" ({ cls := "BranchStoreModel", name := "cut", desc := "()I" } : Jvm.MethodName) ({ cls := "BranchStoreModel", name := "cut", desc := "()I" } : Jvm.MethodName)) ∈ lw_ok := z_ok (z_t4 (List.mem_of_getElem? (i := 219) rfl)) rfl
theorem k_940 : (Cond.code ({ cls := "BranchStoreModel", name := "cut", desc := "()I" } : Jvm.MethodName) prog_9_method_31_code (4 : Nat) (Option.some FieldType.int)) ∈ lw_ok := z_ok (z_t4 (List.mem_of_getElem? (i := 220) rfl)) rfl
theorem k_941 : (Cond.methodLink "BranchStoreModel" (103 : Nat) ({ cls := "BranchStoreModel", name := "range", desc := "()I" } : Jvm.MethodName)) ∈ lw_ok := z_ok (z_t4 (List.mem_of_getElem? (i := 221) rfl)) rfl
theorem k_942 : (Cond.methodLink "BranchStoreLaw" (168 : Nat) ({ cls := "BranchStoreModel", name := "begins", desc := "()I" } : Jvm.MethodName)) ∈ lw_ok := z_ok (z_t4 (List.mem_of_getElem? (i := 222) rfl)) rfl
theorem k_943 : (Cond.instanceMethod ({ cls := "BranchStoreModel", name := "begins", desc := "()I" } : Jvm.MethodName)) ∈ lw_ok := z_ok (z_t4 (List.mem_of_getElem? (i := 223) rfl)) rfl
theorem k_944 : (Cond.selects "BranchStoreModel" ({ cls := "BranchStoreModel", name := "begins", desc := "()I" } : Jvm.MethodName) ({ cls := "BranchStoreModel", name := "begins", desc := "()I" } : Jvm.MethodName)) ∈ lw_ok := z_ok (z_t4 (List.mem_of_getElem? (i := 224) rfl)) rfl
theorem k_945 : (Cond.code ({ cls := "BranchStoreModel", name := "begins", desc := "()I" } : Jvm.MethodName) prog_9_method_33_code (3 : Nat) (Option.some FieldType.int)) ∈ lw_ok := z_ok (z_t4 (List.mem_of_getElem? (i := 225) rfl)) rfl
theorem k_946 : (Cond.methodLink "BranchStoreModel" (107 : Nat) ({ cls := "BranchStoreModel", name := "isLonger", desc := "(I)Z" } : Jvm.MethodName)) ∈ lw_ok := z_ok (z_t4 (List.mem_of_getElem? (i := 226) rfl)) rfl
theorem k_947 : (Cond.privateMethod ({ cls := "BranchStoreModel", name := "isLonger", desc := "(I)Z" } : Jvm.MethodName)) ∈ lw_tbl := z_t4 (List.mem_of_getElem? (i := 227) rfl)
theorem k_948 : (Cond.instanceMethod ({ cls := "BranchStoreModel", name := "isLonger", desc := "(I)Z" } : Jvm.MethodName)) ∈ lw_ok := z_ok (z_t4 (List.mem_of_getElem? (i := 228) rfl)) rfl
theorem k_949 : (Cond.code ({ cls := "BranchStoreModel", name := "isLonger", desc := "(I)Z" } : Jvm.MethodName) prog_9_method_32_code (3 : Nat) (Option.some FieldType.boolean)) ∈ lw_ok := z_ok (z_t4 (List.mem_of_getElem? (i := 229) rfl)) rfl
theorem k_950 : (Cond.methodLink "BranchStoreLaw" (172 : Nat) ({ cls := "BranchStoreModel", name := "load", desc := "(JIJ)V" } : Jvm.MethodName)) ∈ lw_ok := z_ok (z_t4 (List.mem_of_getElem? (i := 230) rfl)) rfl
theorem k_951 : (Cond.instanceMethod ({ cls := "BranchStoreModel", name := "load", desc := "(JIJ)V" } : Jvm.MethodName)) ∈ lw_ok := z_ok (z_t4 (List.mem_of_getElem? (i := 231) rfl)) rfl
theorem k_952 : (Cond.selects "BranchStoreModel" ({ cls := "BranchStoreModel", name := "load", desc := "(JIJ)V" } : Jvm.MethodName) ({ cls := "BranchStoreModel", name := "load", desc := "(JIJ)V" } : Jvm.MethodName)) ∈ lw_ok := z_ok (z_t4 (List.mem_of_getElem? (i := 232) rfl)) rfl
theorem k_953 : (Cond.code ({ cls := "BranchStoreModel", name := "load", desc := "(JIJ)V" } : Jvm.MethodName) prog_9_method_34_code (12 : Nat) (Option.none : Option FieldType)) ∈ lw_ok := z_ok (z_t4 (List.mem_of_getElem? (i := 233) rfl)) rfl
theorem k_954 : (Cond.constantLong "BranchStoreModel" (110 : Nat) (9223372036854775807 : Int64)) ∈ lw_ok := z_ok (z_t4 (List.mem_of_getElem? (i := 234) rfl)) rfl
theorem k_955 : (Cond.methodLink "BranchStoreModel" (112 : Nat) ({ cls := "BranchStoreModel", name := "steps", desc := "(JJ)J" } : Jvm.MethodName)) ∈ lw_ok := z_ok (z_t4 (List.mem_of_getElem? (i := 235) rfl)) rfl
theorem k_956 : (Cond.static ({ cls := "BranchStoreModel", name := "steps", desc := "(JJ)J" } : Jvm.MethodName)) ∈ lw_ok := z_ok (z_t4 (List.mem_of_getElem? (i := 236) rfl)) rfl
theorem k_957 : (Cond.code ({ cls := "BranchStoreModel", name := "steps", desc := "(JJ)J" } : Jvm.MethodName) prog_9_method_35_code (8 : Nat) (Option.some FieldType.long)) ∈ lw_ok := z_ok (z_t4 (List.mem_of_getElem? (i := 237) rfl)) rfl
theorem k_958 : (Cond.constantLong "BranchStoreModel" (116 : Nat) (2 : Int64)) ∈ lw_ok := z_ok (z_t4 (List.mem_of_getElem? (i := 238) rfl)) rfl
theorem k_959 : (Cond.methodLink "BranchStoreLaw" (183 : Nat) ({ cls := "BranchStoreModel", name := "clear", desc := "()I" } : Jvm.MethodName)) ∈ lw_ok := z_ok (z_t4 (List.mem_of_getElem? (i := 239) rfl)) rfl
theorem k_960 : (Cond.instanceMethod ({ cls := "BranchStoreModel", name := "clear", desc := "()I" } : Jvm.MethodName)) ∈ lw_ok := z_ok (z_t5 (List.mem_of_getElem? (i := 0) rfl)) rfl
theorem k_961 : (Cond.selects "BranchStoreModel" ({ cls := "BranchStoreModel", name := "clear", desc := "()I" } : Jvm.MethodName) ({ cls := "BranchStoreModel", name := "clear", desc := "()I" } : Jvm.MethodName)) ∈ lw_ok := z_ok (z_t5 (List.mem_of_getElem? (i := 1) rfl)) rfl
theorem k_962 : (Cond.code ({ cls := "BranchStoreModel", name := "clear", desc := "()I" } : Jvm.MethodName) prog_9_method_36_code (3 : Nat) (Option.some FieldType.int)) ∈ lw_ok := z_ok (z_t5 (List.mem_of_getElem? (i := 2) rfl)) rfl
theorem k_963 : (Cond.methodLink "BranchStoreLaw" (176 : Nat) ({ cls := "BranchStoreModel", name := "compact", desc := "()I" } : Jvm.MethodName)) ∈ lw_ok := z_ok (z_t5 (List.mem_of_getElem? (i := 3) rfl)) rfl
theorem k_964 : (Cond.instanceMethod ({ cls := "BranchStoreModel", name := "compact", desc := "()I" } : Jvm.MethodName)) ∈ lw_ok := z_ok (z_t5 (List.mem_of_getElem? (i := 4) rfl)) rfl
theorem k_965 : (Cond.selects "BranchStoreModel" ({ cls := "BranchStoreModel", name := "compact", desc := "()I" } : Jvm.MethodName) ({ cls := "BranchStoreModel", name := "compact", desc := "()I" } : Jvm.MethodName)) ∈ lw_ok := z_ok (z_t5 (List.mem_of_getElem? (i := 5) rfl)) rfl
theorem k_966 : (Cond.code ({ cls := "BranchStoreModel", name := "compact", desc := "()I" } : Jvm.MethodName) prog_9_method_43_code (4 : Nat) (Option.some FieldType.int)) ∈ lw_ok := z_ok (z_t5 (List.mem_of_getElem? (i := 6) rfl)) rfl
theorem k_967 : (Cond.methodLink "BranchStoreModel" (124 : Nat) ({ cls := "BranchStoreModel", name := "look", desc := "()V" } : Jvm.MethodName)) ∈ lw_ok := z_ok (z_t5 (List.mem_of_getElem? (i := 7) rfl)) rfl
theorem k_968 : (Cond.privateMethod ({ cls := "BranchStoreModel", name := "look", desc := "()V" } : Jvm.MethodName)) ∈ lw_tbl := z_t5 (List.mem_of_getElem? (i := 8) rfl)
theorem k_969 : (Cond.instanceMethod ({ cls := "BranchStoreModel", name := "look", desc := "()V" } : Jvm.MethodName)) ∈ lw_ok := z_ok (z_t5 (List.mem_of_getElem? (i := 9) rfl)) rfl
theorem k_970 : (Cond.code ({ cls := "BranchStoreModel", name := "look", desc := "()V" } : Jvm.MethodName) prog_9_method_38_code (3 : Nat) (Option.none : Option FieldType)) ∈ lw_ok := z_ok (z_t5 (List.mem_of_getElem? (i := 10) rfl)) rfl
theorem k_971 : (Cond.methodLink "BranchStoreModel" (120 : Nat) ({ cls := "BranchStoreModel", name := "encode", desc := "([II)I" } : Jvm.MethodName)) ∈ lw_ok := z_ok (z_t5 (List.mem_of_getElem? (i := 11) rfl)) rfl
theorem k_972 : (Cond.privateMethod ({ cls := "BranchStoreModel", name := "encode", desc := "([II)I" } : Jvm.MethodName)) ∈ lw_tbl := z_t5 (List.mem_of_getElem? (i := 12) rfl)
theorem k_973 : (Cond.instanceMethod ({ cls := "BranchStoreModel", name := "encode", desc := "([II)I" } : Jvm.MethodName)) ∈ lw_ok := z_ok (z_t5 (List.mem_of_getElem? (i := 13) rfl)) rfl
theorem k_974 : (Cond.code ({ cls := "BranchStoreModel", name := "encode", desc := "([II)I" } : Jvm.MethodName) prog_9_method_37_code (8 : Nat) (Option.some FieldType.int)) ∈ lw_ok := z_ok (z_t5 (List.mem_of_getElem? (i := 14) rfl)) rfl
theorem k_975 : (Cond.constantLong "BranchStoreModel" (118 : Nat) (255 : Int64)) ∈ lw_ok := z_ok (z_t5 (List.mem_of_getElem? (i := 15) rfl)) rfl
theorem k_976 : (Cond.methodLink "BranchStoreModel" (127 : Nat) ({ cls := "BranchStoreModel", name := "isFirst", desc := "(I)Z" } : Jvm.MethodName)) ∈ lw_ok := z_ok (z_t5 (List.mem_of_getElem? (i := 16) rfl)) rfl
theorem k_977 : (Cond.privateMethod ({ cls := "BranchStoreModel", name := "isFirst", desc := "(I)Z" } : Jvm.MethodName)) ∈ lw_tbl := z_t5 (List.mem_of_getElem? (i := 17) rfl)
theorem k_978 : (Cond.instanceMethod ({ cls := "BranchStoreModel", name := "isFirst", desc := "(I)Z" } : Jvm.MethodName)) ∈ lw_ok := z_ok (z_t5 (List.mem_of_getElem? (i := 18) rfl)) rfl
theorem k_979 : (Cond.code ({ cls := "BranchStoreModel", name := "isFirst", desc := "(I)Z" } : Jvm.MethodName) prog_9_method_39_code (3 : Nat) (Option.some FieldType.boolean)) ∈ lw_ok := z_ok (z_t5 (List.mem_of_getElem? (i := 19) rfl)) rfl
theorem k_980 : (Cond.methodLink "BranchStoreModel" (130 : Nat) ({ cls := "BranchStoreModel", name := "children", desc := "(I)I" } : Jvm.MethodName)) ∈ lw_ok := z_ok (z_t5 (List.mem_of_getElem? (i := 20) rfl)) rfl
theorem k_981 : (Cond.privateMethod ({ cls := "BranchStoreModel", name := "children", desc := "(I)I" } : Jvm.MethodName)) ∈ lw_tbl := z_t5 (List.mem_of_getElem? (i := 21) rfl)
theorem k_982 : (Cond.instanceMethod ({ cls := "BranchStoreModel", name := "children", desc := "(I)I" } : Jvm.MethodName)) ∈ lw_ok := z_ok (z_t5 (List.mem_of_getElem? (i := 22) rfl)) rfl
theorem k_983 : (Cond.code ({ cls := "BranchStoreModel", name := "children", desc := "(I)I" } : Jvm.MethodName) prog_9_method_40_code (4 : Nat) (Option.some FieldType.int)) ∈ lw_ok := z_ok (z_t5 (List.mem_of_getElem? (i := 23) rfl)) rfl
theorem k_984 : (Cond.methodLink "BranchStoreModel" (133 : Nat) ({ cls := "BranchStoreModel", name := "sizeOf", desc := "(I)I" } : Jvm.MethodName)) ∈ lw_ok := z_ok (z_t5 (List.mem_of_getElem? (i := 24) rfl)) rfl
theorem k_985 : (Cond.static ({ cls := "BranchStoreModel", name := "sizeOf", desc := "(I)I" } : Jvm.MethodName)) ∈ lw_ok := z_ok (z_t5 (List.mem_of_getElem? (i := 25) rfl)) rfl
theorem k_986 : (Cond.code ({ cls := "BranchStoreModel", name := "sizeOf", desc := "(I)I" } : Jvm.MethodName) prog_9_method_41_code (1 : Nat) (Option.some FieldType.int)) ∈ lw_ok := z_ok (z_t5 (List.mem_of_getElem? (i := 26) rfl)) rfl
theorem k_987 : (Cond.methodLink "BranchStoreLaw" (179 : Nat) ({ cls := "BranchStoreModel", name := "about", desc := "(I)I" } : Jvm.MethodName)) ∈ lw_ok := z_ok (z_t5 (List.mem_of_getElem? (i := 27) rfl)) rfl
theorem k_988 : (Cond.instanceMethod ({ cls := "BranchStoreModel", name := "about", desc := "(I)I" } : Jvm.MethodName)) ∈ lw_ok := z_ok (z_t5 (List.mem_of_getElem? (i := 28) rfl)) rfl
theorem k_989 : (Cond.selects "BranchStoreModel" ({ cls := "BranchStoreModel", name := "about", desc := "(I)I" } : Jvm.MethodName) ({ cls := "BranchStoreModel", name := "about", desc := "(I)I" } : Jvm.MethodName)) ∈ lw_ok := z_ok (z_t5 (List.mem_of_getElem? (i := 29) rfl)) rfl
theorem k_990 : (Cond.code ({ cls := "BranchStoreModel", name := "about", desc := "(I)I" } : Jvm.MethodName) prog_9_method_46_code (5 : Nat) (Option.some FieldType.int)) ∈ lw_ok := z_ok (z_t5 (List.mem_of_getElem? (i := 30) rfl)) rfl
theorem k_991 : (Cond.methodLink "BranchStoreModel" (139 : Nat) ({ cls := "BranchStoreModel", name := "branches", desc := "(I)I" } : Jvm.MethodName)) ∈ lw_ok := z_ok (z_t5 (List.mem_of_getElem? (i := 31) rfl)) rfl
theorem k_992 : (Cond.privateMethod ({ cls := "BranchStoreModel", name := "branches", desc := "(I)I" } : Jvm.MethodName)) ∈ lw_tbl := z_t5 (List.mem_of_getElem? (i := 32) rfl)
theorem k_993 : (Cond.instanceMethod ({ cls := "BranchStoreModel", name := "branches", desc := "(I)I" } : Jvm.MethodName)) ∈ lw_ok := z_ok (z_t5 (List.mem_of_getElem? (i := 33) rfl)) rfl
theorem k_994 : (Cond.code ({ cls := "BranchStoreModel", name := "branches", desc := "(I)I" } : Jvm.MethodName) prog_9_method_44_code (4 : Nat) (Option.some FieldType.int)) ∈ lw_ok := z_ok (z_t5 (List.mem_of_getElem? (i := 34) rfl)) rfl
theorem k_995 : (Cond.methodLink "BranchStoreModel" (142 : Nat) ({ cls := "BranchStoreModel", name := "deepest", desc := "()I" } : Jvm.MethodName)) ∈ lw_ok := z_ok (z_t5 (List.mem_of_getElem? (i := 35) rfl)) rfl
theorem k_996 : (Cond.privateMethod ({ cls := "BranchStoreModel", name := "deepest", desc := "()I" } : Jvm.MethodName)) ∈ lw_tbl := z_t5 (List.mem_of_getElem? (i := 36) rfl)
theorem k_997 : (Cond.instanceMethod ({ cls := "BranchStoreModel", name := "deepest", desc := "()I" } : Jvm.MethodName)) ∈ lw_ok := z_ok (z_t5 (List.mem_of_getElem? (i := 37) rfl)) rfl
theorem k_998 : (Cond.code ({ cls := "BranchStoreModel", name := "deepest", desc := "()I" } : Jvm.MethodName) prog_9_method_45_code (4 : Nat) (Option.some FieldType.int)) ∈ lw_ok := z_ok (z_t5 (List.mem_of_getElem? (i := 38) rfl)) rfl
theorem k_999 : (Cond.methodLink "BranchStoreModel" (136 : Nat) ({ cls := "BranchStoreModel", name := "depth", desc := "(I)I" } : Jvm.MethodName)) ∈ lw_ok := z_ok (z_t5 (List.mem_of_getElem? (i := 39) rfl)) rfl
theorem k_1000 : (Cond.privateMethod ({ cls := "BranchStoreModel", name := "depth", desc := "(I)I" } : Jvm.MethodName)) ∈ lw_tbl := z_t5 (List.mem_of_getElem? (i := 40) rfl)
theorem k_1001 : (Cond.instanceMethod ({ cls := "BranchStoreModel", name := "depth", desc := "(I)I" } : Jvm.MethodName)) ∈ lw_ok := z_ok (z_t5 (List.mem_of_getElem? (i := 41) rfl)) rfl
theorem k_1002 : (Cond.code ({ cls := "BranchStoreModel", name := "depth", desc := "(I)I" } : Jvm.MethodName) prog_9_method_42_code (5 : Nat) (Option.some FieldType.int)) ∈ lw_ok := z_ok (z_t5 (List.mem_of_getElem? (i := 42) rfl)) rfl
theorem k_1003 : (Cond.constantLong "BranchStoreLaw" (89 : Nat) (4294967295 : Int64)) ∈ lw_ok := z_ok (z_t5 (List.mem_of_getElem? (i := 43) rfl)) rfl
theorem k_1004 : (Cond.sameMethod "java/lang/Throwable" "java/lang/Throwable" "fillInStackTrace" "(I)Ljava/lang/Throwable;") ∈ lw_ok := z_ok (z_t5 (List.mem_of_getElem? (i := 44) rfl)) rfl
theorem kp_0 : Cond.selects "BranchStore$Key" ⟨"BranchStore$Key", "end", "()V"⟩ ⟨"BranchStore$Key", "end", "()V"⟩ ∈ lw_ok := z_ok (z_t0 (List.mem_of_getElem? (i := 0) rfl)) rfl
theorem kp_1 : Cond.selects "BranchStore$Key" ⟨"BranchStore$Key", "put", "(I)V"⟩ ⟨"BranchStore$Key", "put", "(I)V"⟩ ∈ lw_ok := z_ok (z_t0 (List.mem_of_getElem? (i := 1) rfl)) rfl
theorem kp_2 : Cond.selects "BranchStore$Tree" ⟨"BranchStore$Tree", "child", "(II)I"⟩ ⟨"BranchStore$Tree", "child", "(II)I"⟩ ∈ lw_ok := z_ok (z_t0 (List.mem_of_getElem? (i := 2) rfl)) rfl
theorem kp_3 : Cond.selects "BranchStore$Tree" ⟨"BranchStore$Tree", "shapeOf", "(I)LBranchStore$Shape;"⟩ ⟨"BranchStore$Tree", "shapeOf", "(I)LBranchStore$Shape;"⟩ ∈ lw_ok := z_ok (z_t0 (List.mem_of_getElem? (i := 3) rfl)) rfl
theorem kp_4 : Cond.selects "BranchStore$Tree" ⟨"BranchStore$Tree", "shape", "(I)LBranchStore$Shape;"⟩ ⟨"BranchStore$Tree", "shape", "(I)LBranchStore$Shape;"⟩ ∈ lw_ok := z_ok (z_t0 (List.mem_of_getElem? (i := 4) rfl)) rfl
theorem kp_5 : Cond.selects "BranchStore$Tree" ⟨"BranchStore$Tree", "differs", "(LBranchStore$Key;I)I"⟩ ⟨"BranchStore$Tree", "differs", "(LBranchStore$Key;I)I"⟩ ∈ lw_ok := z_ok (z_t0 (List.mem_of_getElem? (i := 5) rfl)) rfl
theorem kp_6 : Cond.selects "BranchStore$Tree" ⟨"BranchStore$Tree", "byteOf", "(II)I"⟩ ⟨"BranchStore$Tree", "byteOf", "(II)I"⟩ ∈ lw_ok := z_ok (z_t0 (List.mem_of_getElem? (i := 6) rfl)) rfl
theorem kp_7 : Cond.selects "BranchStore$Tree" ⟨"BranchStore$Tree", "nearest", "(LBranchStore$Key;)I"⟩ ⟨"BranchStore$Tree", "nearest", "(LBranchStore$Key;)I"⟩ ∈ lw_ok := z_ok (z_t0 (List.mem_of_getElem? (i := 7) rfl)) rfl
theorem kp_8 : Cond.selects "BranchStore$Tree" ⟨"BranchStore$Tree", "least", "(I)I"⟩ ⟨"BranchStore$Tree", "least", "(I)I"⟩ ∈ lw_ok := z_ok (z_t0 (List.mem_of_getElem? (i := 8) rfl)) rfl
theorem kp_9 : Cond.selects "BranchStore$Tree" ⟨"BranchStore$Tree", "before", "(II)I"⟩ ⟨"BranchStore$Tree", "before", "(II)I"⟩ ∈ lw_ok := z_ok (z_t0 (List.mem_of_getElem? (i := 9) rfl)) rfl
theorem kp_10 : Cond.selects "BranchStore$Tree" ⟨"BranchStore$Tree", "below", "(I)I"⟩ ⟨"BranchStore$Tree", "below", "(I)I"⟩ ∈ lw_ok := z_ok (z_t0 (List.mem_of_getElem? (i := 10) rfl)) rfl
theorem kp_11 : Cond.selects "BranchStore" ⟨"BranchStore", "behind", "()I"⟩ ⟨"BranchStore", "behind", "()I"⟩ ∈ lw_ok := z_ok (z_t0 (List.mem_of_getElem? (i := 11) rfl)) rfl
theorem kp_12 : Cond.selects "BranchStore$Tree" ⟨"BranchStore$Tree", "release", "(II)V"⟩ ⟨"BranchStore$Tree", "release", "(II)V"⟩ ∈ lw_ok := z_ok (z_t0 (List.mem_of_getElem? (i := 12) rfl)) rfl
theorem kp_13 : Cond.selects "BranchStore$Tree" ⟨"BranchStore$Tree", "relink", "(III)V"⟩ ⟨"BranchStore$Tree", "relink", "(III)V"⟩ ∈ lw_ok := z_ok (z_t0 (List.mem_of_getElem? (i := 13) rfl)) rfl
theorem kp_14 : Cond.selects "BranchStore$Tree" ⟨"BranchStore$Tree", "resized", "(II)I"⟩ ⟨"BranchStore$Tree", "resized", "(II)I"⟩ ∈ lw_ok := z_ok (z_t0 (List.mem_of_getElem? (i := 14) rfl)) rfl
theorem kp_15 : Cond.selects "BranchStore$Tree" ⟨"BranchStore$Tree", "branch", "(II)I"⟩ ⟨"BranchStore$Tree", "branch", "(II)I"⟩ ∈ lw_ok := z_ok (z_t0 (List.mem_of_getElem? (i := 15) rfl)) rfl
theorem kp_16 : Cond.selects "BranchStore$Tree" ⟨"BranchStore$Tree", "room", "(I)I"⟩ ⟨"BranchStore$Tree", "room", "(I)I"⟩ ∈ lw_ok := z_ok (z_t0 (List.mem_of_getElem? (i := 16) rfl)) rfl
theorem kp_17 : Cond.selects "BranchStore$Tree" ⟨"BranchStore$Tree", "shifted", "(I[I)I"⟩ ⟨"BranchStore$Tree", "shifted", "(I[I)I"⟩ ∈ lw_ok := z_ok (z_t0 (List.mem_of_getElem? (i := 17) rfl)) rfl
theorem kp_18 : Cond.selects "java/lang/Throwable" ⟨"java/lang/Throwable", "fillInStackTrace", "(I)Ljava/lang/Throwable;"⟩ ⟨"java/lang/Throwable", "fillInStackTrace", "(I)Ljava/lang/Throwable;"⟩ ∈ lw_ok := z_ok (z_t0 (List.mem_of_getElem? (i := 18) rfl)) rfl
theorem kp_19 : Cond.selects "BranchStore$Tree" ⟨"BranchStore$Tree", "leaf", "(LBranchStore$Key;JZ)I"⟩ ⟨"BranchStore$Tree", "leaf", "(LBranchStore$Key;JZ)I"⟩ ∈ lw_ok := z_ok (z_t0 (List.mem_of_getElem? (i := 19) rfl)) rfl
theorem kp_20 : Cond.selects "BranchStore" ⟨"BranchStore", "found", "(LBranchStore$Key;)I"⟩ ⟨"BranchStore", "found", "(LBranchStore$Key;)I"⟩ ∈ lw_ok := z_ok (z_t0 (List.mem_of_getElem? (i := 20) rfl)) rfl
theorem kp_21 : Cond.selects "BranchStore" ⟨"BranchStore", "comes", "(I)Z"⟩ ⟨"BranchStore", "comes", "(I)Z"⟩ ∈ lw_ok := z_ok (z_t0 (List.mem_of_getElem? (i := 21) rfl)) rfl
theorem kp_22 : Cond.selects "BranchStore" ⟨"BranchStore", "known", "()LBranchStore$Key;"⟩ ⟨"BranchStore", "known", "()LBranchStore$Key;"⟩ ∈ lw_ok := z_ok (z_t0 (List.mem_of_getElem? (i := 22) rfl)) rfl
theorem kp_23 : Cond.selects "BranchStore$Tree" ⟨"BranchStore$Tree", "built", "(II)I"⟩ ⟨"BranchStore$Tree", "built", "(II)I"⟩ ∈ lw_ok := z_ok (z_t0 (List.mem_of_getElem? (i := 23) rfl)) rfl
theorem kp_24 : Cond.selects "BranchStore$Tree" ⟨"BranchStore$Tree", "number", "(LBranchStore$Key;I)V"⟩ ⟨"BranchStore$Tree", "number", "(LBranchStore$Key;I)V"⟩ ∈ lw_ok := z_ok (z_t0 (List.mem_of_getElem? (i := 24) rfl)) rfl
theorem kp_25 : Cond.selects "BranchStore$Tree" ⟨"BranchStore$Tree", "behind", "(III)I"⟩ ⟨"BranchStore$Tree", "behind", "(III)I"⟩ ∈ lw_ok := z_ok (z_t0 (List.mem_of_getElem? (i := 25) rfl)) rfl
theorem kp_26 : Cond.selects "BranchStore$Tree" ⟨"BranchStore$Tree", "deepestOf", "(I)I"⟩ ⟨"BranchStore$Tree", "deepestOf", "(I)I"⟩ ∈ lw_ok := z_ok (z_t0 (List.mem_of_getElem? (i := 26) rfl)) rfl
theorem kp_27 : Cond.selects "BranchStoreModel" ⟨"BranchStoreModel", "fails", "(ZI)Z"⟩ ⟨"BranchStoreModel", "fails", "(ZI)Z"⟩ ∈ lw_ok := z_ok (z_t0 (List.mem_of_getElem? (i := 27) rfl)) rfl
theorem kp_28 : Cond.selects "BranchStoreModel" ⟨"BranchStoreModel", "blank", "(I)V"⟩ ⟨"BranchStoreModel", "blank", "(I)V"⟩ ∈ lw_ok := z_ok (z_t0 (List.mem_of_getElem? (i := 28) rfl)) rfl
theorem kp_29 : Cond.selects "BranchStoreModel" ⟨"BranchStoreModel", "copy", "(II)V"⟩ ⟨"BranchStoreModel", "copy", "(II)V"⟩ ∈ lw_ok := z_ok (z_t0 (List.mem_of_getElem? (i := 29) rfl)) rfl
theorem kp_30 : Cond.selects "BranchStoreModel" ⟨"BranchStoreModel", "below", "(I)I"⟩ ⟨"BranchStoreModel", "below", "(I)I"⟩ ∈ lw_ok := z_ok (z_t0 (List.mem_of_getElem? (i := 30) rfl)) rfl
theorem kp_31 : Cond.selects "BranchStoreModel" ⟨"BranchStoreModel", "compare", "(II)I"⟩ ⟨"BranchStoreModel", "compare", "(II)I"⟩ ∈ lw_ok := z_ok (z_t0 (List.mem_of_getElem? (i := 31) rfl)) rfl
theorem kp_32 : Cond.selects "BranchStoreModel" ⟨"BranchStoreModel", "isAt", "(II)Z"⟩ ⟨"BranchStoreModel", "isAt", "(II)Z"⟩ ∈ lw_ok := z_ok (z_t0 (List.mem_of_getElem? (i := 32) rfl)) rfl
theorem kp_33 : Cond.selects "BranchStoreModel" ⟨"BranchStoreModel", "insert", "(IIJ)V"⟩ ⟨"BranchStoreModel", "insert", "(IIJ)V"⟩ ∈ lw_ok := z_ok (z_t0 (List.mem_of_getElem? (i := 33) rfl)) rfl
theorem kp_34 : Cond.selects "BranchStoreModel" ⟨"BranchStoreModel", "delete", "(I)V"⟩ ⟨"BranchStoreModel", "delete", "(I)V"⟩ ∈ lw_ok := z_ok (z_t0 (List.mem_of_getElem? (i := 34) rfl)) rfl
theorem kp_35 : Cond.selects "BranchStoreModel" ⟨"BranchStoreModel", "goes", "(I)Z"⟩ ⟨"BranchStoreModel", "goes", "(I)Z"⟩ ∈ lw_ok := z_ok (z_t0 (List.mem_of_getElem? (i := 35) rfl)) rfl
theorem kp_36 : Cond.selects "BranchStoreModel" ⟨"BranchStoreModel", "isLonger", "(I)Z"⟩ ⟨"BranchStoreModel", "isLonger", "(I)Z"⟩ ∈ lw_ok := z_ok (z_t0 (List.mem_of_getElem? (i := 36) rfl)) rfl
theorem kp_37 : Cond.selects "BranchStoreModel" ⟨"BranchStoreModel", "look", "()V"⟩ ⟨"BranchStoreModel", "look", "()V"⟩ ∈ lw_ok := z_ok (z_t0 (List.mem_of_getElem? (i := 37) rfl)) rfl
theorem kp_38 : Cond.selects "BranchStoreModel" ⟨"BranchStoreModel", "encode", "([II)I"⟩ ⟨"BranchStoreModel", "encode", "([II)I"⟩ ∈ lw_ok := z_ok (z_t0 (List.mem_of_getElem? (i := 38) rfl)) rfl
theorem kp_39 : Cond.selects "BranchStoreModel" ⟨"BranchStoreModel", "isFirst", "(I)Z"⟩ ⟨"BranchStoreModel", "isFirst", "(I)Z"⟩ ∈ lw_ok := z_ok (z_t0 (List.mem_of_getElem? (i := 39) rfl)) rfl
theorem kp_40 : Cond.selects "BranchStoreModel" ⟨"BranchStoreModel", "children", "(I)I"⟩ ⟨"BranchStoreModel", "children", "(I)I"⟩ ∈ lw_ok := z_ok (z_t0 (List.mem_of_getElem? (i := 40) rfl)) rfl
theorem kp_41 : Cond.selects "BranchStoreModel" ⟨"BranchStoreModel", "branches", "(I)I"⟩ ⟨"BranchStoreModel", "branches", "(I)I"⟩ ∈ lw_ok := z_ok (z_t0 (List.mem_of_getElem? (i := 41) rfl)) rfl
theorem kp_42 : Cond.selects "BranchStoreModel" ⟨"BranchStoreModel", "deepest", "()I"⟩ ⟨"BranchStoreModel", "deepest", "()I"⟩ ∈ lw_ok := z_ok (z_t0 (List.mem_of_getElem? (i := 42) rfl)) rfl
theorem kp_43 : Cond.selects "BranchStoreModel" ⟨"BranchStoreModel", "depth", "(I)I"⟩ ⟨"BranchStoreModel", "depth", "(I)I"⟩ ∈ lw_ok := z_ok (z_t0 (List.mem_of_getElem? (i := 43) rfl)) rfl
def F_Key : u_T := fun k => match k with
  | 0 => ("BranchStore$Key", "code", "[B", true)
  | 1 => ("BranchStore$Key", "length", "I", false)
  | _ => ("BranchStore$Key", "letters", "I", false)
def t_Key : Nat → FieldType := fun k => match k with
  | 0 => .array .byte
  | 1 => .int
  | _ => .int
abbrev w_Key : List Cond := u_ws "BranchStore$Key" F_Key 3
theorem n_Key : ∀ a, a < 3 → ∀ b, b < 3 → a ≠ b → (F_Key a).2.1 ≠ (F_Key b).2.1 := by decide +kernel
theorem t_Key_ok : ∀ k, k < 3 → parseFieldDescriptor (F_Key k).2.2.1 = some (t_Key k) := by decide +kernel
theorem i_Key : ∀ w ∈ w_Key, w ∈ lw_ok := by
  show ∀ w ∈ [(Cond.laysFinal "BranchStore$Key" "BranchStore$Key" "code" "[B"), (Cond.lays "BranchStore$Key" "BranchStore$Key" "length" "I"), (Cond.lays "BranchStore$Key" "BranchStore$Key" "letters" "I")], w ∈ lw_ok
  exact List.forall_mem_cons.mpr ⟨k_115, List.forall_mem_cons.mpr ⟨k_117, List.forall_mem_cons.mpr ⟨k_119, fun _ h => absurd h List.not_mem_nil⟩⟩⟩
def F_Few : u_T := fun k => match k with
  | 0 => ("BranchStore$Shape", "size", "I", true)
  | 1 => ("BranchStore$Shape", "cells", "I", true)
  | 2 => ("BranchStore$Shape", "most", "I", true)
  | _ => ("BranchStore$Few", "links", "I", true)
def t_Few : Nat → FieldType := fun k => match k with
  | 0 => .int
  | 1 => .int
  | 2 => .int
  | _ => .int
abbrev w_Few : List Cond := u_ws "BranchStore$Few" F_Few 4
theorem n_Few : ∀ a, a < 4 → ∀ b, b < 4 → a ≠ b → (F_Few a).2.1 ≠ (F_Few b).2.1 := by decide +kernel
theorem t_Few_ok : ∀ k, k < 4 → parseFieldDescriptor (F_Few k).2.2.1 = some (t_Few k) := by decide +kernel
theorem i_Few : ∀ w ∈ w_Few, w ∈ lw_ok := by
  show ∀ w ∈ [(Cond.laysFinal "BranchStore$Few" "BranchStore$Shape" "size" "I"), (Cond.laysFinal "BranchStore$Few" "BranchStore$Shape" "cells" "I"), (Cond.laysFinal "BranchStore$Few" "BranchStore$Shape" "most" "I"), (Cond.laysFinal "BranchStore$Few" "BranchStore$Few" "links" "I")], w ∈ lw_ok
  exact List.forall_mem_cons.mpr ⟨k_52, List.forall_mem_cons.mpr ⟨k_54, List.forall_mem_cons.mpr ⟨k_56, List.forall_mem_cons.mpr ⟨k_50, fun _ h => absurd h List.not_mem_nil⟩⟩⟩⟩
def F_Some : u_T := fun k => match k with
  | 0 => ("BranchStore$Shape", "size", "I", true)
  | 1 => ("BranchStore$Shape", "cells", "I", true)
  | _ => ("BranchStore$Shape", "most", "I", true)
def t_Some : Nat → FieldType := fun k => match k with
  | 0 => .int
  | 1 => .int
  | _ => .int
abbrev w_Some : List Cond := u_ws "BranchStore$Some" F_Some 3
theorem n_Some : ∀ a, a < 3 → ∀ b, b < 3 → a ≠ b → (F_Some a).2.1 ≠ (F_Some b).2.1 := by decide +kernel
theorem t_Some_ok : ∀ k, k < 3 → parseFieldDescriptor (F_Some k).2.2.1 = some (t_Some k) := by decide +kernel
theorem i_Some : ∀ w ∈ w_Some, w ∈ lw_ok := by
  show ∀ w ∈ [(Cond.laysFinal "BranchStore$Some" "BranchStore$Shape" "size" "I"), (Cond.laysFinal "BranchStore$Some" "BranchStore$Shape" "cells" "I"), (Cond.laysFinal "BranchStore$Some" "BranchStore$Shape" "most" "I")], w ∈ lw_ok
  exact List.forall_mem_cons.mpr ⟨k_66, List.forall_mem_cons.mpr ⟨k_67, List.forall_mem_cons.mpr ⟨k_68, fun _ h => absurd h List.not_mem_nil⟩⟩⟩
def F_All : u_T := fun k => match k with
  | 0 => ("BranchStore$Shape", "size", "I", true)
  | 1 => ("BranchStore$Shape", "cells", "I", true)
  | _ => ("BranchStore$Shape", "most", "I", true)
def t_All : Nat → FieldType := fun k => match k with
  | 0 => .int
  | 1 => .int
  | _ => .int
abbrev w_All : List Cond := u_ws "BranchStore$All" F_All 3
theorem n_All : ∀ a, a < 3 → ∀ b, b < 3 → a ≠ b → (F_All a).2.1 ≠ (F_All b).2.1 := by decide +kernel
theorem t_All_ok : ∀ k, k < 3 → parseFieldDescriptor (F_All k).2.2.1 = some (t_All k) := by decide +kernel
theorem i_All : ∀ w ∈ w_All, w ∈ lw_ok := by
  show ∀ w ∈ [(Cond.laysFinal "BranchStore$All" "BranchStore$Shape" "size" "I"), (Cond.laysFinal "BranchStore$All" "BranchStore$Shape" "cells" "I"), (Cond.laysFinal "BranchStore$All" "BranchStore$Shape" "most" "I")], w ∈ lw_ok
  exact List.forall_mem_cons.mpr ⟨k_76, List.forall_mem_cons.mpr ⟨k_77, List.forall_mem_cons.mpr ⟨k_78, fun _ h => absurd h List.not_mem_nil⟩⟩⟩
def F_Tree : u_T := fun k => match k with
  | 0 => ("BranchStore$Tree", "c", "[I", false)
  | 1 => ("BranchStore$Tree", "moved", "[I", false)
  | 2 => ("BranchStore$Tree", "end", "I", false)
  | 3 => ("BranchStore$Tree", "root", "I", false)
  | 4 => ("BranchStore$Tree", "free", "[I", true)
  | 5 => ("BranchStore$Tree", "few", "LBranchStore$Shape;", true)
  | 6 => ("BranchStore$Tree", "more", "LBranchStore$Shape;", true)
  | 7 => ("BranchStore$Tree", "some", "LBranchStore$Shape;", true)
  | 8 => ("BranchStore$Tree", "all", "LBranchStore$Shape;", true)
  | 9 => ("BranchStore$Tree", "branches", "[I", true)
  | 10 => ("BranchStore$Tree", "low", "LBranchStore$Key;", true)
  | 11 => ("BranchStore$Tree", "high", "LBranchStore$Key;", true)
  | 12 => ("BranchStore$Tree", "first", "J", false)
  | 13 => ("BranchStore$Tree", "step", "J", false)
  | _ => ("BranchStore$Tree", "value0", "J", false)
def t_Tree : Nat → FieldType := fun k => match k with
  | 0 => .array .int
  | 1 => .array .int
  | 2 => .int
  | 3 => .int
  | 4 => .array .int
  | 5 => .object "BranchStore$Shape"
  | 6 => .object "BranchStore$Shape"
  | 7 => .object "BranchStore$Shape"
  | 8 => .object "BranchStore$Shape"
  | 9 => .array .int
  | 10 => .object "BranchStore$Key"
  | 11 => .object "BranchStore$Key"
  | 12 => .long
  | 13 => .long
  | _ => .long
abbrev w_Tree : List Cond := u_ws "BranchStore$Tree" F_Tree 15
theorem n_Tree : ∀ a, a < 15 → ∀ b, b < 15 → a ≠ b → (F_Tree a).2.1 ≠ (F_Tree b).2.1 := by decide +kernel
theorem t_Tree_ok : ∀ k, k < 15 → parseFieldDescriptor (F_Tree k).2.2.1 = some (t_Tree k) := by decide +kernel
theorem i_Tree : ∀ w ∈ w_Tree, w ∈ lw_ok := by
  show ∀ w ∈ [(Cond.lays "BranchStore$Tree" "BranchStore$Tree" "c" "[I"), (Cond.lays "BranchStore$Tree" "BranchStore$Tree" "moved" "[I"), (Cond.lays "BranchStore$Tree" "BranchStore$Tree" "end" "I"), (Cond.lays "BranchStore$Tree" "BranchStore$Tree" "root" "I"), (Cond.laysFinal "BranchStore$Tree" "BranchStore$Tree" "free" "[I"), (Cond.laysFinal "BranchStore$Tree" "BranchStore$Tree" "few" "LBranchStore$Shape;"), (Cond.laysFinal "BranchStore$Tree" "BranchStore$Tree" "more" "LBranchStore$Shape;"), (Cond.laysFinal "BranchStore$Tree" "BranchStore$Tree" "some" "LBranchStore$Shape;"), (Cond.laysFinal "BranchStore$Tree" "BranchStore$Tree" "all" "LBranchStore$Shape;"), (Cond.laysFinal "BranchStore$Tree" "BranchStore$Tree" "branches" "[I"), (Cond.laysFinal "BranchStore$Tree" "BranchStore$Tree" "low" "LBranchStore$Key;"), (Cond.laysFinal "BranchStore$Tree" "BranchStore$Tree" "high" "LBranchStore$Key;"), (Cond.lays "BranchStore$Tree" "BranchStore$Tree" "first" "J"), (Cond.lays "BranchStore$Tree" "BranchStore$Tree" "step" "J"), (Cond.lays "BranchStore$Tree" "BranchStore$Tree" "value0" "J")], w ∈ lw_ok
  exact List.forall_mem_cons.mpr ⟨k_139, List.forall_mem_cons.mpr ⟨k_141, List.forall_mem_cons.mpr ⟨k_143, List.forall_mem_cons.mpr ⟨k_145, List.forall_mem_cons.mpr ⟨k_147, List.forall_mem_cons.mpr ⟨k_149, List.forall_mem_cons.mpr ⟨k_151, List.forall_mem_cons.mpr ⟨k_153, List.forall_mem_cons.mpr ⟨k_155, List.forall_mem_cons.mpr ⟨k_157, List.forall_mem_cons.mpr ⟨k_159, List.forall_mem_cons.mpr ⟨k_161, List.forall_mem_cons.mpr ⟨k_163, List.forall_mem_cons.mpr ⟨k_165, List.forall_mem_cons.mpr ⟨k_167, fun _ h => absurd h List.not_mem_nil⟩⟩⟩⟩⟩⟩⟩⟩⟩⟩⟩⟩⟩⟩⟩
def F_Store : u_T := fun k => match k with
  | 0 => ("BranchStore", "sort", "I", true)
  | 1 => ("BranchStore", "tree", "LBranchStore$Tree;", true)
  | 2 => ("BranchStore", "hand", "LBranchStore$Key;", true)
  | 3 => ("BranchStore", "other", "LBranchStore$Key;", true)
  | 4 => ("BranchStore", "cursor", "LBranchStore$Key;", true)
  | 5 => ("BranchStore", "set", "Z", false)
  | _ => ("BranchStore", "passing", "LBranchStore$Key;", true)
def t_Store : Nat → FieldType := fun k => match k with
  | 0 => .int
  | 1 => .object "BranchStore$Tree"
  | 2 => .object "BranchStore$Key"
  | 3 => .object "BranchStore$Key"
  | 4 => .object "BranchStore$Key"
  | 5 => .boolean
  | _ => .object "BranchStore$Key"
abbrev w_Store : List Cond := u_ws "BranchStore" F_Store 7
theorem n_Store : ∀ a, a < 7 → ∀ b, b < 7 → a ≠ b → (F_Store a).2.1 ≠ (F_Store b).2.1 := by decide +kernel
theorem t_Store_ok : ∀ k, k < 7 → parseFieldDescriptor (F_Store k).2.2.1 = some (t_Store k) := by decide +kernel
theorem i_Store : ∀ w ∈ w_Store, w ∈ lw_ok := by
  show ∀ w ∈ [(Cond.laysFinal "BranchStore" "BranchStore" "sort" "I"), (Cond.laysFinal "BranchStore" "BranchStore" "tree" "LBranchStore$Tree;"), (Cond.laysFinal "BranchStore" "BranchStore" "hand" "LBranchStore$Key;"), (Cond.laysFinal "BranchStore" "BranchStore" "other" "LBranchStore$Key;"), (Cond.laysFinal "BranchStore" "BranchStore" "cursor" "LBranchStore$Key;"), (Cond.lays "BranchStore" "BranchStore" "set" "Z"), (Cond.laysFinal "BranchStore" "BranchStore" "passing" "LBranchStore$Key;")], w ∈ lw_ok
  exact List.forall_mem_cons.mpr ⟨k_179, List.forall_mem_cons.mpr ⟨k_181, List.forall_mem_cons.mpr ⟨k_183, List.forall_mem_cons.mpr ⟨k_185, List.forall_mem_cons.mpr ⟨k_187, List.forall_mem_cons.mpr ⟨k_189, List.forall_mem_cons.mpr ⟨k_191, fun _ h => absurd h List.not_mem_nil⟩⟩⟩⟩⟩⟩⟩
def F_Model : u_T := fun k => match k with
  | 0 => ("BranchStoreModel", "sort", "I", true)
  | 1 => ("BranchStoreModel", "first", "[J", true)
  | 2 => ("BranchStoreModel", "second", "[J", true)
  | 3 => ("BranchStoreModel", "letters", "[I", true)
  | 4 => ("BranchStoreModel", "many", "[I", true)
  | 5 => ("BranchStoreModel", "values", "[J", true)
  | 6 => ("BranchStoreModel", "order", "[I", true)
  | 7 => ("BranchStoreModel", "count", "I", false)
  | 8 => ("BranchStoreModel", "free", "[I", true)
  | 9 => ("BranchStoreModel", "frees", "I", false)
  | 10 => ("BranchStoreModel", "cursor", "Z", false)
  | 11 => ("BranchStoreModel", "thrown", "I", false)
  | 12 => ("BranchStoreModel", "code", "[I", true)
  | 13 => ("BranchStoreModel", "next", "[I", true)
  | 14 => ("BranchStoreModel", "common", "[I", true)
  | _ => ("BranchStoreModel", "met", "[I", true)
def t_Model : Nat → FieldType := fun k => match k with
  | 0 => .int
  | 1 => .array .long
  | 2 => .array .long
  | 3 => .array .int
  | 4 => .array .int
  | 5 => .array .long
  | 6 => .array .int
  | 7 => .int
  | 8 => .array .int
  | 9 => .int
  | 10 => .boolean
  | 11 => .int
  | 12 => .array .int
  | 13 => .array .int
  | 14 => .array .int
  | _ => .array .int
abbrev w_Model : List Cond := u_ws "BranchStoreModel" F_Model 16
theorem n_Model : ∀ a, a < 16 → ∀ b, b < 16 → a ≠ b → (F_Model a).2.1 ≠ (F_Model b).2.1 := by decide +kernel
theorem t_Model_ok : ∀ k, k < 16 → parseFieldDescriptor (F_Model k).2.2.1 = some (t_Model k) := by decide +kernel
theorem i_Model : ∀ w ∈ w_Model, w ∈ lw_ok := by
  show ∀ w ∈ [(Cond.laysFinal "BranchStoreModel" "BranchStoreModel" "sort" "I"), (Cond.laysFinal "BranchStoreModel" "BranchStoreModel" "first" "[J"), (Cond.laysFinal "BranchStoreModel" "BranchStoreModel" "second" "[J"), (Cond.laysFinal "BranchStoreModel" "BranchStoreModel" "letters" "[I"), (Cond.laysFinal "BranchStoreModel" "BranchStoreModel" "many" "[I"), (Cond.laysFinal "BranchStoreModel" "BranchStoreModel" "values" "[J"), (Cond.laysFinal "BranchStoreModel" "BranchStoreModel" "order" "[I"), (Cond.lays "BranchStoreModel" "BranchStoreModel" "count" "I"), (Cond.laysFinal "BranchStoreModel" "BranchStoreModel" "free" "[I"), (Cond.lays "BranchStoreModel" "BranchStoreModel" "frees" "I"), (Cond.lays "BranchStoreModel" "BranchStoreModel" "cursor" "Z"), (Cond.lays "BranchStoreModel" "BranchStoreModel" "thrown" "I"), (Cond.laysFinal "BranchStoreModel" "BranchStoreModel" "code" "[I"), (Cond.laysFinal "BranchStoreModel" "BranchStoreModel" "next" "[I"), (Cond.laysFinal "BranchStoreModel" "BranchStoreModel" "common" "[I"), (Cond.laysFinal "BranchStoreModel" "BranchStoreModel" "met" "[I")], w ∈ lw_ok
  exact List.forall_mem_cons.mpr ⟨k_786, List.forall_mem_cons.mpr ⟨k_788, List.forall_mem_cons.mpr ⟨k_790, List.forall_mem_cons.mpr ⟨k_792, List.forall_mem_cons.mpr ⟨k_794, List.forall_mem_cons.mpr ⟨k_796, List.forall_mem_cons.mpr ⟨k_798, List.forall_mem_cons.mpr ⟨k_800, List.forall_mem_cons.mpr ⟨k_802, List.forall_mem_cons.mpr ⟨k_804, List.forall_mem_cons.mpr ⟨k_806, List.forall_mem_cons.mpr ⟨k_808, List.forall_mem_cons.mpr ⟨k_810, List.forall_mem_cons.mpr ⟨k_812, List.forall_mem_cons.mpr ⟨k_814, List.forall_mem_cons.mpr ⟨k_816, fun _ h => absurd h List.not_mem_nil⟩⟩⟩⟩⟩⟩⟩⟩⟩⟩⟩⟩⟩⟩⟩⟩
abbrev classes : List vw_C := [("BranchStore$Key", F_Key, 3), ("BranchStore$Few", F_Few, 4), ("BranchStore$Some", F_Some, 3), ("BranchStore$All", F_All, 3), ("BranchStore$Tree", F_Tree, 15), ("BranchStore", F_Store, 7), ("BranchStoreModel", F_Model, 16)]
abbrev y_Store_found : MethodName := ⟨"BranchStore", "found", "(LBranchStore$Key;)I"⟩
abbrev y_Store_known : MethodName := ⟨"BranchStore", "known", "()LBranchStore$Key;"⟩
abbrev y_Store_comes : MethodName := ⟨"BranchStore", "comes", "(I)Z"⟩
abbrev y_Store_behind : MethodName := ⟨"BranchStore", "behind", "()I"⟩
abbrev y_Store_init : MethodName := ⟨"BranchStore", "<init>", "(I)V"⟩
abbrev y_Store_number : MethodName := ⟨"BranchStore", "number", "(J)V"⟩
abbrev y_Store_pair : MethodName := ⟨"BranchStore", "pair", "(JJ)V"⟩
abbrev y_Store_letter : MethodName := ⟨"BranchStore", "letter", "(I)I"⟩
abbrev y_Store_erase : MethodName := ⟨"BranchStore", "erase", "()V"⟩
abbrev y_Store_keep : MethodName := ⟨"BranchStore", "keep", "()V"⟩
abbrev y_Store_take : MethodName := ⟨"BranchStore", "take", "()V"⟩
abbrev y_Store_put : MethodName := ⟨"BranchStore", "put", "(J)Z"⟩
abbrev y_Store_get : MethodName := ⟨"BranchStore", "get", "()J"⟩
abbrev y_Store_remove : MethodName := ⟨"BranchStore", "remove", "()J"⟩
abbrev y_Store_seek : MethodName := ⟨"BranchStore", "seek", "(I)Z"⟩
abbrev y_Store_move : MethodName := ⟨"BranchStore", "move", "(Z)Z"⟩
abbrev y_Store_there : MethodName := ⟨"BranchStore", "there", "()Z"⟩
abbrev y_Store_length : MethodName := ⟨"BranchStore", "length", "()I"⟩
abbrev y_Store_part : MethodName := ⟨"BranchStore", "part", "(I)J"⟩
abbrev y_Store_value : MethodName := ⟨"BranchStore", "value", "()J"⟩
abbrev y_Store_rank : MethodName := ⟨"BranchStore", "rank", "()I"⟩
abbrev y_Store_select : MethodName := ⟨"BranchStore", "select", "(I)V"⟩
abbrev y_Store_range : MethodName := ⟨"BranchStore", "range", "()I"⟩
abbrev y_Store_cut : MethodName := ⟨"BranchStore", "cut", "()I"⟩
abbrev y_Store_begins : MethodName := ⟨"BranchStore", "begins", "()I"⟩
abbrev y_Store_load : MethodName := ⟨"BranchStore", "load", "(JIJ)V"⟩
abbrev y_Store_compact : MethodName := ⟨"BranchStore", "compact", "()I"⟩
abbrev y_Store_about : MethodName := ⟨"BranchStore", "about", "(I)I"⟩
abbrev y_Store_clear : MethodName := ⟨"BranchStore", "clear", "()I"⟩
abbrev y_Model_init : MethodName := ⟨"BranchStoreModel", "<init>", "(I)V"⟩
abbrev y_Model_thrown : MethodName := ⟨"BranchStoreModel", "thrown", "()I"⟩
abbrev y_Model_fails : MethodName := ⟨"BranchStoreModel", "fails", "(ZI)Z"⟩
abbrev y_Model_byOrder : MethodName := ⟨"BranchStoreModel", "byOrder", "(JJ)I"⟩
abbrev y_Model_compare : MethodName := ⟨"BranchStoreModel", "compare", "(II)I"⟩
abbrev y_Model_copy : MethodName := ⟨"BranchStoreModel", "copy", "(II)V"⟩
abbrev y_Model_blank : MethodName := ⟨"BranchStoreModel", "blank", "(I)V"⟩
abbrev y_Model_below : MethodName := ⟨"BranchStoreModel", "below", "(I)I"⟩
abbrev y_Model_isAt : MethodName := ⟨"BranchStoreModel", "isAt", "(II)Z"⟩
abbrev y_Model_insert : MethodName := ⟨"BranchStoreModel", "insert", "(IIJ)V"⟩
abbrev y_Model_delete : MethodName := ⟨"BranchStoreModel", "delete", "(I)V"⟩
abbrev y_Model_number : MethodName := ⟨"BranchStoreModel", "number", "(J)V"⟩
abbrev y_Model_pair : MethodName := ⟨"BranchStoreModel", "pair", "(JJ)V"⟩
abbrev y_Model_letter : MethodName := ⟨"BranchStoreModel", "letter", "(I)I"⟩
abbrev y_Model_erase : MethodName := ⟨"BranchStoreModel", "erase", "()V"⟩
abbrev y_Model_keep : MethodName := ⟨"BranchStoreModel", "keep", "()V"⟩
abbrev y_Model_take : MethodName := ⟨"BranchStoreModel", "take", "()V"⟩
abbrev y_Model_put : MethodName := ⟨"BranchStoreModel", "put", "(J)Z"⟩
abbrev y_Model_get : MethodName := ⟨"BranchStoreModel", "get", "()J"⟩
abbrev y_Model_remove : MethodName := ⟨"BranchStoreModel", "remove", "()J"⟩
abbrev y_Model_goes : MethodName := ⟨"BranchStoreModel", "goes", "(I)Z"⟩
abbrev y_Model_seek : MethodName := ⟨"BranchStoreModel", "seek", "(I)Z"⟩
abbrev y_Model_move : MethodName := ⟨"BranchStoreModel", "move", "(Z)Z"⟩
abbrev y_Model_there : MethodName := ⟨"BranchStoreModel", "there", "()Z"⟩
abbrev y_Model_length : MethodName := ⟨"BranchStoreModel", "length", "()I"⟩
abbrev y_Model_part : MethodName := ⟨"BranchStoreModel", "part", "(I)J"⟩
abbrev y_Model_value : MethodName := ⟨"BranchStoreModel", "value", "()J"⟩
abbrev y_Model_rank : MethodName := ⟨"BranchStoreModel", "rank", "()I"⟩
abbrev y_Model_select : MethodName := ⟨"BranchStoreModel", "select", "(I)V"⟩
abbrev y_Model_range : MethodName := ⟨"BranchStoreModel", "range", "()I"⟩
abbrev y_Model_cut : MethodName := ⟨"BranchStoreModel", "cut", "()I"⟩
abbrev y_Model_isLonger : MethodName := ⟨"BranchStoreModel", "isLonger", "(I)Z"⟩
abbrev y_Model_begins : MethodName := ⟨"BranchStoreModel", "begins", "()I"⟩
abbrev y_Model_load : MethodName := ⟨"BranchStoreModel", "load", "(JIJ)V"⟩
abbrev y_Model_steps : MethodName := ⟨"BranchStoreModel", "steps", "(JJ)J"⟩
abbrev y_Model_clear : MethodName := ⟨"BranchStoreModel", "clear", "()I"⟩
abbrev y_Model_encode : MethodName := ⟨"BranchStoreModel", "encode", "([II)I"⟩
abbrev y_Model_look : MethodName := ⟨"BranchStoreModel", "look", "()V"⟩
abbrev y_Model_isFirst : MethodName := ⟨"BranchStoreModel", "isFirst", "(I)Z"⟩
abbrev y_Model_children : MethodName := ⟨"BranchStoreModel", "children", "(I)I"⟩
abbrev y_Model_sizeOf : MethodName := ⟨"BranchStoreModel", "sizeOf", "(I)I"⟩
abbrev y_Model_depth : MethodName := ⟨"BranchStoreModel", "depth", "(I)I"⟩
abbrev y_Model_compact : MethodName := ⟨"BranchStoreModel", "compact", "()I"⟩
abbrev y_Model_branches : MethodName := ⟨"BranchStoreModel", "branches", "(I)I"⟩
abbrev y_Model_deepest : MethodName := ⟨"BranchStoreModel", "deepest", "()I"⟩
abbrev y_Model_about : MethodName := ⟨"BranchStoreModel", "about", "(I)I"⟩
abbrev y_All_init : MethodName := ⟨"BranchStore$All", "<init>", "()V"⟩
abbrev y_All_place : MethodName := ⟨"BranchStore$All", "place", "([III)I"⟩
abbrev y_All_add : MethodName := ⟨"BranchStore$All", "add", "([IIII)V"⟩
abbrev y_All_drop : MethodName := ⟨"BranchStore$All", "drop", "([III)V"⟩
abbrev y_All_from : MethodName := ⟨"BranchStore$All", "from", "([III)I"⟩
abbrev y_Few_init : MethodName := ⟨"BranchStore$Few", "<init>", "(II)V"⟩
abbrev y_Few_byteAt : MethodName := ⟨"BranchStore$Few", "byteAt", "([III)I"⟩
abbrev y_Few_setByte : MethodName := ⟨"BranchStore$Few", "setByte", "([IIII)V"⟩
abbrev y_Few_index : MethodName := ⟨"BranchStore$Few", "index", "([III)I"⟩
abbrev y_Few_place : MethodName := ⟨"BranchStore$Few", "place", "([III)I"⟩
abbrev y_Few_add : MethodName := ⟨"BranchStore$Few", "add", "([IIII)V"⟩
abbrev y_Few_drop : MethodName := ⟨"BranchStore$Few", "drop", "([III)V"⟩
abbrev y_Few_from : MethodName := ⟨"BranchStore$Few", "from", "([III)I"⟩
abbrev y_Key_init : MethodName := ⟨"BranchStore$Key", "<init>", "(I)V"⟩
abbrev y_Key_begin : MethodName := ⟨"BranchStore$Key", "begin", "()V"⟩
abbrev y_Key_first : MethodName := ⟨"BranchStore$Key", "first", "(I)V"⟩
abbrev y_Key_put : MethodName := ⟨"BranchStore$Key", "put", "(I)V"⟩
abbrev y_Key_number : MethodName := ⟨"BranchStore$Key", "number", "(J)V"⟩
abbrev y_Key_end : MethodName := ⟨"BranchStore$Key", "end", "()V"⟩
abbrev y_Key_letter : MethodName := ⟨"BranchStore$Key", "letter", "(I)V"⟩
abbrev y_Key_become : MethodName := ⟨"BranchStore$Key", "become", "(LBranchStore$Key;)V"⟩
abbrev y_Key_at : MethodName := ⟨"BranchStore$Key", "at", "(I)I"⟩
abbrev y_Key_part : MethodName := ⟨"BranchStore$Key", "part", "(I)J"⟩
abbrev y_Key_byteOf : MethodName := ⟨"BranchStore$Key", "byteOf", "(I)I"⟩
abbrev y_Key_counted : MethodName := ⟨"BranchStore$Key", "counted", "(Z)V"⟩
abbrev y_Shape_init : MethodName := ⟨"BranchStore$Shape", "<init>", "(III)V"⟩
abbrev y_Some_init : MethodName := ⟨"BranchStore$Some", "<init>", "()V"⟩
abbrev y_Some_numberAt : MethodName := ⟨"BranchStore$Some", "numberAt", "([III)I"⟩
abbrev y_Some_setNumber : MethodName := ⟨"BranchStore$Some", "setNumber", "([IIII)V"⟩
abbrev y_Some_place : MethodName := ⟨"BranchStore$Some", "place", "([III)I"⟩
abbrev y_Some_add : MethodName := ⟨"BranchStore$Some", "add", "([IIII)V"⟩
abbrev y_Some_drop : MethodName := ⟨"BranchStore$Some", "drop", "([III)V"⟩
abbrev y_Some_from : MethodName := ⟨"BranchStore$Some", "from", "([III)I"⟩
abbrev y_Tree_init : MethodName := ⟨"BranchStore$Tree", "<init>", "()V"⟩
abbrev y_Tree_room : MethodName := ⟨"BranchStore$Tree", "room", "(I)I"⟩
abbrev y_Tree_release : MethodName := ⟨"BranchStore$Tree", "release", "(II)V"⟩
abbrev y_Tree_clear : MethodName := ⟨"BranchStore$Tree", "clear", "()V"⟩
abbrev y_Tree_shape : MethodName := ⟨"BranchStore$Tree", "shape", "(I)LBranchStore$Shape;"⟩
abbrev y_Tree_shapeOf : MethodName := ⟨"BranchStore$Tree", "shapeOf", "(I)LBranchStore$Shape;"⟩
abbrev y_Tree_branch : MethodName := ⟨"BranchStore$Tree", "branch", "(II)I"⟩
abbrev y_Tree_leafCells : MethodName := ⟨"BranchStore$Tree", "leafCells", "(I)I"⟩
abbrev y_Tree_leaf : MethodName := ⟨"BranchStore$Tree", "leaf", "(LBranchStore$Key;JZ)I"⟩
abbrev y_Tree_setValue : MethodName := ⟨"BranchStore$Tree", "setValue", "(IJ)V"⟩
abbrev y_Tree_value : MethodName := ⟨"BranchStore$Tree", "value", "(I)J"⟩
abbrev y_Tree_byteOf : MethodName := ⟨"BranchStore$Tree", "byteOf", "(II)I"⟩
abbrev y_Tree_tell : MethodName := ⟨"BranchStore$Tree", "tell", "(ILBranchStore$Key;)V"⟩
abbrev y_Tree_keys : MethodName := ⟨"BranchStore$Tree", "keys", "()I"⟩
abbrev y_Tree_below : MethodName := ⟨"BranchStore$Tree", "below", "(I)I"⟩
abbrev y_Tree_child : MethodName := ⟨"BranchStore$Tree", "child", "(II)I"⟩
abbrev y_Tree_least : MethodName := ⟨"BranchStore$Tree", "least", "(I)I"⟩
abbrev y_Tree_nearest : MethodName := ⟨"BranchStore$Tree", "nearest", "(LBranchStore$Key;)I"⟩
abbrev y_Tree_differs : MethodName := ⟨"BranchStore$Tree", "differs", "(LBranchStore$Key;I)I"⟩
abbrev y_Tree_find : MethodName := ⟨"BranchStore$Tree", "find", "(LBranchStore$Key;)I"⟩
abbrev y_Tree_before : MethodName := ⟨"BranchStore$Tree", "before", "(II)I"⟩
abbrev y_Tree_rank : MethodName := ⟨"BranchStore$Tree", "rank", "(LBranchStore$Key;)I"⟩
abbrev y_Tree_select : MethodName := ⟨"BranchStore$Tree", "select", "(I)I"⟩
abbrev y_Tree_begins : MethodName := ⟨"BranchStore$Tree", "begins", "(LBranchStore$Key;I)I"⟩
abbrev y_Tree_relink : MethodName := ⟨"BranchStore$Tree", "relink", "(III)V"⟩
abbrev y_Tree_add : MethodName := ⟨"BranchStore$Tree", "add", "(LBranchStore$Key;J)V"⟩
abbrev y_Tree_resized : MethodName := ⟨"BranchStore$Tree", "resized", "(II)I"⟩
abbrev y_Tree_remove : MethodName := ⟨"BranchStore$Tree", "remove", "(LBranchStore$Key;)V"⟩
abbrev y_Tree_number : MethodName := ⟨"BranchStore$Tree", "number", "(LBranchStore$Key;I)V"⟩
abbrev y_Tree_build : MethodName := ⟨"BranchStore$Tree", "build", "(JJIJ)V"⟩
abbrev y_Tree_built : MethodName := ⟨"BranchStore$Tree", "built", "(II)I"⟩
abbrev y_Tree_behind : MethodName := ⟨"BranchStore$Tree", "behind", "(III)I"⟩
abbrev y_Tree_compact : MethodName := ⟨"BranchStore$Tree", "compact", "()I"⟩
abbrev y_Tree_shifted : MethodName := ⟨"BranchStore$Tree", "shifted", "(I[I)I"⟩
abbrev y_Tree_deep : MethodName := ⟨"BranchStore$Tree", "deep", "(LBranchStore$Key;)I"⟩
abbrev y_Tree_deepest : MethodName := ⟨"BranchStore$Tree", "deepest", "()I"⟩
abbrev y_Tree_deepestOf : MethodName := ⟨"BranchStore$Tree", "deepestOf", "(I)I"⟩
abbrev y_Tree_first : MethodName := ⟨"BranchStore$Tree", "first", "()I"⟩
abbrev y_Law_cell : MethodName := ⟨"BranchStoreLaw", "cell", "([II)I"⟩
abbrev y_Law_number : MethodName := ⟨"BranchStoreLaw", "number", "(LBranchStore;J)I"⟩
abbrev y_Law_pair : MethodName := ⟨"BranchStoreLaw", "pair", "(LBranchStore;JJ)I"⟩
abbrev y_Law_letter : MethodName := ⟨"BranchStoreLaw", "letter", "(LBranchStore;I[J)I"⟩
abbrev y_Law_take : MethodName := ⟨"BranchStoreLaw", "take", "(LBranchStore;)I"⟩
abbrev y_Law_put : MethodName := ⟨"BranchStoreLaw", "put", "(LBranchStore;J[J)I"⟩
abbrev y_Law_get : MethodName := ⟨"BranchStoreLaw", "get", "(LBranchStore;[J)I"⟩
abbrev y_Law_remove : MethodName := ⟨"BranchStoreLaw", "remove", "(LBranchStore;[J)I"⟩
abbrev y_Law_seek : MethodName := ⟨"BranchStoreLaw", "seek", "(LBranchStore;I[J)I"⟩
abbrev y_Law_move : MethodName := ⟨"BranchStoreLaw", "move", "(LBranchStore;Z[J)I"⟩
abbrev y_Law_length : MethodName := ⟨"BranchStoreLaw", "length", "(LBranchStore;[J)I"⟩
abbrev y_Law_part : MethodName := ⟨"BranchStoreLaw", "part", "(LBranchStore;I[J)I"⟩
abbrev y_Law_value : MethodName := ⟨"BranchStoreLaw", "value", "(LBranchStore;[J)I"⟩
abbrev y_Law_select : MethodName := ⟨"BranchStoreLaw", "select", "(LBranchStore;I)I"⟩
abbrev y_Law_begins : MethodName := ⟨"BranchStoreLaw", "begins", "(LBranchStore;[J)I"⟩
abbrev y_Law_load : MethodName := ⟨"BranchStoreLaw", "load", "(LBranchStore;JIJ)I"⟩
abbrev y_Law_about : MethodName := ⟨"BranchStoreLaw", "about", "(LBranchStore;I[J)I"⟩
abbrev y_Object_init : MethodName := ⟨"java/lang/Object", "<init>", "()V"⟩
abbrev y_Exception_init : MethodName := ⟨"java/lang/Exception", "<init>", "()V"⟩
abbrev y_IllegalArgumentException_init : MethodName := ⟨"java/lang/IllegalArgumentException", "<init>", "()V"⟩
abbrev y_IllegalStateException_init : MethodName := ⟨"java/lang/IllegalStateException", "<init>", "()V"⟩
abbrev y_IndexOutOfBoundsException_init : MethodName := ⟨"java/lang/IndexOutOfBoundsException", "<init>", "()V"⟩
abbrev y_Long_compare : MethodName := ⟨"java/lang/Long", "compare", "(JJ)I"⟩
abbrev y_Long_compareUnsigned : MethodName := ⟨"java/lang/Long", "compareUnsigned", "(JJ)I"⟩
abbrev y_Long_divideUnsigned : MethodName := ⟨"java/lang/Long", "divideUnsigned", "(JJ)J"⟩
abbrev y_Math_max : MethodName := ⟨"java/lang/Math", "max", "(II)I"⟩
abbrev y_Math_min : MethodName := ⟨"java/lang/Math", "min", "(II)I"⟩
abbrev y_RuntimeException_init : MethodName := ⟨"java/lang/RuntimeException", "<init>", "()V"⟩
abbrev y_Throwable_init : MethodName := ⟨"java/lang/Throwable", "<init>", "()V"⟩
abbrev y_Throwable_fillInStackTrace : MethodName := ⟨"java/lang/Throwable", "fillInStackTrace", "()Ljava/lang/Throwable;"⟩
abbrev y_UnsupportedOperationException_init : MethodName := ⟨"java/lang/UnsupportedOperationException", "<init>", "()V"⟩
abbrev y_Arrays_copyOf : MethodName := ⟨"java/util/Arrays", "copyOf", "([II)[I"⟩
abbrev y_NoSuchElementException_init : MethodName := ⟨"java/util/NoSuchElementException", "<init>", "()V"⟩
